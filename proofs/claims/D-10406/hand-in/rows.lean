section
/-! sums of ints, rank by factorisation modulo p, one step of elimination -/
def la_sm : Nat → (Nat → Int) → Int
  | 0, _ => 0
  | n + 1, f => la_sm n f + f n
theorem la_sm_c {n : Nat} {f g : Nat → Int} (h : ∀ q, q < n → f q = g q) : la_sm n f = la_sm n g := by
  induction n with
  | zero => rfl
  | succ n ih =>
    show la_sm n f + f n = la_sm n g + g n
    rw [ih (fun q hq => h q (by omega)), h n (by omega)]
theorem la_sm_add (n : Nat) (f g : Nat → Int) : la_sm n (fun q => f q + g q) = la_sm n f + la_sm n g := by
  induction n with
  | zero => rfl
  | succ n ih =>
    show la_sm n (fun q => f q + g q) + (f n + g n) = (la_sm n f + f n) + (la_sm n g + g n)
    rw [ih]; omega
theorem la_sm_mul (n : Nat) (k : Int) (f : Nat → Int) : la_sm n (fun q => k * f q) = k * la_sm n f := by
  induction n with
  | zero => show (0 : Int) = k * 0; rw [Int.mul_zero]
  | succ n ih =>
    show la_sm n (fun q => k * f q) + k * f n = k * (la_sm n f + f n)
    rw [ih, Int.mul_add]
theorem la_sm_0 {n : Nat} {f : Nat → Int} (h : ∀ q, q < n → f q = 0) : la_sm n f = 0 := by
  induction n with
  | zero => rfl
  | succ n ih =>
    show la_sm n f + f n = 0
    rw [ih (fun q hq => h q (by omega)), h n (by omega)]; rfl
theorem la_sm_dvd {p : Int} {n : Nat} {f : Nat → Int} (h : ∀ q, q < n → p ∣ f q) : p ∣ la_sm n f := by
  induction n with
  | zero => exact Int.dvd_zero p
  | succ n ih => exact Int.dvd_add (ih (fun q hq => h q (by omega))) (h n (by omega))
theorem la_sm_le {n : Nat} {f : Nat → Int} {b : Int} (h : ∀ q, q < n → -b ≤ f q ∧ f q ≤ b) : -(n * b) ≤ la_sm n f ∧ la_sm n f ≤ n * b := by
  induction n with
  | zero => constructor <;> simp [la_sm]
  | succ n ih =>
    have h1 := ih (fun q hq => h q (by omega))
    have h2 := h n (by omega)
    have e : ((n + 1 : Nat) : Int) * b = n * b + b := by rw [Int.natCast_add, Int.add_mul]; simp
    show -(((n + 1 : Nat) : Int) * b) ≤ la_sm n f + f n ∧ la_sm n f + f n ≤ ((n + 1 : Nat) : Int) * b
    rw [e]
    omega
def la_sk (t q : Nat) : Nat := if q < t then q else q + 1
theorem la_sm_sk (f : Nat → Int) (t : Nat) : ∀ r, t ≤ r → la_sm (r + 1) f = f t + la_sm r (fun q => f (la_sk t q)) := by
  intro r
  induction r with
  | zero =>
    intro h
    have e : t = 0 := by omega
    subst e
    show (0 : Int) + f 0 = f 0 + 0
    omega
  | succ r ih =>
    intro h
    by_cases e : t = r + 1
    · subst e
      show la_sm (r + 1) f + f (r + 1) = f (r + 1) + la_sm (r + 1) (fun q => f (la_sk (r + 1) q))
      rw [la_sm_c (f := fun q => f (la_sk (r + 1) q)) (g := f) (fun q hq => by simp [la_sk, hq])]
      omega
    · show la_sm (r + 1) f + f (r + 1) = f t + (la_sm r (fun q => f (la_sk t q)) + f (la_sk t r))
      rw [ih (by omega), show la_sk t r = r + 1 by simp [la_sk]; omega]
      omega
/-- the matrix M (m rows, n columns) is, modulo p, a product through r dimensions -/
def la_fac (p : Int) (m n : Nat) (M : Nat → Nat → Int) (r : Nat) : Prop :=
  ∃ B C : Nat → Nat → Int, ∀ i, i < m → ∀ j, j < n → p ∣ M i j - la_sm r (fun q => B i q * C q j)
def la_pr (p : Int) : Prop := ∀ c : Int, ¬ p ∣ c → ∃ c' : Int, p ∣ c * c' - 1
theorem la_up1 {p c c' a b M M' s x y z : Int} (h1 : M' - s = p * x) (h2 : c * M' - (c * M - a * b) = p * y) (h3 : c * c' - 1 = p * z) :
    M - (s + c' * a * b) = p * (x + z * (M' - M) - c' * y) := by grind
theorem la_up {p : Int} {m n r i0 j0 : Nat} {M M' : Nat → Nat → Int} {c' : Int} (hc : p ∣ M i0 j0 * c' - 1)
    (H : ∀ i, i < m → ∀ j, j < n → p ∣ M i0 j0 * M' i j - (M i0 j0 * M i j - M i j0 * M i0 j)) (hf : la_fac p m n M' r) : la_fac p m n M (r + 1) := by
  obtain ⟨B, C, h⟩ := hf
  refine ⟨fun i q => if q < r then B i q else c' * M i j0, fun q j => if q < r then C q j else M i0 j, fun i hi j hj => ?_⟩
  have e : la_sm (r + 1) (fun q => (if q < r then B i q else c' * M i j0) * (if q < r then C q j else M i0 j)) = la_sm r (fun q => B i q * C q j) + c' * M i j0 * M i0 j := by
    show la_sm r (fun q => (if q < r then B i q else c' * M i j0) * (if q < r then C q j else M i0 j)) + (if r < r then B i r else c' * M i j0) * (if r < r then C r j else M i0 j) = _
    rw [la_sm_c (g := fun q => B i q * C q j) (fun q hq => by simp [hq])]
    simp
  show p ∣ M i j - la_sm (r + 1) (fun q => (if q < r then B i q else c' * M i j0) * (if q < r then C q j else M i0 j))
  rw [e]
  obtain ⟨x, hx⟩ := h i hi j hj
  obtain ⟨y, hy⟩ := H i hi j hj
  obtain ⟨z, hz⟩ := hc
  exact ⟨_, la_up1 hx hy hz⟩
theorem la_dn1 {p c c' b' bt b0 Nt A1 A0 M' x1 x2 x3 x4 : Int} (h1 : c * M' - (bt * Nt + A1) = p * x1) (h2 : b0 * Nt + A0 = p * x2) (h3 : b0 * b' - 1 = p * x3) (h4 : c * c' - 1 = p * x4) :
    M' - c' * (A1 + -(bt * b') * A0) = p * (c' * x1 - x4 * M' + c' * bt * (b' * x2 - x3 * Nt)) := by grind
theorem la_dn2 {p c M M' a b : Int} {s1 s2 x y z : Int} (h1 : c * M' - (c * M - a * b) = p * x) (h2 : M - s1 = p * y) (h3 : a - s2 = p * z) :
    c * M' - (c * s1 + -b * s2) = p * (x + c * y - b * z) := by grind
theorem la_dn3 {p c b s1 s2 y z : Int} (h2 : b - s1 = p * y) (h3 : c - s2 = p * z) : c * s1 + -b * s2 = p * (b * z - c * y) := by grind
theorem la_down {p : Int} {m n r i0 j0 : Nat} {M M' : Nat → Nat → Int} (hp : la_pr p) (hi0 : i0 < m) (hj0 : j0 < n) (hc : ¬ p ∣ M i0 j0)
    (H : ∀ i, i < m → ∀ j, j < n → p ∣ M i0 j0 * M' i j - (M i0 j0 * M i j - M i j0 * M i0 j)) (hf : la_fac p m n M (r + 1)) : la_fac p m n M' r := by
  obtain ⟨B, C, h⟩ := hf
  have ht : ∃ t, t < r + 1 ∧ ¬ p ∣ B i0 t := by
    apply Classical.byContradiction
    intro hn
    apply hc
    have h1 : p ∣ la_sm (r + 1) (fun q => B i0 q * C q j0) := la_sm_dvd (fun q hq => Int.dvd_mul_of_dvd_left (Classical.byContradiction (fun hh => hn ⟨q, hq, hh⟩)))
    have h3 := Int.dvd_add (h i0 hi0 j0 hj0) h1
    rw [Int.sub_add_cancel] at h3
    exact h3
  obtain ⟨t, ht, hbt⟩ := ht
  obtain ⟨b', hb'⟩ := hp _ hbt
  obtain ⟨c', hc'⟩ := hp _ hc
  refine ⟨fun i q => B i (la_sk t q) + -(B i t * b') * B i0 (la_sk t q), fun q j => c' * (M i0 j0 * C (la_sk t q) j + -(M i0 j) * C (la_sk t q) j0), fun i hi j hj => ?_⟩
  have lin : ∀ b : Nat → Int, la_sm (r + 1) (fun q => b q * (M i0 j0 * C q j + -(M i0 j) * C q j0)) = M i0 j0 * la_sm (r + 1) (fun q => b q * C q j) + -(M i0 j) * la_sm (r + 1) (fun q => b q * C q j0) := by
    intro b
    rw [← la_sm_mul, ← la_sm_mul, ← la_sm_add]
    exact la_sm_c (fun q _ => by grind)
  have e : la_sm r (fun q => (B i (la_sk t q) + -(B i t * b') * B i0 (la_sk t q)) * (c' * (M i0 j0 * C (la_sk t q) j + -(M i0 j) * C (la_sk t q) j0)))
      = c' * (la_sm r (fun q => B i (la_sk t q) * (M i0 j0 * C (la_sk t q) j + -(M i0 j) * C (la_sk t q) j0)) + -(B i t * b') * la_sm r (fun q => B i0 (la_sk t q) * (M i0 j0 * C (la_sk t q) j + -(M i0 j) * C (la_sk t q) j0))) := by
    rw [← la_sm_mul, ← la_sm_add, ← la_sm_mul]
    exact la_sm_c (fun q _ => by grind)
  show p ∣ M' i j - la_sm r (fun q => (B i (la_sk t q) + -(B i t * b') * B i0 (la_sk t q)) * (c' * (M i0 j0 * C (la_sk t q) j + -(M i0 j) * C (la_sk t q) j0)))
  rw [e]
  have k1 := lin (B i)
  have k0 := lin (B i0)
  rw [la_sm_sk (fun q => B i q * (M i0 j0 * C q j + -(M i0 j) * C q j0)) t r (by omega)] at k1
  rw [la_sm_sk (fun q => B i0 q * (M i0 j0 * C q j + -(M i0 j) * C q j0)) t r (by omega)] at k0
  obtain ⟨x, hx⟩ := H i hi j hj
  obtain ⟨y, hy⟩ := h i hi j hj
  obtain ⟨z, hz⟩ := h i hi j0 hj0
  obtain ⟨y0, hy0⟩ := h i0 hi0 j hj
  obtain ⟨z0, hz0⟩ := h i0 hi0 j0 hj0
  obtain ⟨x3, h3⟩ := hb'
  obtain ⟨x4, h4⟩ := hc'
  have g1 := la_dn2 hx hy hz
  rw [← k1] at g1
  have g2 : M i0 j0 * la_sm (r + 1) (fun q => B i0 q * C q j) + -(M i0 j) * la_sm (r + 1) (fun q => B i0 q * C q j0) = p * (M i0 j * z0 - M i0 j0 * y0) := la_dn3 hy0 hz0
  rw [← k0] at g2
  exact ⟨_, la_dn1 g1 g2 h3 h4⟩
/-- M (m rows, n columns) has rank r modulo p -/
def la_rk (p : Int) (m n : Nat) (M : Nat → Nat → Int) (r : Nat) : Prop := la_fac p m n M r ∧ ∀ r', la_fac p m n M r' → r ≤ r'
theorem la_rk_u {p : Int} {m n r r' : Nat} {M : Nat → Nat → Int} (h : la_rk p m n M r) (h' : la_rk p m n M r') : r = r' :=
  Nat.le_antisymm (h.2 _ h'.1) (h'.2 _ h.1)
theorem la_rk_0 {p : Int} {m n : Nat} {M : Nat → Nat → Int} (h : ∀ i, i < m → ∀ j, j < n → p ∣ M i j) : la_rk p m n M 0 :=
  ⟨⟨fun _ _ => 0, fun _ _ => 0, fun i hi j hj => by show p ∣ M i j - 0; rw [Int.sub_zero]; exact h i hi j hj⟩, fun _ _ => Nat.zero_le _⟩
theorem la_rk_step {p : Int} {m n r i0 j0 : Nat} {M M' : Nat → Nat → Int} (hp : la_pr p) (hi0 : i0 < m) (hj0 : j0 < n) (hc : ¬ p ∣ M i0 j0)
    (H : ∀ i, i < m → ∀ j, j < n → p ∣ M i0 j0 * M' i j - (M i0 j0 * M i j - M i j0 * M i0 j)) (h : la_rk p m n M' r) : la_rk p m n M (r + 1) := by
  obtain ⟨c', hc'⟩ := hp _ hc
  refine ⟨la_up hc' H h.1, fun r' hr' => ?_⟩
  cases r' with
  | zero =>
    obtain ⟨B, C, hb⟩ := hr'
    have := hb i0 hi0 j0 hj0
    have e : M i0 j0 - la_sm 0 (fun q => B i0 q * C q j0) = M i0 j0 := by show M i0 j0 - 0 = _; omega
    rw [e] at this
    exact absurd this hc
  | succ s => exact Nat.succ_le_succ (h.2 s (la_down hp hi0 hj0 hc H hr'))
theorem la_rk_c {p : Int} {m n m' n' r : Nat} {M N : Nat → Nat → Int} (h1 : ∀ s, la_fac p m n M s → la_fac p m' n' N s) (h2 : ∀ s, la_fac p m' n' N s → la_fac p m n M s) (h : la_rk p m n M r) : la_rk p m' n' N r :=
  ⟨h1 r h.1, fun s hs => h.2 s (h2 s hs)⟩
theorem la_fac_map {p : Int} {m n m' n' r : Nat} {M M' : Nat → Nat → Int} (σ τ : Nat → Nat) (zi zj : Nat → Bool)
    (h0 : ∀ i, i < m' → zi i = true → ∀ j, j < n' → p ∣ M' i j) (h0' : ∀ j, j < n' → zj j = true → ∀ i, i < m' → p ∣ M' i j)
    (h1 : ∀ i, i < m' → zi i = false → ∀ j, j < n' → zj j = false → σ i < m ∧ τ j < n ∧ p ∣ M' i j - M (σ i) (τ j)) (hf : la_fac p m n M r) : la_fac p m' n' M' r := by
  obtain ⟨B, C, h⟩ := hf
  refine ⟨fun i q => if zi i = true then 0 else B (σ i) q, fun q j => if zj j = true then 0 else C q (τ j), fun i hi j hj => ?_⟩
  cases ei : zi i with
  | true =>
    have e : la_sm r (fun q => (if true = true then 0 else B (σ i) q) * (if zj j = true then 0 else C q (τ j))) = 0 := la_sm_0 (fun q _ => by simp)
    show p ∣ M' i j - la_sm r (fun q => (if zi i = true then 0 else B (σ i) q) * (if zj j = true then 0 else C q (τ j)))
    rw [ei, e, Int.sub_zero]
    exact h0 i hi ei j hj
  | false =>
    cases ej : zj j with
    | true =>
      have e : la_sm r (fun q => (if zi i = true then 0 else B (σ i) q) * (if true = true then 0 else C q (τ j))) = 0 := la_sm_0 (fun q _ => by simp)
      show p ∣ M' i j - la_sm r (fun q => (if zi i = true then 0 else B (σ i) q) * (if zj j = true then 0 else C q (τ j)))
      rw [ej, e, Int.sub_zero]
      exact h0' j hj ej i hi
    | false =>
      have e : la_sm r (fun q => (if zi i = true then 0 else B (σ i) q) * (if zj j = true then 0 else C q (τ j))) = la_sm r (fun q => B (σ i) q * C q (τ j)) := la_sm_c (fun q _ => by simp [ei, ej])
      show p ∣ M' i j - la_sm r (fun q => (if zi i = true then 0 else B (σ i) q) * (if zj j = true then 0 else C q (τ j)))
      rw [e]
      obtain ⟨a, b, d⟩ := h1 i hi ei j hj ej
      have t := Int.dvd_add d (h _ a _ b)
      have e2 : M' i j - M (σ i) (τ j) + (M (σ i) (τ j) - la_sm r (fun q => B (σ i) q * C q (τ j))) = M' i j - la_sm r (fun q => B (σ i) q * C q (τ j)) := by omega
      rw [e2] at t
      exact t
end
section
/-! determinants by the wedge recursion -/
def dt_ex (f : Nat → Int) : List Nat → (List Nat → Int) → Int
  | [], _ => 0
  | c :: cs, g => f c * g cs - dt_ex f cs (fun t => g (c :: t))
def dt_D (S : Nat → Nat → Int) : List Nat → (List Nat → Int)
  | [] => fun cs => if cs = [] then 1 else 0
  | r :: rs => fun cs => dt_ex (S r) cs (dt_D S rs)
theorem dt_ex_f (f f' : Nat → Int) (k : Int) (cs : List Nat) : ∀ g, dt_ex (fun c => f c + k * f' c) cs g = dt_ex f cs g + k * dt_ex f' cs g := by
  induction cs with
  | nil => intro g; show (0 : Int) = 0 + k * 0; simp
  | cons c cs ih =>
    intro g
    show (f c + k * f' c) * g cs - dt_ex (fun c => f c + k * f' c) cs (fun t => g (c :: t)) = (f c * g cs - dt_ex f cs (fun t => g (c :: t))) + k * (f' c * g cs - dt_ex f' cs (fun t => g (c :: t)))
    rw [ih]
    grind
theorem dt_ex_g (f : Nat → Int) (k : Int) (cs : List Nat) : ∀ g h : List Nat → Int, dt_ex f cs (fun t => g t + k * h t) = dt_ex f cs g + k * dt_ex f cs h := by
  induction cs with
  | nil => intro g h; show (0 : Int) = 0 + k * 0; simp
  | cons c cs ih =>
    intro g h
    show f c * (g cs + k * h cs) - dt_ex f cs (fun t => g (c :: t) + k * h (c :: t)) = (f c * g cs - dt_ex f cs (fun t => g (c :: t))) + k * (f c * h cs - dt_ex f cs (fun t => h (c :: t)))
    rw [ih (fun t => g (c :: t)) (fun t => h (c :: t))]
    grind
theorem dt_ex_0 (f : Nat → Int) (cs : List Nat) : ∀ g : List Nat → Int, (∀ t, (∀ x, x ∈ t → x ∈ cs) → g t = 0) → dt_ex f cs g = 0 := by
  induction cs with
  | nil => intro g h; rfl
  | cons c cs ih =>
    intro g h
    show f c * g cs - dt_ex f cs (fun t => g (c :: t)) = 0
    rw [h cs (fun x hx => List.mem_cons_of_mem c hx), ih (fun t => g (c :: t)) (fun t ht => h (c :: t) (fun x hx => by
      rcases List.mem_cons.mp hx with e | e
      · rw [e]; exact List.mem_cons_self
      · exact List.mem_cons_of_mem c (ht x e)))]
    simp
theorem dt_ex_0f (f : Nat → Int) (cs : List Nat) (h : ∀ c, c ∈ cs → f c = 0) : ∀ g : List Nat → Int, dt_ex f cs g = 0 := by
  induction cs with
  | nil => intro g; rfl
  | cons c cs ih =>
    intro g
    show f c * g cs - dt_ex f cs (fun t => g (c :: t)) = 0
    rw [h c List.mem_cons_self, ih (fun x hx => h x (List.mem_cons_of_mem c hx))]
    simp
theorem dt_ex_c (f f' : Nat → Int) (cs : List Nat) : ∀ g g' : List Nat → Int, (∀ c, c ∈ cs → f c = f' c) → (∀ t, (∀ x, x ∈ t → x ∈ cs) → g t = g' t) → dt_ex f cs g = dt_ex f' cs g' := by
  induction cs with
  | nil => intro g g' _ _; rfl
  | cons c cs ih =>
    intro g g' hf hg
    show f c * g cs - dt_ex f cs (fun t => g (c :: t)) = f' c * g' cs - dt_ex f' cs (fun t => g' (c :: t))
    rw [hf c List.mem_cons_self, hg cs (fun x hx => List.mem_cons_of_mem c hx), ih (fun t => g (c :: t)) (fun t => g' (c :: t)) (fun x hx => hf x (List.mem_cons_of_mem c hx)) (fun t ht => hg (c :: t) (fun x hx => by
      rcases List.mem_cons.mp hx with e | e
      · rw [e]; exact List.mem_cons_self
      · exact List.mem_cons_of_mem c (ht x e)))]
theorem dt_anti (f h : Nat → Int) (cs : List Nat) : ∀ g : List Nat → Int, dt_ex f cs (fun t => dt_ex h t g) = - dt_ex h cs (fun t => dt_ex f t g) := by
  induction cs with
  | nil => intro g; rfl
  | cons c cs ih =>
    intro g
    have e : ∀ a b : Nat → Int, dt_ex a (c :: cs) (fun t => dt_ex b t g) = a c * dt_ex b cs g - (b c * dt_ex a cs g - dt_ex a cs (fun t => dt_ex b t (fun s => g (c :: s)))) := by
      intro a b
      show a c * dt_ex b cs g - dt_ex a cs (fun t => b c * g t - dt_ex b t (fun s => g (c :: s))) = _
      have k : dt_ex a cs (fun t => b c * g t - dt_ex b t (fun s => g (c :: s))) = b c * dt_ex a cs g - dt_ex a cs (fun t => dt_ex b t (fun s => g (c :: s))) := by
        have k1 := dt_ex_g a (-1) cs (fun t => b c * g t) (fun t => dt_ex b t (fun s => g (c :: s)))
        have k2 := dt_ex_g a (b c) cs (fun _ => 0) g
        rw [dt_ex_0 a cs (fun _ => 0) (fun _ _ => rfl)] at k2
        have e1 : (fun t => b c * g t - dt_ex b t (fun s => g (c :: s))) = (fun t => b c * g t + (-1) * dt_ex b t (fun s => g (c :: s))) := by funext t; omega
        have e2 : (fun t : List Nat => (0 : Int) + b c * g t) = (fun t => b c * g t) := by funext t; omega
        rw [e2] at k2
        rw [e1, k1, k2]
        omega
      rw [k]
    rw [e f h, e h f, ih (fun s => g (c :: s))]
    omega
theorem dt_self (f : Nat → Int) (cs : List Nat) (g : List Nat → Int) : dt_ex f cs (fun t => dt_ex f t g) = 0 := by
  have := dt_anti f f cs g
  omega
theorem dt_rowop {S S' : Nat → Nat → Int} {f : Nat → Int} {k : Nat → Int} (h : ∀ l c, S' l c = S l c + k l * f c) (rs : List Nat) : ∀ cs, dt_ex f cs (dt_D S' rs) = dt_ex f cs (dt_D S rs) := by
  induction rs with
  | nil => intro cs; rfl
  | cons l rs ih =>
    intro cs
    show dt_ex f cs (fun t => dt_ex (S' l) t (dt_D S' rs)) = dt_ex f cs (fun t => dt_ex (S l) t (dt_D S rs))
    have e1 : (fun t => dt_ex (S' l) t (dt_D S' rs)) = (fun t => dt_ex (S l) t (dt_D S' rs) + k l * dt_ex f t (dt_D S' rs)) := by
      funext t
      rw [← dt_ex_f, show S' l = (fun c => S l c + k l * f c) from funext (h l)]
    rw [e1, dt_ex_g, dt_self, dt_anti, show (fun t => dt_ex f t (dt_D S' rs)) = (fun t => dt_ex f t (dt_D S rs)) from funext ih, dt_anti f (S l)]
    omega
theorem dt_zcol {S : Nat → Nat → Int} {j : Nat} (rs : List Nat) (h : ∀ l, l ∈ rs → S l j = 0) : ∀ t, dt_D S rs (j :: t) = 0 := by
  induction rs with
  | nil => intro t; show (if j :: t = [] then (1 : Int) else 0) = 0; simp
  | cons r rs ih =>
    intro t
    show S r j * dt_D S rs t - dt_ex (S r) t (fun s => dt_D S rs (j :: s)) = 0
    rw [h r List.mem_cons_self, dt_ex_0 (S r) t (fun s => dt_D S rs (j :: s)) (fun s _ => ih (fun l hl => h l (List.mem_cons_of_mem r hl)) s)]
    simp
theorem dt_schur {S S' : Nat → Nat → Int} {i j : Nat} {e : Int} (he : e * S i j = 1) (h : ∀ l c, S' l c = S l c - e * S l j * S i c) (rs cs : List Nat) : dt_D S (i :: rs) (j :: cs) = S i j * dt_D S' rs cs := by
  show dt_ex (S i) (j :: cs) (dt_D S rs) = _
  rw [← dt_rowop (S := S) (S' := S') (f := S i) (k := fun l => -(e * S l j)) (fun l c => by rw [h]; grind) rs]
  show S i j * dt_D S' rs cs - dt_ex (S i) cs (fun s => dt_D S' rs (j :: s)) = _
  rw [dt_ex_0 (S i) cs (fun s => dt_D S' rs (j :: s)) (fun s _ => dt_zcol rs (fun l _ => by rw [h]; grind) s)]
  omega
theorem dt_D1 (S : Nat → Nat → Int) (r c : Nat) : dt_D S [r] [c] = S r c := by
  show S r c * (if ([] : List Nat) = [] then 1 else 0) - 0 = S r c
  simp
theorem dt_D2 (S : Nat → Nat → Int) (r r' c c' : Nat) : dt_D S [r, r'] [c, c'] = S r c * S r' c' - S r c' * S r' c := by
  show S r c * (S r' c' * (if ([] : List Nat) = [] then 1 else 0) - 0) - (S r c' * (S r' c * (if ([] : List Nat) = [] then 1 else 0) - 0) - 0) = _
  simp
/-! order of rows and columns -/
theorem dt_rperm {S : Nat → Nat → Int} {rs rs' : List Nat} (h : rs.Perm rs') : ∃ ε : Int, (ε = 1 ∨ ε = -1) ∧ ∀ cs, dt_D S rs' cs = ε * dt_D S rs cs := by
  induction h with
  | nil => exact ⟨1, Or.inl rfl, fun cs => by omega⟩
  | cons r _ ih =>
    obtain ⟨ε, he, h⟩ := ih
    refine ⟨ε, he, fun cs => ?_⟩
    rename_i l1 l2 _
    show dt_ex (S r) cs (dt_D S l2) = ε * dt_ex (S r) cs (dt_D S l1)
    have k := dt_ex_g (S r) ε cs (fun _ => 0) (dt_D S l1)
    rw [dt_ex_0 (S r) cs (fun _ => 0) (fun _ _ => rfl)] at k
    rw [show dt_D S l2 = (fun t => 0 + ε * dt_D S l1 t) from funext (fun t => by rw [h t]; omega), k]
    omega
  | swap x y l =>
    refine ⟨-1, Or.inr rfl, fun cs => ?_⟩
    show dt_ex (S x) cs (fun t => dt_ex (S y) t (dt_D S l)) = -1 * dt_ex (S y) cs (fun t => dt_ex (S x) t (dt_D S l))
    rw [dt_anti]
    omega
  | trans _ _ ih1 ih2 =>
    obtain ⟨a, ha, h1⟩ := ih1
    obtain ⟨b, hb, h2⟩ := ih2
    refine ⟨b * a, ?_, fun cs => by rw [h2, h1, Int.mul_assoc]⟩
    rcases ha with e | e <;> rcases hb with e' | e' <;> subst e <;> subst e' <;> simp
def dt_alt (g : List Nat → Int) : Prop := ∀ u c d t, g (u ++ c :: d :: t) = - g (u ++ d :: c :: t)
theorem dt_alt_ex (f : Nat → Int) (u : List Nat) : ∀ g, dt_alt g → ∀ c d t, dt_ex f (u ++ c :: d :: t) g = - dt_ex f (u ++ d :: c :: t) g := by
  induction u with
  | nil =>
    intro g hg c d t
    show f c * g (d :: t) - (f d * g (c :: t) - dt_ex f t (fun s => g (c :: d :: s))) = - (f d * g (c :: t) - (f c * g (d :: t) - dt_ex f t (fun s => g (d :: c :: s))))
    have k := dt_ex_g f (-1) t (fun _ => 0) (fun s => g (d :: c :: s))
    rw [dt_ex_0 f t (fun _ => 0) (fun _ _ => rfl)] at k
    rw [show (fun s => g (c :: d :: s)) = (fun s => 0 + (-1) * g (d :: c :: s)) from funext (fun s => by have := hg [] c d s; simp only [List.nil_append] at this; omega), k]
    omega
  | cons a u ih =>
    intro g hg c d t
    show f a * g (u ++ c :: d :: t) - dt_ex f (u ++ c :: d :: t) (fun s => g (a :: s)) = - (f a * g (u ++ d :: c :: t) - dt_ex f (u ++ d :: c :: t) (fun s => g (a :: s)))
    rw [hg u c d t, ih (fun s => g (a :: s)) (fun u' c' d' t' => hg (a :: u') c' d' t') c d t]
    grind
theorem dt_alt_D (S : Nat → Nat → Int) (rs : List Nat) : dt_alt (dt_D S rs) := by
  induction rs with
  | nil => intro u c d t; show (if u ++ c :: d :: t = [] then (1 : Int) else 0) = - (if u ++ d :: c :: t = [] then 1 else 0); simp
  | cons r rs ih => intro u c d t; exact dt_alt_ex (S r) u _ ih c d t
theorem dt_cperm {cs cs' : List Nat} (h : cs.Perm cs') : ∀ g : List Nat → Int, dt_alt g → g cs' = g cs ∨ g cs' = - g cs := by
  induction h with
  | nil => intro g _; exact Or.inl rfl
  | cons c _ ih => intro g hg; exact ih (fun s => g (c :: s)) (fun u' c' d' t' => hg (c :: u') c' d' t')
  | swap x y l => intro g hg; exact Or.inr (hg [] x y l)
  | trans _ _ ih1 ih2 =>
    intro g hg
    have h1 := ih1 g hg
    have h2 := ih2 g hg
    omega
theorem dt_sortL (L : List Nat) : ∀ rs : List Nat, (∀ x, x ∈ rs → x ∈ L) → (∃ c t, rs.Perm (c :: c :: t)) ∨ (∃ sub, sub.Sublist L ∧ rs.Perm sub) := by
  induction L with
  | nil =>
    intro rs h
    cases rs with
    | nil => exact Or.inr ⟨[], List.Sublist.slnil, List.Perm.nil⟩
    | cons a t => exact absurd (h a List.mem_cons_self) (by simp)
  | cons a L ih =>
    intro rs h
    by_cases ha : a ∈ rs
    · have p := List.perm_cons_erase ha
      by_cases hb : a ∈ rs.erase a
      · exact Or.inl ⟨a, (rs.erase a).erase a, p.trans ((List.perm_cons_erase hb).cons a)⟩
      · have k : ∀ x, x ∈ rs.erase a → x ∈ L := by
          intro x hx
          rcases List.mem_cons.mp (h x (List.mem_of_mem_erase hx)) with e | e
          · rw [e] at hx; exact absurd hx hb
          · exact e
        rcases ih _ k with ⟨c, t, q⟩ | ⟨s, hs, q⟩
        · exact Or.inl ⟨c, a :: t, p.trans ((q.cons a).trans ((List.Perm.swap c a (c :: t)).trans ((List.Perm.swap c a t).cons c)))⟩
        · exact Or.inr ⟨a :: s, hs.cons_cons a, p.trans (q.cons a)⟩
    · have k : ∀ x, x ∈ rs → x ∈ L := by
        intro x hx
        rcases List.mem_cons.mp (h x hx) with e | e
        · rw [e] at hx; exact absurd hx ha
        · exact e
      rcases ih _ k with q | ⟨s, hs, q⟩
      · exact Or.inl q
      · exact Or.inr ⟨s, hs.cons a, q⟩
def dt_b2 (x : Int) : Prop := -2 ≤ x ∧ x ≤ 2
theorem dt_b2_pm {x y : Int} (h : dt_b2 x) (e : y = x ∨ y = -x) : dt_b2 y := by
  unfold dt_b2 at h ⊢; omega
theorem dt_b2_0 : dt_b2 0 := by unfold dt_b2; omega
/-- rows in a list R, columns in a list C: sublists of R and C are enough -/
theorem dt_all (S : Nat → Nat → Int) (R C : List Nat) (h : ∀ rs cs : List Nat, rs.Sublist R → cs.Sublist C → dt_b2 (dt_D S rs cs)) (rs cs : List Nat) (hr : ∀ x, x ∈ rs → x ∈ R) (hc : ∀ x, x ∈ cs → x ∈ C) : dt_b2 (dt_D S rs cs) := by
  have row : ∀ cs', cs'.Sublist C → dt_b2 (dt_D S rs cs') := by
    intro cs' hc'
    rcases dt_sortL R rs hr with ⟨c, t, p⟩ | ⟨s, hs, p⟩
    · obtain ⟨ε, _, e⟩ := dt_rperm (S := S) p.symm
      rw [e cs', show dt_D S (c :: c :: t) cs' = 0 from dt_self (S c) cs' (dt_D S t), Int.mul_zero]
      exact dt_b2_0
    · obtain ⟨ε, he, e⟩ := dt_rperm (S := S) p.symm
      rw [e cs']
      exact dt_b2_pm (h s cs' hs hc') (by rcases he with e | e <;> subst e <;> omega)
  rcases dt_sortL C cs hc with ⟨c, t, p⟩ | ⟨s, hs, p⟩
  · have k := dt_cperm p.symm (dt_D S rs) (dt_alt_D S rs)
    have z := dt_alt_D S rs [] c c t
    simp only [List.nil_append] at z
    rw [show dt_D S rs cs = 0 by omega]
    exact dt_b2_0
  · exact dt_b2_pm (row s hs) (dt_cperm p.symm (dt_D S rs) (dt_alt_D S rs))
end
section
/-! the boundary matrix, and its minors by a check in the kernel -/
def mn_pc (s : Nat) : Nat := (5266721624626081916652898579601397356032429460333936579656 >>> (3 * s)) % 8
def mn_bd (r t : Nat) : Int := if r &&& t = r ∧ mn_pc r + 1 = mn_pc t then (if mn_pc (t &&& ((t ^^^ r) - 1)) % 2 = 0 then 1 else -1) else 0
theorem mn_bd_u (r t : Nat) : mn_bd r t = 0 ∨ mn_bd r t = 1 ∨ mn_bd r t = -1 := by
  unfold mn_bd
  split
  · split
    · exact Or.inr (Or.inl rfl)
    · exact Or.inr (Or.inr rfl)
  · exact Or.inl rfl
def mn_L (k : Nat) : List Nat := (List.range 32).filter (fun s => mn_pc s == k)
/-! alternating forms over n columns as numbers: 2^n fields of 7 bits, a field keeps its value + 32 -/
def mn_N (n : Nat) : Nat := 2 ^ (7 * 2 ^ n)
/-- the same number in each field -/
def mn_a (x : Nat) : Nat → Nat
  | 0 => x
  | n + 1 => mn_a x n + mn_N n * mn_a x n
noncomputable def mn_op (k o a b : Nat) : Nat :=
  Nat.rec (motive := fun _ => Nat) (Nat.sub (Nat.add o o) b) (fun n _ => Nat.rec (motive := fun _ => Nat) (Nat.sub (Nat.add a (Nat.sub (Nat.add o o) b)) o) (fun _ _ => Nat.sub (Nat.add (Nat.sub (Nat.add o o) a) (Nat.sub (Nat.add o o) b)) o) n) k
def mn_lv (n : Nat) : List (Nat × Nat × Nat) := match n with
  | 0 => []
  | n + 1 => (mn_N n, mn_a 32 n, mn_a 32 (n + 1)) :: mn_lv n
noncomputable def mn_w (lv : List (Nat × Nat × Nat)) : List Nat → Nat → Nat :=
  List.rec (motive := fun _ => List Nat → Nat → Nat) (fun _ _ => nat_lit 32) (fun p _ ih fl W =>
    List.rec (motive := fun _ => Nat) p.2.2 (fun k fl' _ =>
      Bool.rec (motive := fun _ => Nat) (Nat.add (ih fl' (Nat.mod W p.1)) (Nat.mul p.1 (mn_op k p.2.1 (Nat.mod W p.1) (ih fl' (Nat.div W p.1))))) p.2.2 (Nat.beq W p.2.2)) fl) lv
noncomputable def mn_bnd (c29 c34 c64 W : Nat) : Bool :=
  Bool.rec (motive := fun _ => Bool) false (Nat.beq (Nat.land (Nat.add W c34) c64) c64) (Nat.beq (Nat.land (Nat.add W c29) c64) (nat_lit 0))
noncomputable def mn_chk (lv : List (Nat × Nat × Nat)) (c29 c34 c64 : Nat) (rows : List (List Nat)) : Nat → Bool :=
  List.rec (motive := fun _ => Nat → Bool) (fun _ => true) (fun fl _ ih w =>
    Bool.rec (motive := fun _ => Bool) false (Bool.rec (motive := fun _ => Bool) false (ih (mn_w lv fl w)) (mn_bnd c29 c34 c64 (mn_w lv fl w))) (ih w)) rows
theorem mn_br {x y : Bool} (h : (Bool.rec (motive := fun _ => Bool) false y x : Bool) = true) : x = true ∧ y = true := by
  cases x with
  | false => exact Bool.noConfusion (show false = true from h)
  | true => exact ⟨rfl, h⟩
theorem mn_N0 (n : Nat) : 0 < mn_N n := Nat.pos_of_ne_zero (by unfold mn_N; exact Nat.ne_of_gt (Nat.two_pow_pos _))
theorem mn_NS (n : Nat) : mn_N (n + 1) = mn_N n * mn_N n := by
  unfold mn_N
  rw [← Nat.pow_add]
  congr 1
  rw [Nat.pow_succ]
  omega
/-- the number W over the columns C has the values of g, all within M -/
def mn_rep (M : Int) : List Nat → Nat → (List Nat → Int) → Prop
  | [], W, g => (W : Int) = 32 + g [] ∧ -M ≤ g [] ∧ g [] ≤ M
  | c :: C, W, g => mn_rep M C (W % mn_N C.length) g ∧ mn_rep M C (W / mn_N C.length) (fun t => g (c :: t))
theorem mn_lt {M : Int} (hM : M ≤ 31) {x : Nat} (hx : x ≤ 64) : (C : List Nat) → (W : Nat) → (g : List Nat → Int) → mn_rep M C W g → W + mn_a x C.length < mn_N C.length
  | [], W, g, h => by
    have h' : (W : Int) = 32 + g [] ∧ -M ≤ g [] ∧ g [] ≤ M := h
    show W + x < 128
    omega
  | c :: C, W, g, h => by
    have h1 := mn_lt hM hx C _ _ h.1
    have h2 := mn_lt hM hx C _ _ h.2
    show W + (mn_a x C.length + mn_N C.length * mn_a x C.length) < mn_N (C.length + 1)
    rw [mn_NS]
    have e := Nat.mod_add_div W (mn_N C.length)
    have k : mn_N C.length * (W / mn_N C.length + mn_a x C.length + 1) ≤ mn_N C.length * mn_N C.length := Nat.mul_le_mul_left _ h2
    rw [Nat.mul_add, Nat.mul_add] at k
    omega
theorem mn_lt0 {M : Int} (hM : M ≤ 31) {C : List Nat} {W : Nat} {g : List Nat → Int} (h : mn_rep M C W g) : W < mn_N C.length :=
  Nat.lt_of_le_of_lt (Nat.le_add_right _ _) (mn_lt hM (x := 0) (by omega) C W g h)
theorem mn_mk {M : Int} {c : Nat} {C : List Nat} {a b : Nat} {g : List Nat → Int} (hM : M ≤ 31) (ha : mn_rep M C a g) (hb : mn_rep M C b (fun t => g (c :: t))) : mn_rep M (c :: C) (a + mn_N C.length * b) g := by
  have h1 := mn_lt0 hM ha
  refine ⟨?_, ?_⟩
  · rw [Nat.add_mul_mod_self_left, Nat.mod_eq_of_lt h1]; exact ha
  · rw [Nat.add_mul_div_left _ _ (mn_N0 _), Nat.div_eq_of_lt h1, Nat.zero_add]; exact hb
theorem mn_rep_m {M M' : Int} (hM : M ≤ M') : (C : List Nat) → (w : Nat) → (g : List Nat → Int) → mn_rep M C w g → mn_rep M' C w g
  | [], w, g, h => ⟨h.1, Int.le_trans (by omega) h.2.1, Int.le_trans h.2.2 hM⟩
  | c :: C, w, g, h => ⟨mn_rep_m hM C _ g h.1, mn_rep_m hM C _ _ h.2⟩
theorem mn_zero {M : Int} (h0 : 0 ≤ M) (hM : M ≤ 31) : (C : List Nat) → (g : List Nat → Int) → (∀ t, (∀ x, x ∈ t → x ∈ C) → g t = 0) → mn_rep M C (mn_a 32 C.length) g
  | [], g, h => by
    have e := h [] (fun x hx => hx)
    show ((32 : Nat) : Int) = 32 + g [] ∧ -M ≤ g [] ∧ g [] ≤ M
    omega
  | c :: C, g, h => mn_mk hM (mn_zero h0 hM C g (fun t ht => h t (fun x hx => List.mem_cons_of_mem c (ht x hx)))) (mn_zero h0 hM C _ (fun t ht => h (c :: t) (fun x hx => by
      rcases List.mem_cons.mp hx with e | e
      · rw [e]; exact List.mem_cons_self
      · exact List.mem_cons_of_mem c (ht x e))))
theorem mn_neg {M : Int} (hM : M ≤ 31) : (C : List Nat) → (b : Nat) → (h : List Nat → Int) → mn_rep M C b h → ∃ d, d + b = mn_a 32 C.length + mn_a 32 C.length ∧ mn_rep M C d (fun t => - h t)
  | [], b, h, hb => by
    have hb' : (b : Int) = 32 + h [] ∧ -M ≤ h [] ∧ h [] ≤ M := hb
    refine ⟨64 - b, ?_, ?_⟩
    · show 64 - b + b = 32 + 32
      omega
    · show ((64 - b : Nat) : Int) = 32 + -h [] ∧ -M ≤ -h [] ∧ -h [] ≤ M
      omega
  | c :: C, b, h, hb => by
    obtain ⟨d0, e0, r0⟩ := mn_neg hM C _ _ hb.1
    obtain ⟨d1, e1, r1⟩ := mn_neg hM C _ _ hb.2
    refine ⟨d0 + mn_N C.length * d1, ?_, mn_mk hM r0 r1⟩
    have e := Nat.mod_add_div b (mn_N C.length)
    show d0 + mn_N C.length * d1 + b = (mn_a 32 C.length + mn_N C.length * mn_a 32 C.length) + (mn_a 32 C.length + mn_N C.length * mn_a 32 C.length)
    have k : mn_N C.length * (d1 + b / mn_N C.length) = mn_N C.length * (mn_a 32 C.length + mn_a 32 C.length) := by rw [e1]
    rw [Nat.mul_add, Nat.mul_add] at k
    omega
theorem mn_add {M M' : Int} (h0 : 0 ≤ M) (h0' : 0 ≤ M') (hM : M + M' ≤ 31) : (C : List Nat) → (a b : Nat) → (g h : List Nat → Int) → mn_rep M C a g → mn_rep M' C b h → ∃ d, d + mn_a 32 C.length = a + b ∧ mn_rep (M + M') C d (fun t => g t + h t)
  | [], a, b, g, h, ha, hb => by
    have ha' : (a : Int) = 32 + g [] ∧ -M ≤ g [] ∧ g [] ≤ M := ha
    have hb' : (b : Int) = 32 + h [] ∧ -M' ≤ h [] ∧ h [] ≤ M' := hb
    refine ⟨a + b - 32, ?_, ?_⟩
    · show a + b - 32 + 32 = a + b
      omega
    · show ((a + b - 32 : Nat) : Int) = 32 + (g [] + h []) ∧ -(M + M') ≤ g [] + h [] ∧ g [] + h [] ≤ M + M'
      omega
  | c :: C, a, b, g, h, ha, hb => by
    obtain ⟨d0, e0, r0⟩ := mn_add h0 h0' hM C _ _ _ _ ha.1 hb.1
    obtain ⟨d1, e1, r1⟩ := mn_add h0 h0' hM C _ _ _ _ ha.2 hb.2
    refine ⟨d0 + mn_N C.length * d1, ?_, mn_mk hM r0 r1⟩
    have e := Nat.mod_add_div a (mn_N C.length)
    have e' := Nat.mod_add_div b (mn_N C.length)
    show d0 + mn_N C.length * d1 + (mn_a 32 C.length + mn_N C.length * mn_a 32 C.length) = a + b
    have k : mn_N C.length * (d1 + mn_a 32 C.length) = mn_N C.length * (a / mn_N C.length + b / mn_N C.length) := by rw [e1]
    rw [Nat.mul_add, Nat.mul_add] at k
    omega
theorem mn_rep_e {M : Int} {C : List Nat} {W W' : Nat} {g g' : List Nat → Int} (e : W' = W) (eg : ∀ t, g' t = g t) (h : mn_rep M C W g) : mn_rep M C W' g' := by
  rw [e, show g' = g from funext eg]; exact h
/-- the sign of a row's entry as a number -/
def mn_cd (x : Int) : Nat := if x = 0 then 0 else if x = 1 then 1 else 2
theorem mn_rep_op {k : Int} (hk : k = 0 ∨ k = 1 ∨ k = -1) {M M' : Int} (h0 : 0 ≤ M) (h0' : 0 ≤ M') (hM : M + M' ≤ 31) (C : List Nat) (a b : Nat) (g h : List Nat → Int) (ha : mn_rep M C a g) (hb : mn_rep M' C b h) :
    mn_rep (M + M') C (mn_op (mn_cd k) (mn_a 32 C.length) a b) (fun t => k * g t - h t) := by
  obtain ⟨b', eb, rb⟩ := mn_neg (by omega) C b h hb
  rcases hk with e | e | e <;> subst e
  · refine mn_rep_e (W := b') (g := fun t => - h t) ?_ (fun t => by omega) (mn_rep_m (by omega) C _ _ rb)
    show (mn_a 32 C.length + mn_a 32 C.length) - b = b'
    omega
  · obtain ⟨d, ed, rd⟩ := mn_add h0 h0' hM C a b' _ _ ha rb
    refine mn_rep_e (W := d) (g := fun t => g t + - h t) ?_ (fun t => by omega) rd
    show (a + ((mn_a 32 C.length + mn_a 32 C.length) - b)) - mn_a 32 C.length = d
    omega
  · obtain ⟨a', ea, ra⟩ := mn_neg (by omega) C a g ha
    obtain ⟨d, ed, rd⟩ := mn_add h0 h0' hM C a' b' _ _ ra rb
    refine mn_rep_e (W := d) (g := fun t => - g t + - h t) ?_ (fun t => by omega) rd
    show (((mn_a 32 C.length + mn_a 32 C.length) - a) + ((mn_a 32 C.length + mn_a 32 C.length) - b)) - mn_a 32 C.length = d
    omega
/-- the list fl has the signs of f over C (what is wanting is 0) -/
def mn_rel (f : Nat → Int) : List Nat → List Nat → Bool
  | [], _ => true
  | c :: C, [] => decide (f c = 0) && mn_rel f C []
  | c :: C, k :: fl => decide (k = mn_cd (f c)) && mn_rel f C fl
theorem mn_rel0 {f : Nat → Int} : (C : List Nat) → mn_rel f C [] = true → ∀ c, c ∈ C → f c = 0
  | [], _, c, hc => absurd hc (by simp)
  | a :: C, h, c, hc => by
    have h' : (decide (f a = 0) && mn_rel f C []) = true := h
    rw [Bool.and_eq_true] at h'
    rcases List.mem_cons.mp hc with e | e
    · rw [e]; exact of_decide_eq_true h'.1
    · exact mn_rel0 C h'.2 c e
theorem mn_w_z (fl : List Nat) : (n : Nat) → mn_w (mn_lv n) fl (mn_a 32 n) = mn_a 32 n
  | 0 => rfl
  | n + 1 => by
    cases fl with
    | nil => rfl
    | cons k fl =>
      show (Bool.rec (motive := fun _ => Nat) _ (mn_a 32 (n + 1)) (Nat.beq (mn_a 32 (n + 1)) (mn_a 32 (n + 1))) : Nat) = _
      rw [show Nat.beq (mn_a 32 (n + 1)) (mn_a 32 (n + 1)) = true from Nat.beq_refl _]
theorem mn_ao (n : Nat) : mn_a 32 n < mn_N n := by
  induction n with
  | zero => show 32 < 128; omega
  | succ n ih =>
    show mn_a 32 n + mn_N n * mn_a 32 n < mn_N (n + 1)
    rw [mn_NS]
    have k : mn_N n * (mn_a 32 n + 1) ≤ mn_N n * mn_N n := Nat.mul_le_mul_left _ ih
    rw [Nat.mul_add] at k
    omega
theorem mn_w_c (k : Nat) (hk : k = 0 ∨ k = 1 ∨ k = 2) (fl : List Nat) (n W : Nat) : mn_w (mn_lv (n + 1)) (k :: fl) W = mn_w (mn_lv n) fl (W % mn_N n) + mn_N n * mn_op k (mn_a 32 n) (W % mn_N n) (mn_w (mn_lv n) fl (W / mn_N n)) := by
  show (Bool.rec (motive := fun _ => Nat) (mn_w (mn_lv n) fl (W % mn_N n) + mn_N n * mn_op k (mn_a 32 n) (W % mn_N n) (mn_w (mn_lv n) fl (W / mn_N n))) (mn_a 32 (n + 1)) (Nat.beq W (mn_a 32 (n + 1))) : Nat) = _
  cases h : Nat.beq W (mn_a 32 (n + 1)) with
  | false => rfl
  | true =>
    have e : W = mn_a 32 n + mn_N n * mn_a 32 n := Nat.eq_of_beq_eq_true h
    have l := mn_ao n
    rw [e, Nat.add_mul_mod_self_left, Nat.mod_eq_of_lt l, Nat.add_mul_div_left _ _ (mn_N0 _), Nat.div_eq_of_lt l, Nat.zero_add, mn_w_z]
    have o : mn_op k (mn_a 32 n) (mn_a 32 n) (mn_a 32 n) = mn_a 32 n := by
      rcases hk with e | e | e <;> subst e
      · show (mn_a 32 n + mn_a 32 n) - mn_a 32 n = _
        omega
      · show (mn_a 32 n + ((mn_a 32 n + mn_a 32 n) - mn_a 32 n)) - mn_a 32 n = _
        omega
      · show (((mn_a 32 n + mn_a 32 n) - mn_a 32 n) + ((mn_a 32 n + mn_a 32 n) - mn_a 32 n)) - mn_a 32 n = _
        omega
    rw [o]
    rfl
theorem mn_cd3 (x : Int) : mn_cd x = 0 ∨ mn_cd x = 1 ∨ mn_cd x = 2 := by
  unfold mn_cd
  split
  · exact Or.inl rfl
  · split
    · exact Or.inr (Or.inl rfl)
    · exact Or.inr (Or.inr rfl)
theorem mn_rep_w (f : Nat → Int) (hf : ∀ c, f c = 0 ∨ f c = 1 ∨ f c = -1) : (C fl : List Nat) → C.length ≤ 10 → mn_rel f C fl = true → (W : Nat) → (g : List Nat → Int) → mn_rep 2 C W g → mn_rep (2 * C.length) C (mn_w (mn_lv C.length) fl W) (fun cs => dt_ex f cs g)
  | [], fl, _, _, W, g, h => by
    show ((32 : Nat) : Int) = 32 + 0 ∧ -(2 * ((0 : Nat) : Int)) ≤ 0 ∧ (0 : Int) ≤ 2 * ((0 : Nat) : Int)
    omega
  | c :: C, [], hC, hr, W, g, h => by
    simp only [List.length_cons] at hC
    have hz := mn_rel0 (c :: C) hr
    exact mn_zero (M := 2 * ((c :: C).length : Int)) (by omega) (by simp only [List.length_cons]; omega) (c :: C) _ (fun t ht => dt_ex_0f f t (fun x hx => hz x (ht x hx)) g)
  | c :: C, k :: fl, hC, hr, W, g, h => by
    have hr' : (decide (k = mn_cd (f c)) && mn_rel f C fl) = true := hr
    rw [Bool.and_eq_true] at hr'
    have ek : k = mn_cd (f c) := of_decide_eq_true hr'.1
    have hC' : C.length ≤ 10 := by simp only [List.length_cons] at hC; omega
    have hC2 : C.length ≤ 9 := by simp only [List.length_cons] at hC; omega
    have e : (2 * ((c :: C).length : Int)) = 2 + 2 * (C.length : Int) := by simp only [List.length_cons]; omega
    have L := mn_rep_m (M' := 2 * ((c :: C).length : Int)) (by omega) C _ _ (mn_rep_w f hf C fl hC' hr'.2 (W % mn_N C.length) g h.1)
    have R := mn_rep_op (hf c) (by omega) (by omega) (by omega) C _ _ g (fun t => dt_ex f t (fun s => g (c :: s))) h.1 (mn_rep_w f hf C fl hC' hr'.2 (W / mn_N C.length) _ h.2)
    rw [← e, ← ek] at R
    rw [show (c :: C).length = C.length + 1 from rfl, mn_w_c k (ek ▸ mn_cd3 (f c))]
    exact mn_mk (g := fun cs => dt_ex f cs g) (by omega) L R
theorem mn_rep_one (S : Nat → Nat → Int) : (C : List Nat) → mn_rep 2 C (mn_a 32 C.length + 1) (dt_D S [])
  | [] => by
    show ((33 : Nat) : Int) = 32 + 1 ∧ -2 ≤ (1 : Int) ∧ (1 : Int) ≤ 2
    omega
  | c :: C => by
    have e : mn_a 32 (c :: C).length + 1 = (mn_a 32 C.length + 1) + mn_N C.length * mn_a 32 C.length := by
      show mn_a 32 C.length + mn_N C.length * mn_a 32 C.length + 1 = _
      omega
    rw [e]
    exact mn_mk (by omega) (mn_rep_one S C) (mn_zero (by omega) (by omega) C _ (fun t _ => by show (if c :: t = [] then (1 : Int) else 0) = 0; simp))
theorem mn_land (k x y p q : Nat) (hx : x < 2 ^ k) (hp : p < 2 ^ k) : (x + 2 ^ k * y) &&& (p + 2 ^ k * q) = (x &&& p) + 2 ^ k * (y &&& q) := by
  have hxp : x &&& p < 2 ^ k := Nat.lt_of_le_of_lt Nat.and_le_left hx
  apply Nat.eq_of_testBit_eq
  intro i
  rw [Nat.testBit_and, Nat.add_comm x, Nat.add_comm p, Nat.add_comm (x &&& p), Nat.testBit_two_pow_mul_add _ hx, Nat.testBit_two_pow_mul_add _ hp, Nat.testBit_two_pow_mul_add _ hxp]
  by_cases h : i < k
  · simp [h]
  · simp [h]
theorem mn_f29 : ∀ a : Nat, a < 64 → (a + 29) &&& 64 = 0 → a ≤ 34 := by decide
theorem mn_f34 : ∀ a : Nat, a < 64 → (a + 34) &&& 64 = 64 → 30 ≤ a := by decide
theorem mn_spl {n x y p q : Nat} (hx : x < n) (hp : p < n) (h : x + n * y = p + n * q) : x = p ∧ y = q := by
  have h1 : (x + n * y) % n = (p + n * q) % n := by rw [h]
  rw [Nat.add_mul_mod_self_left, Nat.add_mul_mod_self_left, Nat.mod_eq_of_lt hx, Nat.mod_eq_of_lt hp] at h1
  refine ⟨h1, ?_⟩
  subst h1
  exact Nat.eq_of_mul_eq_mul_left (by omega : 0 < n) (by omega)
theorem mn_a64 (n : Nat) : mn_a 64 n < mn_N n := by
  induction n with
  | zero => show 64 < 128; omega
  | succ n ih =>
    show mn_a 64 n + mn_N n * mn_a 64 n < mn_N (n + 1)
    rw [mn_NS]
    have k : mn_N n * (mn_a 64 n + 1) ≤ mn_N n * mn_N n := Nat.mul_le_mul_left _ ih
    rw [Nat.mul_add] at k
    omega
theorem mn_and_c {M : Int} (hM : M ≤ 31) {x : Nat} (hx : x ≤ 64) {C : List Nat} {W : Nat} {g : List Nat → Int} (h : mn_rep M C (W % mn_N C.length) g) :
    (W + mn_a x (C.length + 1)) &&& mn_a 64 (C.length + 1) = ((W % mn_N C.length + mn_a x C.length) &&& mn_a 64 C.length) + mn_N C.length * ((W / mn_N C.length + mn_a x C.length) &&& mn_a 64 C.length) := by
  have l := mn_lt hM hx C _ _ h
  have e := Nat.mod_add_div W (mn_N C.length)
  have t := mn_land (7 * 2 ^ C.length) (W % mn_N C.length + mn_a x C.length) (W / mn_N C.length + mn_a x C.length) (mn_a 64 C.length) (mn_a 64 C.length) l (mn_a64 _)
  show (W + (mn_a x C.length + mn_N C.length * mn_a x C.length)) &&& (mn_a 64 C.length + mn_N C.length * mn_a 64 C.length) = _
  have e2 : W + (mn_a x C.length + mn_N C.length * mn_a x C.length) = (W % mn_N C.length + mn_a x C.length) + mn_N C.length * (W / mn_N C.length + mn_a x C.length) := by
    rw [Nat.mul_add]; omega
  rw [e2]
  exact t
theorem mn_bnd_2 {M : Int} (hM : M ≤ 31) : (C : List Nat) → (W : Nat) → (g : List Nat → Int) → mn_rep M C W g → (W + mn_a 29 C.length) &&& mn_a 64 C.length = 0 → (W + mn_a 34 C.length) &&& mn_a 64 C.length = mn_a 64 C.length → mn_rep 2 C W g
  | [], W, g, h, h1, h2 => by
    have h' : (W : Int) = 32 + g [] ∧ -M ≤ g [] ∧ g [] ≤ M := h
    have a1 := mn_f29 W (by omega) h1
    have a2 := mn_f34 W (by omega) h2
    show (W : Int) = 32 + g [] ∧ -2 ≤ g [] ∧ g [] ≤ 2
    omega
  | c :: C, W, g, h, h1, h2 => by
    rw [show (c :: C).length = C.length + 1 from rfl, mn_and_c hM (by omega) h.1] at h1
    rw [show (c :: C).length = C.length + 1 from rfl, mn_and_c hM (by omega) h.1] at h2
    have p := mn_N0 C.length
    have z1 : ((W % mn_N C.length + mn_a 29 C.length) &&& mn_a 64 C.length) = 0 := by omega
    have z2 : ((W / mn_N C.length + mn_a 29 C.length) &&& mn_a 64 C.length) = 0 := by
      have : mn_N C.length * ((W / mn_N C.length + mn_a 29 C.length) &&& mn_a 64 C.length) = 0 := by omega
      rcases Nat.mul_eq_zero.mp this with e | e
      · omega
      · exact e
    have s := mn_spl (Nat.lt_of_le_of_lt Nat.and_le_right (mn_a64 C.length)) (mn_a64 C.length) (show _ = mn_a 64 C.length + mn_N C.length * mn_a 64 C.length from h2)
    exact ⟨mn_bnd_2 hM C _ g h.1 z1 s.1, mn_bnd_2 hM C _ _ h.2 z2 s.2⟩
theorem mn_rep_s : (C : List Nat) → (W : Nat) → (g : List Nat → Int) → mn_rep 2 C W g → ∀ cs : List Nat, cs.Sublist C → dt_b2 (g cs)
  | [], w, g, h, cs, hs => by
    have e : cs = [] := List.sublist_nil.mp hs
    subst e
    exact h.2
  | c :: C, w, g, h, cs, hs => by
    cases hs with
    | cons _ hs' => exact mn_rep_s C _ g h.1 cs hs'
    | cons_cons _ hs' => exact mn_rep_s C _ (fun t => g (c :: t)) h.2 _ hs'
def mn_rels (S : Nat → Nat → Int) (C : List Nat) : List Nat → List (List Nat) → Bool
  | [], [] => true
  | r :: R, fl :: rows => mn_rel (S r) C fl && mn_rels S C R rows
  | _, _ => false
theorem mn_chk_s (S : Nat → Nat → Int) (hS : ∀ r c, S r c = 0 ∨ S r c = 1 ∨ S r c = -1) (C : List Nat) (hC : C.length ≤ 10) : (R : List Nat) → (rows : List (List Nat)) → mn_rels S C R rows = true → (rs0 : List Nat) → (w : Nat) → mn_chk (mn_lv C.length) (mn_a 29 C.length) (mn_a 34 C.length) (mn_a 64 C.length) rows w = true → mn_rep 2 C w (dt_D S rs0) →
    ∀ sub : List Nat, sub.Sublist R → ∀ cs : List Nat, cs.Sublist C → dt_b2 (dt_D S (sub.reverse ++ rs0) cs)
  | [], [], _, rs0, w, hk, hr, sub, hs, cs, hc => by
    have e : sub = [] := List.sublist_nil.mp hs
    subst e
    exact mn_rep_s C w _ hr cs hc
  | [], _ :: _, h, _, _, _, _, _, _, _, _ => Bool.noConfusion h
  | _ :: _, [], h, _, _, _, _, _, _, _, _ => Bool.noConfusion h
  | r :: R, fl :: rows, hrel, rs0, w, hk, hr, sub, hs, cs, hc => by
    have hrel' : (mn_rel (S r) C fl && mn_rels S C R rows) = true := hrel
    rw [Bool.and_eq_true] at hrel'
    have h1 := mn_br (x := mn_chk (mn_lv C.length) (mn_a 29 C.length) (mn_a 34 C.length) (mn_a 64 C.length) rows w) hk
    have h2 := mn_br (x := mn_bnd (mn_a 29 C.length) (mn_a 34 C.length) (mn_a 64 C.length) (mn_w (mn_lv C.length) fl w)) h1.2
    have h3 := mn_br h2.1
    cases hs with
    | cons _ hs' => exact mn_chk_s S hS C hC R rows hrel'.2 rs0 w h1.1 hr sub hs' cs hc
    | cons_cons _ hs' =>
      rename_i sub'
      have t := mn_chk_s S hS C hC R rows hrel'.2 (r :: rs0) (mn_w (mn_lv C.length) fl w) h2.2 (mn_bnd_2 (by omega) C _ _ (mn_rep_w (S r) (hS r) C fl hC hrel'.1 w _ hr) (Nat.eq_of_beq_eq_true h3.1) (Nat.eq_of_beq_eq_true h3.2)) sub' hs' cs hc
      rw [List.reverse_cons, List.append_assoc]
      exact t
theorem mn_all (S : Nat → Nat → Int) (hS : ∀ r c, S r c = 0 ∨ S r c = 1 ∨ S r c = -1) (R C : List Nat) (rows : List (List Nat)) (hC : C.length ≤ 10) (hrel : mn_rels S C R rows = true) (h : mn_chk (mn_lv C.length) (mn_a 29 C.length) (mn_a 34 C.length) (mn_a 64 C.length) rows (mn_a 32 C.length + 1) = true) (rs cs : List Nat) (hr : ∀ x, x ∈ rs → x ∈ R) (hc : ∀ x, x ∈ cs → x ∈ C) : dt_b2 (dt_D S rs cs) := by
  refine dt_all S R.reverse C (fun rs cs hrs hcs => ?_) rs cs (fun x hx => List.mem_reverse.mpr (hr x hx)) hc
  have t := mn_chk_s S hS C hC R rows hrel [] (mn_a 32 C.length + 1) h (mn_rep_one S C) rs.reverse (by
    have := hrs.reverse
    rw [List.reverse_reverse] at this
    exact this) cs hcs
  rw [List.reverse_reverse, List.append_nil] at t
  exact t
def mn_lv0 : List (Nat × Nat × Nat) := []
theorem mn_lve0 : mn_lv 0 = mn_lv0 := by decide +kernel
theorem mn_a29_0 : mn_a 29 0 = 29 := by decide +kernel
theorem mn_a34_0 : mn_a 34 0 = 34 := by decide +kernel
theorem mn_a64_0 : mn_a 64 0 = 64 := by decide +kernel
theorem mn_a33_0 : mn_a 32 0 + 1 = 33 := by decide +kernel
def mn_lv1 : List (Nat × Nat × Nat) := [(128, 32, 4128)]
theorem mn_lve1 : mn_lv 1 = mn_lv1 := by decide +kernel
theorem mn_a29_1 : mn_a 29 1 = 3741 := by decide +kernel
theorem mn_a34_1 : mn_a 34 1 = 4386 := by decide +kernel
theorem mn_a64_1 : mn_a 64 1 = 8256 := by decide +kernel
theorem mn_a33_1 : mn_a 32 1 + 1 = 4129 := by decide +kernel
def mn_lv5 : List (Nat × Nat × Nat) := [(5192296858534827628530496329220096, 1308295271441846331598235295551520, 6793057427943468294719247895941954185483374972608648184215082897440), (72057594037927936, 18156244167036960, 1308295271441846331598235295551520), (268435456, 67637280, 18156244167036960), (16384, 4128, 67637280), (128, 32, 4128)]
theorem mn_lve5 : mn_lv 5 = mn_lv5 := by decide +kernel
theorem mn_a29_5 : mn_a 29 5 = 6156208294073768142089318405697395980594308568926587416944918875805 := by decide +kernel
theorem mn_a34_5 : mn_a 34 5 = 7217623517189935063139200889438326322076085908396688695728525578530 := by decide +kernel
theorem mn_a64_5 : mn_a 64 5 = 13586114855886936589438495791883908370966749945217296368430165794880 := by decide +kernel
theorem mn_a33_5 : mn_a 32 5 + 1 = 6793057427943468294719247895941954185483374972608648184215082897441 := by decide +kernel
def mn_lv10 : List (Nat × Nat × Nat) := [(77894081334563378764508707451908598634363875792546106220991280972045090113143756247350828053674522774404165906274379945792494917548310574063247841644081929897178637546129401264215614159952590061562154920415452396586835739484982091767625288759481559848471677444112808287056706983922605030201811478361890468927498235629942743709470298595236463543790410896095163738073479981402477878246455235112829189027769705658237222594837250410596602457047413758430150029851731582921543526442245527917224855827827816621485551057937401676948938343002233871424814483269902707836173007455043074627168642672708601404181510388085656853057668361672906095700421037654202545940344737030366578366357572799593982155560321323484375285391015752337555589179864820742955048320397684982749773202572245522578129312632534144771795735226370030108952558937781899103282137065731057232138475034306548038575468027244771033983289060691556811292977131791103945007556626409018279457155155668381388949742836902985341946964734897090584115806967893331511501620481794544357260889558504863310391891382713164805617024097058816, 19626855139417544255624241247725001230705858467413192118674968433901125067878741731615956674941612037645144165360473687128817617020046758819086070335516706745745798436820006617755115378885691984015661082309405328273848375303302574303653616065381180434260580143398502875478855303035617015483921002421893661462046799528804470855929524055492652231506245265157836532427963459880939307904618641918193181487312051819398355299486551284559773847445017639919407881537444178373932227135053991286229884932995985290453052235070841367420204936819460503036173728068006981502027844398121089669837768232493505865620538050541267868486971555697110197341838371692397491890480563661194728407271199445566987629747482538200787473484350425785840778376028931210823319261832487554708604271514266588366142818931032225454310736434990873728240014850464730482716758945696014420696308670061492419168621865132540732972167322378974944577758017459175797167258362559752637343535157333765389341667486463744338128369067060684241666974984036115026520093349743507239624791069859493117579059246037962785667281662251040, 1528815850571483455033775565921930055751924064610506475232420519245209344422884521581230130658561738899045656357452785448128715808412563647222204895237246345482086143944946151967595995344295471498256799362404036168014423449467774492886371929079070221317311949874527595841116069741619908121115854420694605165698520816127009924418845576864527701340294225231100508110104442470955558927204350504512569279488158460018066836087363047524998386676261175613442066760922742671324362815626127640372575333638350075304851144069292081835390592339173565122715991599706652457239479460433723229835236737501200634026578310135400162286287435754143432367211099026815724259403453893273284471281767175514188596505625649227549707411109502652579388839737216777850912850891889527827314172831900789140472349328427023036470164142444999466108095460392477626181796311459168488540751834755414511873369776143589962885606296038365186202535710227341206922663356638707230461141733666258152303835973721009856895306378940333219344399942560292166256244883793634878104335082821473191183494375634535028829588739353226118218971473263686628137466498129102234666916358094963275131330380424364449452873385373987182871713906746904720180154063043229401003119835675873954221073923965500323980886677072400778070866040545881072681503460696367595813148095627872483500448005260827216993304230925738433915484575847710708201401235541046584720068265845249651052563912408470141261789447607268543099358358022948257208523906174863633275714831701531467970942126754143545872313956332172525296818008698422380363869370553571079592348099288603629991702963336199967802221755748976810828120478448782786539904027039830825063389943478987466961145479512087355542671549209576540284325876672136402947553755030005491441757638871147120142299553666871015715794326480888814069412528207826748676307240991927463461992875809274696662187846474495112781179760365434506472653237489583184953263796908433299150674362625085825357745883017818716385398395171896774376151691467737861433539696698122861583854807047696670625699318983416600142204229484105422284126534127435688518699345877729799603278373324875603361296792669906899448839499419680), (279095111627852376407822673918065072905887935345660252615989519488029661278604994789701101367875859521849524793382568057369148405837577299984720398976429790087982805274893437406788716103454867635208144157749912668657006085226160261808841484862703257771979713923863820038729637520989894984676774385364934677289947762340313157123529922421738738162392233756507666339799675257002539356619747080176786496732679854783185583233878234270370065954615221443190595445898747930123678952192875629172092437548194134594886873249778512829119416327938768896, 70323177733002173583073429648646317582585936465048252627650902548164954022955589238349883809228563029127439318017654943589076763675610028342606714702722466793822439124382598401710542640240596569501264669669269333834836178954623058093566358390602395659081502720973560954640538587965957791414620317572267005301404160589685204944511476515713697804697255749671223014752674080504576845762455957209898959806659490968991643019559870052376709531871551859701567356446928612314627767481669449870133527571198522102648660976322144964817490728299532320, 19626855139417544255624241247725001230705858467413192118674968433901125067878741731615956674941612037645144165360473687128817617020046758819086070335516706745745798436820006617755115378885691984015661082309405328273848375303302574303653616065381180434260580143398502875478855303035617015483921002421893661462046799528804470855929524055492652231506245265157836532427963459880939307904618641918193181487312051819398355299486551284559773847445017639919407881537444178373932227135053991286229884932995985290453052235070841367420204936819460503036173728068006981502027844398121089669837768232493505865620538050541267868486971555697110197341838371692397491890480563661194728407271199445566987629747482538200787473484350425785840778376028931210823319261832487554708604271514266588366142818931032225454310736434990873728240014850464730482716758945696014420696308670061492419168621865132540732972167322378974944577758017459175797167258362559752637343535157333765389341667486463744338128369067060684241666974984036115026520093349743507239624791069859493117579059246037962785667281662251040), (528294531135665246352339784916516606518847326036121522127960709026673902556724859474417255887657187894674394993257128678882347559502685537250538978462939576908386683999005084168731517676426441053024232908211188404148028292751561738838396898767036476489538580897737998336, 133113582648356597506101363128571113453567830182329832347202698337429644738702326796703560538622283564012445982552977304915237180347133363716671238667827294969042314078489470026766996579886977273202956323328803377423125239118503745219123628035788718485553028257697763360, 70323177733002173583073429648646317582585936465048252627650902548164954022955589238349883809228563029127439318017654943589076763675610028342606714702722466793822439124382598401710542640240596569501264669669269333834836178954623058093566358390602395659081502720973560954640538587965957791414620317572267005301404160589685204944511476515713697804697255749671223014752674080504576845762455957209898959806659490968991643019559870052376709531871551859701567356446928612314627767481669449870133527571198522102648660976322144964817490728299532320), (726838724295606890549323807888004534353641360687318060281490199180639288113397923326191050713763565560762521606266177933534601628614656, 183140465964247405492743006711938150388319083007828172669351861210869741886840421625496957660160898409011029066145808613174072851304480, 133113582648356597506101363128571113453567830182329832347202698337429644738702326796703560538622283564012445982552977304915237180347133363716671238667827294969042314078489470026766996579886977273202956323328803377423125239118503745219123628035788718485553028257697763360), (26959946667150639794667015087019630673637144422540572481103610249216, 6793057427943468294719247895941954185483374972608648184215082897440, 183140465964247405492743006711938150388319083007828172669351861210869741886840421625496957660160898409011029066145808613174072851304480), (5192296858534827628530496329220096, 1308295271441846331598235295551520, 6793057427943468294719247895941954185483374972608648184215082897440), (72057594037927936, 18156244167036960, 1308295271441846331598235295551520), (268435456, 67637280, 18156244167036960), (16384, 4128, 67637280), (128, 32, 4128)]
theorem mn_lve10 : mn_lv 10 = mn_lv10 := by decide +kernel
theorem mn_a29_10 : mn_a 29 10 = 1385489364580406881124359106616749113025181183553271493179381095565970968383239097682989805909321575877260126073941586812366648701373885805295123186308754500593140567950107450220633870780767771045295224422178657777263071251080170634178274560727907388068813954573790633731011438203343041734761243068754485931414284489615102744004578804033478229339641641615684835474782150989303475277778942644714515909536143604391373070204172761819529787925361690399681873002086235545887703801661178174087646396109754755745021349312795949163322724307376043392461367387234153789373278261018061677038183293360463074586586593560206397071947988652192485582785058493051750110084380090778914052099101502809733415583223244612466922341317986778900071136011852704927389771120774884593503469128910090158553066578886989626801086254090780766160461510980682848727252907259871442740056350247094401385241359630128403865080705784768449996047987393527968773663666953828427605409696135046450525351351184665182811371405914676980030862447945264775669721925937981608282053668806960079510041777918797369876814795038861169635942897645216006749579013929498900166892949523560468087768157259580282316666505495175884477490727989382402663264619632926644659077351081260771012848243593734668607678551096863205126722349244704722117612511256083133705665461662759438172281004767624665400181959276450455735907896861987829307519869709073467402561865922257496266386045620176065518496686894087117183793511958296858095224789970970167656116566229512892848666302370942588446784522926031351050241320382945282204756617064173790880565464980297039679980810523431220820763466147510234812984183594209400301788024504846685213697136277832391933538090807829165960546091471178739632670325734123615171220590495942476619092860226977077628958970510601857992438608373305487750405103688342990987903437148934263762431043702155193850107735867511195957944157831175021490841996474934761363895315948267677355298641128984029230457206484898211724267295624531451778387470392637436924145350132673843310368418886975107754540007828721293878872582969970538944989671552988592720071282201692630890471025825668515546175218357103127625510796349085 := by decide +kernel
theorem mn_a34_10 : mn_a 34 10 = 1624366841232201170973386538792050684236419318648663129934446801698034928449314804180057013824721847580236009879793584538636760546438348875173592701189574242074716527941505286465570745053313938466897849322554288428515324915059510398691770174646512110149643946741685570581185824100471152378685595321988017988554678367134948044695023425418560682674062614308044289866985970125390281360154622411044604859456168363769196013342823237995310785843527499089282195933480414088282135491602760617895861291990746955011404340573622836950102504360371912942885741074688318235816946926710830931699939033595025673653239454518862672429180400488777396890161792715991707025616169761602864750736877623983825383787227252304271564124303846568365600642220792826466594904072632623316521308633894588461751871161453711976249549401347811932739851426667007477818158580925366519074548824427627918865455387152564335565956689540763010340194192116550032355329816428626432364963092020399286822825722078572972951263027624104045553424938970310426647260189030737057985856025497815265632462774111693468131438035562802750607657190342667042396058154262171124333598630475898479827038529200887227543677971959861381801196025918586265191413691983431238565814825405616076359891044213344094229692094389425826700295168079998639724097426989890570551469851604614513719226005589628918055385745358597086035202361838192627463988812762361996265072532460577754243349156933999525090651288082722827043068255399382523284056650310792610355447008682877184719126009676277517489333578602933308127869134242073779136611206213169272066869855494141356866184398544712465789860615483287861504878008351831710698648028729820251629851814946424183646217071981592815264088521035175074052096243964144928131775864719380834656867491300593815151193275771050454198031471885944364948750811220815920468576443553922929928367430547354365203574586879151057330003495388274163127194064832682134012842784215210380347591510289153689442605000706432386159485794870140322774661172184471477773135927741755540432845732488177712539805526419880137651091993826862011176884442510400419051118054995087912078483271657680328571377842211776080664391968133410 := by decide +kernel
theorem mn_a64_10 : mn_a 64 10 = 3057631701142966910067551131843860111503848129221012950464841038490418688845769043162460261317123477798091312714905570896257431616825127294444409790474492690964172287889892303935191990688590942996513598724808072336028846898935548985772743858158140442634623899749055191682232139483239816242231708841389210331397041632254019848837691153729055402680588450462201016220208884941911117854408701009025138558976316920036133672174726095049996773352522351226884133521845485342648725631252255280745150667276700150609702288138584163670781184678347130245431983199413304914478958920867446459670473475002401268053156620270800324572574871508286864734422198053631448518806907786546568942563534351028377193011251298455099414822219005305158777679474433555701825701783779055654628345663801578280944698656854046072940328284889998932216190920784955252363592622918336977081503669510829023746739552287179925771212592076730372405071420454682413845326713277414460922283467332516304607671947442019713790612757880666438688799885120584332512489767587269756208670165642946382366988751269070057659177478706452236437942946527373256274932996258204469333832716189926550262660760848728898905746770747974365743427813493809440360308126086458802006239671351747908442147847931000647961773354144801556141732081091762145363006921392735191626296191255744967000896010521654433986608461851476867830969151695421416402802471082093169440136531690499302105127824816940282523578895214537086198716716045896514417047812349727266551429663403062935941884253508287091744627912664345050593636017396844760727738741107142159184696198577207259983405926672399935604443511497953621656240956897565573079808054079661650126779886957974933922290959024174711085343098419153080568651753344272805895107510060010982883515277742294240284599107333742031431588652961777628138825056415653497352614481983854926923985751618549393324375692948990225562359520730869012945306474979166369906527593816866598301348725250171650715491766035637432770796790343793548752303382935475722867079393396245723167709614095393341251398637966833200284408458968210844568253068254871377037398691755459599206556746649751206722593585339813798897678998839360 := by decide +kernel
theorem mn_a33_10 : mn_a 32 10 + 1 = 1528815850571483455033775565921930055751924064610506475232420519245209344422884521581230130658561738899045656357452785448128715808412563647222204895237246345482086143944946151967595995344295471498256799362404036168014423449467774492886371929079070221317311949874527595841116069741619908121115854420694605165698520816127009924418845576864527701340294225231100508110104442470955558927204350504512569279488158460018066836087363047524998386676261175613442066760922742671324362815626127640372575333638350075304851144069292081835390592339173565122715991599706652457239479460433723229835236737501200634026578310135400162286287435754143432367211099026815724259403453893273284471281767175514188596505625649227549707411109502652579388839737216777850912850891889527827314172831900789140472349328427023036470164142444999466108095460392477626181796311459168488540751834755414511873369776143589962885606296038365186202535710227341206922663356638707230461141733666258152303835973721009856895306378940333219344399942560292166256244883793634878104335082821473191183494375634535028829588739353226118218971473263686628137466498129102234666916358094963275131330380424364449452873385373987182871713906746904720180154063043229401003119835675873954221073923965500323980886677072400778070866040545881072681503460696367595813148095627872483500448005260827216993304230925738433915484575847710708201401235541046584720068265845249651052563912408470141261789447607268543099358358022948257208523906174863633275714831701531467970942126754143545872313956332172525296818008698422380363869370553571079592348099288603629991702963336199967802221755748976810828120478448782786539904027039830825063389943478987466961145479512087355542671549209576540284325876672136402947553755030005491441757638871147120142299553666871015715794326480888814069412528207826748676307240991927463461992875809274696662187846474495112781179760365434506472653237489583184953263796908433299150674362625085825357745883017818716385398395171896774376151691467737861433539696698122861583854807047696670625699318983416600142204229484105422284126534127435688518699345877729799603278373324875603361296792669906899448839499419681 := by decide +kernel
def mn_R1 : List (List Nat) := [[2, 2, 0, 2, 0, 0, 2], [1, 0, 2, 0, 2, 0, 0, 2], [0, 1, 1, 0, 0, 2, 0, 0, 2], [0, 0, 0, 1, 1, 1, 0, 0, 0, 2], [0, 0, 0, 0, 0, 0, 1, 1, 1, 1]]
theorem mn_c2 : (mn_L 2).length = 10 := by decide +kernel
theorem mn_e1 : mn_rels mn_bd (mn_L 2) (mn_L 1) mn_R1 = true := by decide +kernel
theorem mn_ck1 : mn_chk mn_lv10 1385489364580406881124359106616749113025181183553271493179381095565970968383239097682989805909321575877260126073941586812366648701373885805295123186308754500593140567950107450220633870780767771045295224422178657777263071251080170634178274560727907388068813954573790633731011438203343041734761243068754485931414284489615102744004578804033478229339641641615684835474782150989303475277778942644714515909536143604391373070204172761819529787925361690399681873002086235545887703801661178174087646396109754755745021349312795949163322724307376043392461367387234153789373278261018061677038183293360463074586586593560206397071947988652192485582785058493051750110084380090778914052099101502809733415583223244612466922341317986778900071136011852704927389771120774884593503469128910090158553066578886989626801086254090780766160461510980682848727252907259871442740056350247094401385241359630128403865080705784768449996047987393527968773663666953828427605409696135046450525351351184665182811371405914676980030862447945264775669721925937981608282053668806960079510041777918797369876814795038861169635942897645216006749579013929498900166892949523560468087768157259580282316666505495175884477490727989382402663264619632926644659077351081260771012848243593734668607678551096863205126722349244704722117612511256083133705665461662759438172281004767624665400181959276450455735907896861987829307519869709073467402561865922257496266386045620176065518496686894087117183793511958296858095224789970970167656116566229512892848666302370942588446784522926031351050241320382945282204756617064173790880565464980297039679980810523431220820763466147510234812984183594209400301788024504846685213697136277832391933538090807829165960546091471178739632670325734123615171220590495942476619092860226977077628958970510601857992438608373305487750405103688342990987903437148934263762431043702155193850107735867511195957944157831175021490841996474934761363895315948267677355298641128984029230457206484898211724267295624531451778387470392637436924145350132673843310368418886975107754540007828721293878872582969970538944989671552988592720071282201692630890471025825668515546175218357103127625510796349085 1624366841232201170973386538792050684236419318648663129934446801698034928449314804180057013824721847580236009879793584538636760546438348875173592701189574242074716527941505286465570745053313938466897849322554288428515324915059510398691770174646512110149643946741685570581185824100471152378685595321988017988554678367134948044695023425418560682674062614308044289866985970125390281360154622411044604859456168363769196013342823237995310785843527499089282195933480414088282135491602760617895861291990746955011404340573622836950102504360371912942885741074688318235816946926710830931699939033595025673653239454518862672429180400488777396890161792715991707025616169761602864750736877623983825383787227252304271564124303846568365600642220792826466594904072632623316521308633894588461751871161453711976249549401347811932739851426667007477818158580925366519074548824427627918865455387152564335565956689540763010340194192116550032355329816428626432364963092020399286822825722078572972951263027624104045553424938970310426647260189030737057985856025497815265632462774111693468131438035562802750607657190342667042396058154262171124333598630475898479827038529200887227543677971959861381801196025918586265191413691983431238565814825405616076359891044213344094229692094389425826700295168079998639724097426989890570551469851604614513719226005589628918055385745358597086035202361838192627463988812762361996265072532460577754243349156933999525090651288082722827043068255399382523284056650310792610355447008682877184719126009676277517489333578602933308127869134242073779136611206213169272066869855494141356866184398544712465789860615483287861504878008351831710698648028729820251629851814946424183646217071981592815264088521035175074052096243964144928131775864719380834656867491300593815151193275771050454198031471885944364948750811220815920468576443553922929928367430547354365203574586879151057330003495388274163127194064832682134012842784215210380347591510289153689442605000706432386159485794870140322774661172184471477773135927741755540432845732488177712539805526419880137651091993826862011176884442510400419051118054995087912078483271657680328571377842211776080664391968133410 3057631701142966910067551131843860111503848129221012950464841038490418688845769043162460261317123477798091312714905570896257431616825127294444409790474492690964172287889892303935191990688590942996513598724808072336028846898935548985772743858158140442634623899749055191682232139483239816242231708841389210331397041632254019848837691153729055402680588450462201016220208884941911117854408701009025138558976316920036133672174726095049996773352522351226884133521845485342648725631252255280745150667276700150609702288138584163670781184678347130245431983199413304914478958920867446459670473475002401268053156620270800324572574871508286864734422198053631448518806907786546568942563534351028377193011251298455099414822219005305158777679474433555701825701783779055654628345663801578280944698656854046072940328284889998932216190920784955252363592622918336977081503669510829023746739552287179925771212592076730372405071420454682413845326713277414460922283467332516304607671947442019713790612757880666438688799885120584332512489767587269756208670165642946382366988751269070057659177478706452236437942946527373256274932996258204469333832716189926550262660760848728898905746770747974365743427813493809440360308126086458802006239671351747908442147847931000647961773354144801556141732081091762145363006921392735191626296191255744967000896010521654433986608461851476867830969151695421416402802471082093169440136531690499302105127824816940282523578895214537086198716716045896514417047812349727266551429663403062935941884253508287091744627912664345050593636017396844760727738741107142159184696198577207259983405926672399935604443511497953621656240956897565573079808054079661650126779886957974933922290959024174711085343098419153080568651753344272805895107510060010982883515277742294240284599107333742031431588652961777628138825056415653497352614481983854926923985751618549393324375692948990225562359520730869012945306474979166369906527593816866598301348725250171650715491766035637432770796790343793548752303382935475722867079393396245723167709614095393341251398637966833200284408458968210844568253068254871377037398691755459599206556746649751206722593585339813798897678998839360 mn_R1 1528815850571483455033775565921930055751924064610506475232420519245209344422884521581230130658561738899045656357452785448128715808412563647222204895237246345482086143944946151967595995344295471498256799362404036168014423449467774492886371929079070221317311949874527595841116069741619908121115854420694605165698520816127009924418845576864527701340294225231100508110104442470955558927204350504512569279488158460018066836087363047524998386676261175613442066760922742671324362815626127640372575333638350075304851144069292081835390592339173565122715991599706652457239479460433723229835236737501200634026578310135400162286287435754143432367211099026815724259403453893273284471281767175514188596505625649227549707411109502652579388839737216777850912850891889527827314172831900789140472349328427023036470164142444999466108095460392477626181796311459168488540751834755414511873369776143589962885606296038365186202535710227341206922663356638707230461141733666258152303835973721009856895306378940333219344399942560292166256244883793634878104335082821473191183494375634535028829588739353226118218971473263686628137466498129102234666916358094963275131330380424364449452873385373987182871713906746904720180154063043229401003119835675873954221073923965500323980886677072400778070866040545881072681503460696367595813148095627872483500448005260827216993304230925738433915484575847710708201401235541046584720068265845249651052563912408470141261789447607268543099358358022948257208523906174863633275714831701531467970942126754143545872313956332172525296818008698422380363869370553571079592348099288603629991702963336199967802221755748976810828120478448782786539904027039830825063389943478987466961145479512087355542671549209576540284325876672136402947553755030005491441757638871147120142299553666871015715794326480888814069412528207826748676307240991927463461992875809274696662187846474495112781179760365434506472653237489583184953263796908433299150674362625085825357745883017818716385398395171896774376151691467737861433539696698122861583854807047696670625699318983416600142204229484105422284126534127435688518699345877729799603278373324875603361296792669906899448839499419681 = true := by decide +kernel
def mn_R2 : List (List Nat) := [[1, 1, 0, 0, 1], [2, 0, 1, 0, 0, 1], [1, 0, 0, 1, 0, 0, 1], [0, 2, 2, 0, 0, 0, 0, 1], [0, 1, 0, 2, 0, 0, 0, 0, 1], [0, 0, 1, 1, 0, 0, 0, 0, 0, 1], [0, 0, 0, 0, 2, 2, 0, 2], [0, 0, 0, 0, 1, 0, 2, 0, 2], [0, 0, 0, 0, 0, 1, 1, 0, 0, 2], [0, 0, 0, 0, 0, 0, 0, 1, 1, 1]]
theorem mn_c3 : (mn_L 3).length = 10 := by decide +kernel
theorem mn_e2 : mn_rels mn_bd (mn_L 3) (mn_L 2) mn_R2 = true := by decide +kernel
theorem mn_ck2 : mn_chk mn_lv10 1385489364580406881124359106616749113025181183553271493179381095565970968383239097682989805909321575877260126073941586812366648701373885805295123186308754500593140567950107450220633870780767771045295224422178657777263071251080170634178274560727907388068813954573790633731011438203343041734761243068754485931414284489615102744004578804033478229339641641615684835474782150989303475277778942644714515909536143604391373070204172761819529787925361690399681873002086235545887703801661178174087646396109754755745021349312795949163322724307376043392461367387234153789373278261018061677038183293360463074586586593560206397071947988652192485582785058493051750110084380090778914052099101502809733415583223244612466922341317986778900071136011852704927389771120774884593503469128910090158553066578886989626801086254090780766160461510980682848727252907259871442740056350247094401385241359630128403865080705784768449996047987393527968773663666953828427605409696135046450525351351184665182811371405914676980030862447945264775669721925937981608282053668806960079510041777918797369876814795038861169635942897645216006749579013929498900166892949523560468087768157259580282316666505495175884477490727989382402663264619632926644659077351081260771012848243593734668607678551096863205126722349244704722117612511256083133705665461662759438172281004767624665400181959276450455735907896861987829307519869709073467402561865922257496266386045620176065518496686894087117183793511958296858095224789970970167656116566229512892848666302370942588446784522926031351050241320382945282204756617064173790880565464980297039679980810523431220820763466147510234812984183594209400301788024504846685213697136277832391933538090807829165960546091471178739632670325734123615171220590495942476619092860226977077628958970510601857992438608373305487750405103688342990987903437148934263762431043702155193850107735867511195957944157831175021490841996474934761363895315948267677355298641128984029230457206484898211724267295624531451778387470392637436924145350132673843310368418886975107754540007828721293878872582969970538944989671552988592720071282201692630890471025825668515546175218357103127625510796349085 1624366841232201170973386538792050684236419318648663129934446801698034928449314804180057013824721847580236009879793584538636760546438348875173592701189574242074716527941505286465570745053313938466897849322554288428515324915059510398691770174646512110149643946741685570581185824100471152378685595321988017988554678367134948044695023425418560682674062614308044289866985970125390281360154622411044604859456168363769196013342823237995310785843527499089282195933480414088282135491602760617895861291990746955011404340573622836950102504360371912942885741074688318235816946926710830931699939033595025673653239454518862672429180400488777396890161792715991707025616169761602864750736877623983825383787227252304271564124303846568365600642220792826466594904072632623316521308633894588461751871161453711976249549401347811932739851426667007477818158580925366519074548824427627918865455387152564335565956689540763010340194192116550032355329816428626432364963092020399286822825722078572972951263027624104045553424938970310426647260189030737057985856025497815265632462774111693468131438035562802750607657190342667042396058154262171124333598630475898479827038529200887227543677971959861381801196025918586265191413691983431238565814825405616076359891044213344094229692094389425826700295168079998639724097426989890570551469851604614513719226005589628918055385745358597086035202361838192627463988812762361996265072532460577754243349156933999525090651288082722827043068255399382523284056650310792610355447008682877184719126009676277517489333578602933308127869134242073779136611206213169272066869855494141356866184398544712465789860615483287861504878008351831710698648028729820251629851814946424183646217071981592815264088521035175074052096243964144928131775864719380834656867491300593815151193275771050454198031471885944364948750811220815920468576443553922929928367430547354365203574586879151057330003495388274163127194064832682134012842784215210380347591510289153689442605000706432386159485794870140322774661172184471477773135927741755540432845732488177712539805526419880137651091993826862011176884442510400419051118054995087912078483271657680328571377842211776080664391968133410 3057631701142966910067551131843860111503848129221012950464841038490418688845769043162460261317123477798091312714905570896257431616825127294444409790474492690964172287889892303935191990688590942996513598724808072336028846898935548985772743858158140442634623899749055191682232139483239816242231708841389210331397041632254019848837691153729055402680588450462201016220208884941911117854408701009025138558976316920036133672174726095049996773352522351226884133521845485342648725631252255280745150667276700150609702288138584163670781184678347130245431983199413304914478958920867446459670473475002401268053156620270800324572574871508286864734422198053631448518806907786546568942563534351028377193011251298455099414822219005305158777679474433555701825701783779055654628345663801578280944698656854046072940328284889998932216190920784955252363592622918336977081503669510829023746739552287179925771212592076730372405071420454682413845326713277414460922283467332516304607671947442019713790612757880666438688799885120584332512489767587269756208670165642946382366988751269070057659177478706452236437942946527373256274932996258204469333832716189926550262660760848728898905746770747974365743427813493809440360308126086458802006239671351747908442147847931000647961773354144801556141732081091762145363006921392735191626296191255744967000896010521654433986608461851476867830969151695421416402802471082093169440136531690499302105127824816940282523578895214537086198716716045896514417047812349727266551429663403062935941884253508287091744627912664345050593636017396844760727738741107142159184696198577207259983405926672399935604443511497953621656240956897565573079808054079661650126779886957974933922290959024174711085343098419153080568651753344272805895107510060010982883515277742294240284599107333742031431588652961777628138825056415653497352614481983854926923985751618549393324375692948990225562359520730869012945306474979166369906527593816866598301348725250171650715491766035637432770796790343793548752303382935475722867079393396245723167709614095393341251398637966833200284408458968210844568253068254871377037398691755459599206556746649751206722593585339813798897678998839360 mn_R2 1528815850571483455033775565921930055751924064610506475232420519245209344422884521581230130658561738899045656357452785448128715808412563647222204895237246345482086143944946151967595995344295471498256799362404036168014423449467774492886371929079070221317311949874527595841116069741619908121115854420694605165698520816127009924418845576864527701340294225231100508110104442470955558927204350504512569279488158460018066836087363047524998386676261175613442066760922742671324362815626127640372575333638350075304851144069292081835390592339173565122715991599706652457239479460433723229835236737501200634026578310135400162286287435754143432367211099026815724259403453893273284471281767175514188596505625649227549707411109502652579388839737216777850912850891889527827314172831900789140472349328427023036470164142444999466108095460392477626181796311459168488540751834755414511873369776143589962885606296038365186202535710227341206922663356638707230461141733666258152303835973721009856895306378940333219344399942560292166256244883793634878104335082821473191183494375634535028829588739353226118218971473263686628137466498129102234666916358094963275131330380424364449452873385373987182871713906746904720180154063043229401003119835675873954221073923965500323980886677072400778070866040545881072681503460696367595813148095627872483500448005260827216993304230925738433915484575847710708201401235541046584720068265845249651052563912408470141261789447607268543099358358022948257208523906174863633275714831701531467970942126754143545872313956332172525296818008698422380363869370553571079592348099288603629991702963336199967802221755748976810828120478448782786539904027039830825063389943478987466961145479512087355542671549209576540284325876672136402947553755030005491441757638871147120142299553666871015715794326480888814069412528207826748676307240991927463461992875809274696662187846474495112781179760365434506472653237489583184953263796908433299150674362625085825357745883017818716385398395171896774376151691467737861433539696698122861583854807047696670625699318983416600142204229484105422284126534127435688518699345877729799603278373324875603361296792669906899448839499419681 = true := by decide +kernel
def mn_R3 : List (List Nat) := [[2, 2], [1, 0, 2], [2, 0, 0, 2], [1, 0, 0, 0, 2], [0, 1, 1], [0, 2, 0, 1], [0, 1, 0, 0, 1], [0, 0, 2, 2], [0, 0, 1, 0, 2], [0, 0, 0, 1, 1]]
theorem mn_c4 : (mn_L 4).length = 5 := by decide +kernel
theorem mn_e3 : mn_rels mn_bd (mn_L 4) (mn_L 3) mn_R3 = true := by decide +kernel
theorem mn_ck3 : mn_chk mn_lv5 6156208294073768142089318405697395980594308568926587416944918875805 7217623517189935063139200889438326322076085908396688695728525578530 13586114855886936589438495791883908370966749945217296368430165794880 mn_R3 6793057427943468294719247895941954185483374972608648184215082897441 = true := by decide +kernel
def mn_R4 : List (List Nat) := [[1], [2], [1], [2], [1]]
theorem mn_c5 : (mn_L 5).length = 1 := by decide +kernel
theorem mn_e4 : mn_rels mn_bd (mn_L 5) (mn_L 4) mn_R4 = true := by decide +kernel
theorem mn_ck4 : mn_chk mn_lv1 3741 4386 8256 mn_R4 4129 = true := by decide +kernel
def mn_R5 : List (List Nat) := [[]]
theorem mn_c6 : (mn_L 6).length = 0 := by decide +kernel
theorem mn_e5 : mn_rels mn_bd (mn_L 6) (mn_L 5) mn_R5 = true := by decide +kernel
theorem mn_ck5 : mn_chk mn_lv0 29 34 64 mn_R5 33 = true := by decide +kernel
def mn_R6 : List (List Nat) := []
theorem mn_c7 : (mn_L 7).length = 0 := by decide +kernel
theorem mn_e6 : mn_rels mn_bd (mn_L 7) (mn_L 6) mn_R6 = true := by decide +kernel
theorem mn_ck6 : mn_chk mn_lv0 29 34 64 mn_R6 33 = true := by decide +kernel
theorem mn_small {k : Nat} (h1 : 1 ≤ k) (h6 : k ≤ 6) (rs cs : List Nat) (hr : ∀ x, x ∈ rs → x ∈ mn_L k) (hc : ∀ x, x ∈ cs → x ∈ mn_L (k + 1)) : dt_b2 (dt_D mn_bd rs cs) := by
  have hk : k = 1 ∨ k = 2 ∨ k = 3 ∨ k = 4 ∨ k = 5 ∨ k = 6 := by omega
  rcases hk with e | e | e | e | e | e <;> subst e
  · exact mn_all mn_bd mn_bd_u (mn_L 1) (mn_L 2) mn_R1 (by rw [mn_c2]; decide) mn_e1 (by rw [mn_c2, mn_lve10, mn_a29_10, mn_a34_10, mn_a64_10, mn_a33_10]; exact mn_ck1) rs cs hr hc
  · exact mn_all mn_bd mn_bd_u (mn_L 2) (mn_L 3) mn_R2 (by rw [mn_c3]; decide) mn_e2 (by rw [mn_c3, mn_lve10, mn_a29_10, mn_a34_10, mn_a64_10, mn_a33_10]; exact mn_ck2) rs cs hr hc
  · exact mn_all mn_bd mn_bd_u (mn_L 3) (mn_L 4) mn_R3 (by rw [mn_c4]; decide) mn_e3 (by rw [mn_c4, mn_lve5, mn_a29_5, mn_a34_5, mn_a64_5, mn_a33_5]; exact mn_ck3) rs cs hr hc
  · exact mn_all mn_bd mn_bd_u (mn_L 4) (mn_L 5) mn_R4 (by rw [mn_c5]; decide) mn_e4 (by rw [mn_c5, mn_lve1, mn_a29_1, mn_a34_1, mn_a64_1, mn_a33_1]; exact mn_ck4) rs cs hr hc
  · exact mn_all mn_bd mn_bd_u (mn_L 5) (mn_L 6) mn_R5 (by rw [mn_c6]; decide) mn_e5 (by rw [mn_c6, mn_lve0, mn_a29_0, mn_a34_0, mn_a64_0, mn_a33_0]; exact mn_ck5) rs cs hr hc
  · exact mn_all mn_bd mn_bd_u (mn_L 6) (mn_L 7) mn_R6 (by rw [mn_c7]; decide) mn_e6 (by rw [mn_c7, mn_lve0, mn_a29_0, mn_a34_0, mn_a64_0, mn_a33_0]; exact mn_ck6) rs cs hr hc
end
section
/-! elimination over the boundary matrix of a complex: what can come up -/
theorem el_memL {k s : Nat} (h : s < 32) (hp : mn_pc s = k) : s ∈ mn_L k := by
  unfold mn_L
  rw [List.mem_filter, List.mem_range]
  exact ⟨h, by rw [hp]; exact beq_self_eq_true k⟩
theorem el_cone : ∀ c, c < 64 → 32 ≤ c → ∀ l, l < 32 → l ≠ c - 32 → mn_bd l c = 0 := by decide +kernel
theorem el_bdn {r t : Nat} (h : mn_bd r t ≠ 0) : r &&& t = r ∧ mn_pc r + 1 = mn_pc t := by
  unfold mn_bd at h
  by_cases c : r &&& t = r ∧ mn_pc r + 1 = mn_pc t
  · exact c
  · rw [if_neg c] at h
    exact absurd rfl h
theorem el_big {k : Nat} (h1 : 1 ≤ k) (h6 : k ≤ 6) : ∀ (n : Nat) (rs cs : List Nat), cs.length = n → (∀ r, r ∈ rs → r < 32 ∧ mn_pc r = k) → (∀ c, c ∈ cs → c < 64 ∧ mn_pc c = k + 1) → dt_b2 (dt_D mn_bd rs cs) := by
  intro n
  induction n with
  | zero =>
    intro rs cs hn hr hc
    have e : cs = [] := List.length_eq_zero_iff.mp hn
    subst e
    exact mn_small h1 h6 rs [] (fun x hx => el_memL (hr x hx).1 (hr x hx).2) (fun x hx => absurd hx (by simp))
  | succ n ih =>
    intro rs cs hn hr hc
    by_cases hx : ∃ c, c ∈ cs ∧ 32 ≤ c
    · obtain ⟨c, hcc, h32⟩ := hx
      have p := List.perm_cons_erase hcc
      refine dt_b2_pm ?_ (dt_cperm p.symm (dt_D mn_bd rs) (dt_alt_D mn_bd rs))
      by_cases hrr : (c - 32) ∈ rs
      · have q := List.perm_cons_erase hrr
        obtain ⟨ε, hε, e⟩ := dt_rperm (S := mn_bd) q.symm
        rw [e]
        refine dt_b2_pm (x := dt_D mn_bd ((c - 32) :: rs.erase (c - 32)) (c :: cs.erase c)) ?_ (by rcases hε with e | e <;> subst e <;> omega)
        by_cases hd : (c - 32) ∈ rs.erase (c - 32)
        · obtain ⟨ε', _, e'⟩ := dt_rperm (S := mn_bd) ((List.perm_cons_erase hd).cons (c - 32)).symm
          rw [e', show dt_D mn_bd ((c - 32) :: (c - 32) :: (rs.erase (c - 32)).erase (c - 32)) (c :: cs.erase c) = 0 from dt_self _ _ _, Int.mul_zero]
          exact dt_b2_0
        · have z : dt_ex (mn_bd (c - 32)) (cs.erase c) (fun s => dt_D mn_bd (rs.erase (c - 32)) (c :: s)) = 0 :=
            dt_ex_0 _ _ _ (fun s _ => dt_zcol _ (fun l hl => el_cone c (hc c hcc).1 h32 l (hr l (List.mem_of_mem_erase hl)).1 (fun e => hd (by have q := hl; rw [e] at q; exact q))) s)
          show dt_b2 (mn_bd (c - 32) c * dt_D mn_bd (rs.erase (c - 32)) (cs.erase c) - dt_ex (mn_bd (c - 32)) (cs.erase c) (fun s => dt_D mn_bd (rs.erase (c - 32)) (c :: s)))
          rw [z]
          have k := ih (rs.erase (c - 32)) (cs.erase c) (by rw [List.length_erase_of_mem hcc, hn]; rfl) (fun r hr' => hr r (List.mem_of_mem_erase hr')) (fun x hx' => hc x (List.mem_of_mem_erase hx'))
          rcases mn_bd_u (c - 32) c with e | e | e <;> rw [e]
          · rw [Int.zero_mul]; exact dt_b2_0
          · exact dt_b2_pm k (Or.inl (by omega))
          · exact dt_b2_pm k (Or.inr (by omega))
      · rw [dt_zcol rs (fun l hl => el_cone c (hc c hcc).1 h32 l (hr l hl).1 (fun e => hrr (e ▸ hl)))]
        exact dt_b2_0
    · refine mn_small h1 h6 rs cs (fun x hx => el_memL (hr x hx).1 (hr x hx).2) (fun x hx' => el_memL ?_ (hc x hx').2)
      rcases Nat.lt_or_ge x 32 with l | l
      · exact l
      · exact absurd ⟨x, hx', l⟩ hx
theorem el_D_c {S S' : Nat → Nat → Int} (rs : List Nat) : ∀ cs : List Nat, (∀ r, r ∈ rs → ∀ c, c ∈ cs → S r c = S' r c) → dt_D S rs cs = dt_D S' rs cs := by
  induction rs with
  | nil => intro cs _; rfl
  | cons r rs ih =>
    intro cs h
    exact dt_ex_c _ _ cs _ _ (fun c hc => h r List.mem_cons_self c hc) (fun t ht => ih t (fun r' hr' c hc => h r' (List.mem_cons_of_mem r hr') c (ht c hc)))
/-- the complex X is closed under nonempty parts -/
def el_cl (X : Nat → Bool) : Prop := ∀ s t, s < 64 → X s = true → 0 < t → t &&& s = t → X t = true
/-- the boundary matrix of X: columns are the sets of X with k + 1 vertices -/
def el_S (X : Nat → Bool) (k ρ t : Nat) : Int := if t < 64 ∧ X t = true ∧ mn_pc t = k + 1 then mn_bd ρ t else 0
def el_kf (ρ τ : Nat) : Int := -(mn_bd (ρ - 32) ρ * mn_bd (ρ - 32) τ)
theorem el_mb (X : Nat → Bool) {k : Nat} (h1 : 1 ≤ k) (h6 : k ≤ 6) (rs cs : List Nat) (hr : ∀ r, r ∈ rs → r < 32) : dt_b2 (dt_D (el_S X k) rs cs) := by
  by_cases hc : ∃ c, c ∈ cs ∧ ¬ (c < 64 ∧ X c = true ∧ mn_pc c = k + 1)
  · obtain ⟨c, hcc, hn⟩ := hc
    refine dt_b2_pm ?_ (dt_cperm (List.perm_cons_erase hcc).symm (dt_D (el_S X k) rs) (dt_alt_D (el_S X k) rs))
    rw [dt_zcol rs (fun l _ => by unfold el_S; rw [if_neg hn])]
    exact dt_b2_0
  · have hc' : ∀ c, c ∈ cs → c < 64 ∧ X c = true ∧ mn_pc c = k + 1 := fun c h => Classical.byContradiction (fun n => hc ⟨c, h, n⟩)
    by_cases hq : ∃ r, r ∈ rs ∧ ¬ mn_pc r = k
    · obtain ⟨r, hrr, hn⟩ := hq
      obtain ⟨ε, _, e⟩ := dt_rperm (S := el_S X k) (List.perm_cons_erase hrr).symm
      have z : dt_D (el_S X k) (r :: rs.erase r) cs = 0 := dt_ex_0f _ cs (fun c hcc => by
        unfold el_S
        rw [if_pos (hc' c hcc)]
        apply Classical.byContradiction
        intro hh
        have := el_bdn hh
        have := (hc' c hcc).2.2
        omega) _
      rw [e, z, Int.mul_zero]
      exact dt_b2_0
    · rw [el_D_c (S := el_S X k) (S' := mn_bd) rs cs (fun r _ c hcc => by unfold el_S; rw [if_pos (hc' c hcc)])]
      exact el_big h1 h6 _ rs cs rfl (fun r h => ⟨hr r h, Classical.byContradiction (fun n => hq ⟨r, h, n⟩)⟩) (fun c h => ⟨(hc' c h).1, (hc' c h).2.2⟩)
theorem el_relK : ∀ ρ, ρ < 64 → 32 ≤ ρ → ∀ t, t < 64 → mn_pc t = mn_pc ρ + 1 → mn_bd ρ t = la_sm 32 (fun τ => el_kf ρ τ * mn_bd τ t) := by decide +kernel
theorem el_pcK : ∀ ρ, ρ < 64 → 32 ≤ ρ → mn_pc (ρ - 32) + 1 = mn_pc ρ := by decide +kernel
theorem el_rel0 {ρ t : Nat} (h : ρ < 64) (h32 : 32 ≤ ρ) (ht : t < 64) : mn_bd ρ t = la_sm 32 (fun τ => el_kf ρ τ * mn_bd τ t) := by
  by_cases e : mn_pc t = mn_pc ρ + 1
  · exact el_relK ρ h h32 t ht e
  · have z : mn_bd ρ t = 0 := Classical.byContradiction (fun hh => by have := (el_bdn hh).2; omega)
    rw [z, la_sm_0]
    intro τ _
    by_cases a : mn_bd (ρ - 32) τ = 0
    · show -(mn_bd (ρ - 32) ρ * mn_bd (ρ - 32) τ) * mn_bd τ t = 0
      rw [a]; simp
    · have b : mn_bd τ t = 0 := Classical.byContradiction (fun hh => by have := (el_bdn hh).2; have := (el_bdn a).2; have := el_pcK ρ h h32; omega)
      rw [b, Int.mul_zero]
/-- what holds of the matrix all along -/
def el_ok (X : Nat → Bool) (k : Nat) (S : Nat → Nat → Int) : Prop :=
  (∀ ρ t, S ρ t ≠ 0 → (ρ < 64 ∧ X ρ = true ∧ mn_pc ρ = k) ∧ (t < 64 ∧ X t = true ∧ mn_pc t = k + 1)) ∧
  (∀ rs cs : List Nat, (∀ r, r ∈ rs → r < 32) → dt_b2 (dt_D S rs cs)) ∧
  (∀ ρ t, 32 ≤ ρ → ρ < 64 → S ρ t = la_sm 32 (fun τ => el_kf ρ τ * S τ t))
theorem el_ok0 {X : Nat → Bool} (hX : el_cl X) {k : Nat} (h1 : 1 ≤ k) (h6 : k ≤ 6) : el_ok X k (el_S X k) := by
  refine ⟨fun ρ t h => ?_, fun rs cs hr => el_mb X h1 h6 rs cs hr, fun ρ t h32 h64 => ?_⟩
  · unfold el_S at h
    by_cases c : t < 64 ∧ X t = true ∧ mn_pc t = k + 1
    · rw [if_pos c] at h
      obtain ⟨a, b⟩ := el_bdn h
      have l : ρ ≤ t := by rw [← a]; exact Nat.and_le_right
      have p : 0 < ρ := by
        rcases Nat.eq_zero_or_pos ρ with e | e
        · subst e
          have : mn_pc 0 = 0 := rfl
          omega
        · exact e
      exact ⟨⟨by omega, hX t ρ c.1 c.2.1 p a, by omega⟩, c⟩
    · rw [if_neg c] at h
      exact absurd rfl h
  · unfold el_S
    by_cases c : t < 64 ∧ X t = true ∧ mn_pc t = k + 1
    · rw [if_pos c, el_rel0 h64 h32 c.1]
      exact la_sm_c (fun τ _ => by rw [if_pos c])
    · rw [if_neg c, la_sm_0]
      intro τ _
      rw [if_neg c, Int.mul_zero]
theorem el_e2 {X : Nat → Bool} {k : Nat} {S : Nat → Nat → Int} (h : el_ok X k S) {ρ : Nat} (hr : ρ < 32) (t : Nat) : -2 ≤ S ρ t ∧ S ρ t ≤ 2 := by
  have := h.2.1 [ρ] [t] (fun r hr' => by rw [List.mem_singleton.mp hr']; exact hr)
  rw [dt_D1] at this
  exact this
theorem el_e64 {X : Nat → Bool} {k : Nat} {S : Nat → Nat → Int} (h : el_ok X k S) (ρ t : Nat) : -64 ≤ S ρ t ∧ S ρ t ≤ 64 := by
  by_cases hr : ρ < 32
  · have := el_e2 h hr t
    omega
  · by_cases h64 : ρ < 64
    · rw [h.2.2 ρ t (by omega) h64]
      have := la_sm_le (n := 32) (f := fun τ => el_kf ρ τ * S τ t) (b := 2) (fun τ hτ => by
        have e := el_e2 h hτ t
        have kf : el_kf ρ τ = 0 ∨ el_kf ρ τ = 1 ∨ el_kf ρ τ = -1 := by
          unfold el_kf
          rcases mn_bd_u (ρ - 32) ρ with a | a | a <;> rcases mn_bd_u (ρ - 32) τ with b | b | b <;> rw [a, b] <;> decide
        show -2 ≤ el_kf ρ τ * S τ t ∧ el_kf ρ τ * S τ t ≤ 2
        rcases kf with a | a | a <;> rw [a] <;> omega)
      omega
    · have z : S ρ t = 0 := Classical.byContradiction (fun hh => h64 (h.1 ρ t hh).1.1)
      rw [z]
      omega
theorem el_relL {S S' : Nat → Nat → Int} {ρ t j i : Nat} {c : Int} (h1 : S ρ t = la_sm 32 (fun τ => el_kf ρ τ * S τ t)) (h2 : S ρ j = la_sm 32 (fun τ => el_kf ρ τ * S τ j)) (hS : ∀ ρ t, S' ρ t = S ρ t - c * S ρ j * S i t) : S' ρ t = la_sm 32 (fun τ => el_kf ρ τ * S' τ t) := by
  have e : la_sm 32 (fun τ => el_kf ρ τ * S' τ t) = la_sm 32 (fun τ => el_kf ρ τ * S τ t) + -(c * S i t) * la_sm 32 (fun τ => el_kf ρ τ * S τ j) := by
    rw [← la_sm_mul, ← la_sm_add]
    exact la_sm_c (fun τ _ => by rw [hS]; grind)
  rw [e, hS, ← h1, ← h2]
  grind
theorem el_step {X : Nat → Bool} {k : Nat} {S S' : Nat → Nat → Int} {i j : Nat} (h : el_ok X k S) (hi : i < 32) (hc : S i j = 1 ∨ S i j = -1) (hS : ∀ ρ t, S' ρ t = S ρ t - S i j * S ρ j * S i t) : el_ok X k S' := by
  have hcc : S i j * S i j = 1 := by rcases hc with e | e <;> rw [e] <;> rfl
  refine ⟨fun ρ t hn => ?_, fun rs cs hr => ?_, fun ρ t h32 h64 => el_relL (h.2.2 ρ t h32 h64) (h.2.2 ρ j h32 h64) hS⟩
  · by_cases a : S ρ t = 0
    · by_cases b : S ρ j = 0
      · rw [hS, a, b] at hn
        simp at hn
      · by_cases d : S i t = 0
        · rw [hS, a, d] at hn
          simp at hn
        · exact ⟨(h.1 ρ j b).1, (h.1 i t d).2⟩
    · exact h.1 ρ t a
  · have t := dt_schur (S := S) (S' := S') (i := i) (j := j) (e := S i j) hcc hS rs cs
    have b := h.2.1 (i :: rs) (j :: cs) (fun r hr' => by
      rcases List.mem_cons.mp hr' with e | e
      · rw [e]; exact hi
      · exact hr r e)
    rw [t] at b
    exact dt_b2_pm b (by rcases hc with e | e <;> rw [e] <;> omega)
theorem el_nu {p c : Int} (hp : 2 ≤ p) (hc : c = 1 ∨ c = -1) : ¬ p ∣ c := by
  intro h
  obtain ⟨x, hx⟩ := h
  have e : p * (x * c) = 1 := by
    rw [← Int.mul_assoc, ← hx]
    rcases hc with e | e <;> rw [e] <;> rfl
  have := Int.le_of_dvd (by omega : (0 : Int) < 1) ⟨_, e.symm⟩
  omega
theorem el_rk {X : Nat → Bool} {k : Nat} {S S' : Nat → Nat → Int} {i j r : Nat} {p : Int} (h : el_ok X k S) (hp : la_pr p) (hp2 : 2 ≤ p) (hc : S i j = 1 ∨ S i j = -1) (hS : ∀ ρ t, S' ρ t = S ρ t - S i j * S ρ j * S i t) (hr : la_rk p 64 64 S' r) : la_rk p 64 64 S (r + 1) := by
  have hcc : S i j * S i j = 1 := by rcases hc with e | e <;> rw [e] <;> rfl
  have hz := h.1 i j (by rcases hc with e | e <;> rw [e] <;> decide)
  refine la_rk_step hp hz.1.1 hz.2.1 (el_nu hp2 hc) (fun a _ b _ => ⟨0, ?_⟩) hr
  rw [hS]
  grind
theorem el_even {X : Nat → Bool} {k : Nat} {S : Nat → Nat → Int} (h : el_ok X k S) (hn : ∀ ρ, ρ < 32 → ∀ t, S ρ t ≠ 1 ∧ S ρ t ≠ -1) (ρ t : Nat) : (2 : Int) ∣ S ρ t := by
  have first : ∀ ρ, ρ < 32 → (2 : Int) ∣ S ρ t := by
    intro ρ hr
    have a := el_e2 h hr t
    have b := hn ρ hr t
    omega
  by_cases hr : ρ < 32
  · exact first ρ hr
  · by_cases h64 : ρ < 64
    · rw [h.2.2 ρ t (by omega) h64]
      exact la_sm_dvd (fun τ hτ => Int.dvd_mul_of_dvd_right (first τ hτ))
    · rw [Classical.byContradiction (fun hh => h64 (h.1 ρ t hh).1.1 : ¬ S ρ t = 0 → False)]
      exact Int.dvd_zero 2
theorem el_two {X : Nat → Bool} {k : Nat} {S : Nat → Nat → Int} {i j : Nat} (h : el_ok X k S) (hn : ∀ ρ, ρ < 32 → ∀ t, S ρ t ≠ 1 ∧ S ρ t ≠ -1) (hi : i < 32) (ρ t : Nat) : S i j * S ρ t = S ρ j * S i t := by
  have first : ∀ ρ, ρ < 32 → S i j * S ρ t = S ρ j * S i t := by
    intro ρ hr
    have b := h.2.1 [i, ρ] [j, t] (fun r hr' => by
      rcases List.mem_cons.mp hr' with e | e
      · rw [e]; exact hi
      · rw [List.mem_singleton.mp e]; exact hr)
    rw [dt_D2] at b
    unfold dt_b2 at b
    obtain ⟨x1, e1⟩ := el_even h hn i j
    obtain ⟨x2, e2⟩ := el_even h hn ρ t
    obtain ⟨x3, e3⟩ := el_even h hn i t
    obtain ⟨x4, e4⟩ := el_even h hn ρ j
    rw [e1, e2, e3, e4] at b ⊢
    have k1 : 2 * x1 * (2 * x2) = 4 * (x1 * x2) := by grind
    have k2 : 2 * x3 * (2 * x4) = 4 * (x3 * x4) := by grind
    have k3 : 2 * x4 * (2 * x3) = 4 * (x3 * x4) := by grind
    rw [k1, k2] at b
    rw [k1, k3]
    omega
  by_cases hr : ρ < 32
  · exact first ρ hr
  · by_cases h64 : ρ < 64
    · rw [h.2.2 ρ t (by omega) h64, h.2.2 ρ j (by omega) h64, ← la_sm_mul, Int.mul_comm, ← la_sm_mul]
      exact la_sm_c (fun τ hτ => by have := first τ hτ; grind)
    · have z : ∀ t, S ρ t = 0 := fun t => Classical.byContradiction (fun hh => h64 (h.1 ρ t hh).1.1)
      rw [z, z]
      simp
/-- t ones and e twos are what the matrix comes to -/
def el_sm (X : Nat → Bool) (k t e : Nat) : Prop := e ≤ 1 ∧ (∀ p : Int, 3 ≤ p → la_pr p → la_rk p 64 64 (el_S X k) (t + e)) ∧ la_rk 2 64 64 (el_S X k) t
def el_run (X : Nat → Bool) (k : Nat) (S : Nat → Nat → Int) (t : Nat) : Prop := el_ok X k S ∧ ∀ p : Int, 2 ≤ p → la_pr p → ∀ r, la_rk p 64 64 S r → la_rk p 64 64 (el_S X k) (r + t)
theorem el_pr2 : la_pr 2 := fun c h => ⟨1, by omega⟩
theorem el_pr3 : la_pr 3 := fun c h => by
  have h3 : c % 3 = 1 ∨ c % 3 = 2 := by omega
  rcases h3 with e | e
  · exact ⟨1, by omega⟩
  · exact ⟨2, by omega⟩
theorem el_pr5 : la_pr 5 := fun c h => by
  have h3 : c % 5 = 1 ∨ c % 5 = 2 ∨ c % 5 = 3 ∨ c % 5 = 4 := by omega
  rcases h3 with e | e | e | e
  · exact ⟨1, by omega⟩
  · exact ⟨3, by omega⟩
  · exact ⟨2, by omega⟩
  · exact ⟨4, by omega⟩
theorem el_run0 {X : Nat → Bool} (hX : el_cl X) {k : Nat} (h1 : 1 ≤ k) (h6 : k ≤ 6) : el_run X k (el_S X k) 0 := ⟨el_ok0 hX h1 h6, fun _ _ _ _ h => h⟩
theorem el_runS {X : Nat → Bool} {k t : Nat} {S S' : Nat → Nat → Int} {i j : Nat} (h : el_run X k S t) (hi : i < 32) (hc : S i j = 1 ∨ S i j = -1) (hS : ∀ ρ t, S' ρ t = S ρ t - S i j * S ρ j * S i t) : el_run X k S' (t + 1) :=
  ⟨el_step h.1 hi hc hS, fun p hp2 hp r hr => by
    have := h.2 p hp2 hp (r + 1) (el_rk h.1 hp hp2 hc hS hr)
    rw [show r + (t + 1) = r + 1 + t by omega]
    exact this⟩
theorem el_end0 {X : Nat → Bool} {k t : Nat} {S : Nat → Nat → Int} (h : el_run X k S t) (hz : ∀ ρ t, S ρ t = 0) : el_sm X k t 0 := by
  have z : ∀ p : Int, la_rk p 64 64 S 0 := fun p => la_rk_0 (fun i _ j _ => by rw [hz]; exact Int.dvd_zero p)
  refine ⟨by omega, fun p h3 hp => ?_, ?_⟩
  · have := h.2 p (by omega) hp 0 (z p)
    rw [Nat.zero_add] at this
    exact this
  · have := h.2 2 (by omega) el_pr2 0 (z 2)
    rw [Nat.zero_add] at this
    exact this
theorem el_end2 {X : Nat → Bool} {k t : Nat} {S : Nat → Nat → Int} {i j : Nat} (h : el_run X k S t) (hn : ∀ ρ, ρ < 32 → ∀ t, S ρ t ≠ 1 ∧ S ρ t ≠ -1) (hi : i < 32) (hc : S i j = 2 ∨ S i j = -2) : el_sm X k t 1 := by
  have hz := h.1.1 i j (by rcases hc with e | e <;> rw [e] <;> decide)
  refine ⟨by omega, fun p h3 hp => ?_, ?_⟩
  · have r0 : la_rk p 64 64 (fun _ _ => 0) 0 := la_rk_0 (fun i _ j _ => Int.dvd_zero p)
    have r1 : la_rk p 64 64 S 1 := la_rk_step hp hz.1.1 hz.2.1 (fun hd => by
      obtain ⟨x, hx⟩ := hd
      have e : p * (x * (S i j)) = 4 := by
        rw [← Int.mul_assoc, ← hx]
        rcases hc with e | e <;> rw [e] <;> rfl
      rcases hc with e | e
      · have := Int.le_of_dvd (by omega : (0 : Int) < 2) (⟨x, by rw [← hx, e]⟩ : p ∣ 2)
        omega
      · have := Int.le_of_dvd (by omega : (0 : Int) < 2) (⟨-x, by rw [Int.mul_neg, ← hx, e]; rfl⟩ : p ∣ 2)
        omega) (fun a _ b _ => ⟨0, by have := el_two (j := j) h.1 hn hi a b; simp only [Int.mul_zero]; omega⟩) r0
    have := h.2 p (by omega) hp 1 r1
    rw [Nat.add_comm t 1]
    exact this
  · have := h.2 2 (by omega) el_pr2 0 (la_rk_0 (fun a _ b _ => el_even h.1 hn a b))
    rw [Nat.zero_add] at this
    exact this
theorem el_sm_u {X : Nat → Bool} {k t e t' e' : Nat} (h : el_sm X k t e) (h' : el_sm X k t' e') : t = t' ∧ e = e' := by
  have a := la_rk_u h.2.2 h'.2.2
  have b := la_rk_u (h.2.1 3 (by omega) el_pr3) (h'.2.1 3 (by omega) el_pr3)
  omega
noncomputable def el_ct (P : Nat → Prop) : Nat → Nat
  | 0 => 0
  | n + 1 => el_ct P n + @ite Nat (P n) (Classical.propDecidable _) 1 0
theorem el_ct_le {P Q : Nat → Prop} : ∀ n, (∀ i, i < n → Q i → P i) → el_ct Q n ≤ el_ct P n := by
  intro n
  induction n with
  | zero => intro _; exact Nat.le_refl _
  | succ n ih =>
    intro h
    have a := ih (fun i hi => h i (by omega))
    show el_ct Q n + _ ≤ el_ct P n + _
    by_cases q : Q n
    · rw [if_pos q, if_pos (h n (by omega) q)]; omega
    · rw [if_neg q]; omega
theorem el_ct_lt {P Q : Nat → Prop} {i : Nat} : ∀ n, i < n → P i → ¬ Q i → (∀ i, i < n → Q i → P i) → el_ct Q n < el_ct P n := by
  intro n
  induction n with
  | zero => intro h; omega
  | succ n ih =>
    intro hi hp hq h
    show el_ct Q n + _ < el_ct P n + _
    by_cases e : i = n
    · subst e
      have a := el_ct_le i (fun j hj => h j (by omega))
      rw [if_pos hp, if_neg hq]
      omega
    · have a := ih (by omega) hp hq (fun j hj => h j (by omega))
      by_cases q : Q n
      · rw [if_pos q, if_pos (h n (by omega) q)]; omega
      · rw [if_neg q]; omega
/-- how many of the first rows are not 0 -/
noncomputable def el_mu (S : Nat → Nat → Int) : Nat := el_ct (fun ρ => ∃ t, S ρ t ≠ 0) 32
theorem el_muS {S S' : Nat → Nat → Int} {i j : Nat} (hi : i < 32) (hc : S i j = 1 ∨ S i j = -1) (hS : ∀ ρ t, S' ρ t = S ρ t - S i j * S ρ j * S i t) : el_mu S' < el_mu S := by
  have hcc : S i j * S i j = 1 := by rcases hc with e | e <;> rw [e] <;> rfl
  refine el_ct_lt 32 hi ⟨j, by rcases hc with e | e <;> rw [e] <;> decide⟩ ?_ (fun ρ _ hq => ?_)
  · intro hq
    obtain ⟨t, ht⟩ := hq
    apply ht
    rw [hS, hcc]
    omega
  · obtain ⟨t, ht⟩ := hq
    by_cases a : S ρ t = 0
    · refine ⟨j, fun b => ht ?_⟩
      rw [hS, a, b]
      simp
    · exact ⟨t, a⟩
theorem el_zall {X : Nat → Bool} {k : Nat} {S : Nat → Nat → Int} (h : el_ok X k S) (hz : ∀ ρ, ρ < 32 → ∀ t, S ρ t = 0) (ρ t : Nat) : S ρ t = 0 := by
  by_cases hr : ρ < 32
  · exact hz ρ hr t
  · by_cases h64 : ρ < 64
    · rw [h.2.2 ρ t (by omega) h64]
      exact la_sm_0 (fun τ hτ => by rw [hz τ hτ, Int.mul_zero])
    · exact Classical.byContradiction (fun hh => h64 (h.1 ρ t hh).1.1)
theorem el_ex {X : Nat → Bool} (hX : el_cl X) {k : Nat} (h1 : 1 ≤ k) (h6 : k ≤ 6) : ∃ t e, el_sm X k t e := by
  have main : ∀ m S t, el_mu S ≤ m → el_run X k S t → ∃ t e, el_sm X k t e := by
    intro m
    induction m with
    | zero =>
      intro S t hm h
      refine ⟨t, 0, el_end0 h (el_zall h.1 (fun ρ hr t => ?_))⟩
      apply Classical.byContradiction
      intro hh
      have := el_ct_lt (P := fun ρ => ∃ t, S ρ t ≠ 0) (Q := fun _ => False) 32 hr ⟨t, hh⟩ (fun x => x) (fun _ _ x => x.elim)
      have : el_mu S = el_ct (fun ρ => ∃ t, S ρ t ≠ 0) 32 := rfl
      omega
    | succ m ih =>
      intro S t hm h
      by_cases hu : ∃ i j, i < 32 ∧ (S i j = 1 ∨ S i j = -1)
      · obtain ⟨i, j, hi, hc⟩ := hu
        have l := el_muS (S' := fun ρ t => S ρ t - S i j * S ρ j * S i t) hi hc (fun _ _ => rfl)
        exact ih _ (t + 1) (by omega) (el_runS h hi hc (fun _ _ => rfl))
      · have hn : ∀ ρ, ρ < 32 → ∀ t, S ρ t ≠ 1 ∧ S ρ t ≠ -1 := fun ρ hr t => ⟨fun e => hu ⟨ρ, t, hr, Or.inl e⟩, fun e => hu ⟨ρ, t, hr, Or.inr e⟩⟩
        by_cases hz : ∃ i j, i < 32 ∧ S i j ≠ 0
        · obtain ⟨i, j, hi, hc⟩ := hz
          have a := el_e2 h.1 hi j
          have b := hn i hi j
          exact ⟨t, 1, el_end2 (i := i) (j := j) h hn hi (by omega)⟩
        · exact ⟨t, 0, el_end0 h (el_zall h.1 (fun ρ hr t => Classical.byContradiction (fun e => hz ⟨ρ, t, hr, e⟩)))⟩
  exact main _ _ _ (Nat.le_refl _) (el_run0 hX h1 h6)
theorem el_piv {X : Nat → Bool} {k : Nat} {S : Nat → Nat → Int} {i j : Nat} (h : el_ok X k S) (h0 : S i j ≠ 0) (hmin : ∀ ρ t, S ρ t ≠ 0 → (S i j).natAbs ≤ (S ρ t).natAbs) (hfst : ∀ ρ t, ρ < i → S ρ t ≠ 0 → (S i j).natAbs < (S ρ t).natAbs) :
    i < 32 ∧ ((S i j = 1 ∨ S i j = -1) ∨ ((S i j = 2 ∨ S i j = -2) ∧ ∀ ρ, ρ < 32 → ∀ t, S ρ t ≠ 1 ∧ S ρ t ≠ -1)) := by
  have hi : i < 32 := by
    rcases Nat.lt_or_ge i 32 with l | l
    · exact l
    · have h64 := (h.1 i j h0).1.1
      by_cases hv : (S i j).natAbs = 1
      · have hn : ∀ ρ, ρ < 32 → ∀ t, S ρ t ≠ 1 ∧ S ρ t ≠ -1 := by
          intro ρ hr t
          refine ⟨fun e => ?_, fun e => ?_⟩
          · have := hfst ρ t (by omega) (by omega)
            omega
          · have := hfst ρ t (by omega) (by omega)
            omega
        have := el_even h hn i j
        omega
      · exfalso
        apply h0
        rw [h.2.2 i j l h64]
        refine la_sm_0 (fun τ hτ => ?_)
        have : S τ j = 0 := by
          apply Classical.byContradiction
          intro hh
          have a := hfst τ j (by omega) hh
          have b := el_e2 h hτ j
          omega
        rw [this, Int.mul_zero]
  refine ⟨hi, ?_⟩
  have b := el_e2 h hi j
  by_cases hv : S i j = 1 ∨ S i j = -1
  · exact Or.inl hv
  · refine Or.inr ⟨by omega, fun ρ hr t => ⟨fun e => ?_, fun e => ?_⟩⟩
    · have := hmin ρ t (by omega)
      omega
    · have := hmin ρ t (by omega)
      omega
end
section
/-! primes, and the little theorem -/
theorem fe_inv {p : Nat} (hp : ∀ d, 1 < d → d < p → p % d ≠ 0) : ∀ n c : Nat, c ≤ n → 0 < c → c < p → ∃ c' : Int, (p : Int) ∣ (c : Int) * c' - 1 := by
  intro n
  induction n with
  | zero => intro c h1 h2; omega
  | succ n ih =>
    intro c h1 h2 h3
    by_cases e : c = 1
    · subst e
      exact ⟨1, 0, by simp⟩
    · have hr := hp c (by omega) h3
      have hl := Nat.mod_lt p h2
      obtain ⟨r', x, hx⟩ := ih (p % c) (by omega) (by omega) (by omega)
      have ed : ((p % c : Nat) : Int) + (c : Int) * ((p / c : Nat) : Int) = (p : Int) := by
        have := Nat.mod_add_div p c
        rw [← Int.natCast_mul, ← Int.natCast_add, this]
      refine ⟨-((p / c : Nat) : Int) * r', x - r', ?_⟩
      grind
theorem fe_pr {p : Nat} (h2 : 2 ≤ p) (hp : ∀ d, 1 < d → d < p → p % d ≠ 0) : la_pr (p : Int) := by
  intro c hc
  have h0 : c % (p : Int) ≠ 0 := fun e => hc (Int.dvd_of_emod_eq_zero e)
  have h1 := Int.emod_nonneg c (show (p : Int) ≠ 0 by omega)
  have h3 := Int.emod_lt_of_pos c (show (0 : Int) < p by omega)
  obtain ⟨c', x, hx⟩ := fe_inv hp _ (c % (p : Int)).toNat (Nat.le_refl _) (by omega) (by omega)
  have e : (((c % (p : Int)).toNat : Nat) : Int) = c % (p : Int) := Int.toNat_of_nonneg h1
  rw [e] at hx
  have d := Int.emod_add_mul_ediv c p
  refine ⟨c', c / p * c' + x, ?_⟩
  generalize c % (p : Int) = r at *
  generalize c / (p : Int) = q at *
  grind
theorem fe_small : ∀ d, d < 1001 → 1 < d → 1000003 % d ≠ 0 := by decide +kernel
theorem fe_prP : la_pr 1000003 := by
  refine fe_pr (p := 1000003) (by omega) (fun d h1 h2 h => ?_)
  by_cases l : d < 1001
  · exact fe_small d l h1 h
  · have e := Nat.mod_add_div 1000003 d
    rw [h, Nat.zero_add] at e
    have q1 : 1000003 / d < 1001 := by
      apply Classical.byContradiction
      intro n
      have : 1001 * 1001 ≤ d * (1000003 / d) := Nat.mul_le_mul (by omega) (by omega)
      omega
    have q2 : 1 < 1000003 / d := by
      rcases Nat.lt_or_ge 1 (1000003 / d) with l2 | l2
      · exact l2
      · have : d * (1000003 / d) ≤ d * 1 := Nat.mul_le_mul_left d l2
        omega
    apply fe_small (1000003 / d) q1 q2
    have k : (d * (1000003 / d)) % (1000003 / d) = 0 := Nat.mul_mod_left d (1000003 / d)
    rw [e] at k
    exact k
def fe_ch : Nat → Nat → Nat
  | _, 0 => 1
  | 0, _ + 1 => 0
  | n + 1, k + 1 => fe_ch n k + fe_ch n (k + 1)
theorem fe_ch0 (n : Nat) : fe_ch n 0 = 1 := by cases n <;> rfl
theorem fe_chs (n k : Nat) : fe_ch (n + 1) (k + 1) = fe_ch n k + fe_ch n (k + 1) := rfl
theorem fe_chb : ∀ n k, n < k → fe_ch n k = 0 := by
  intro n
  induction n with
  | zero => intro k h; cases k with
    | zero => omega
    | succ k => rfl
  | succ n ih => intro k h; cases k with
    | zero => omega
    | succ k => rw [fe_chs, ih k (by omega), ih (k + 1) (by omega)]
theorem fe_chn : ∀ n, fe_ch n n = 1 := by
  intro n
  induction n with
  | zero => rfl
  | succ n ih => rw [fe_chs, ih, fe_chb n (n + 1) (by omega)]
theorem fe_abs : ∀ n k, (k + 1) * fe_ch (n + 1) (k + 1) = (n + 1) * fe_ch n k := by
  intro n
  induction n with
  | zero => intro k; cases k with
    | zero => rfl
    | succ k => rw [fe_chs, fe_chb 0 (k + 1) (by omega), fe_chb 0 (k + 1 + 1) (by omega)]; rfl
  | succ n ih => intro k; cases k with
    | zero =>
      have a := ih 0
      rw [fe_ch0] at a
      rw [fe_chs (n + 1) 0, fe_ch0]
      omega
    | succ k =>
      have a := ih k
      have b := ih (k + 1)
      rw [fe_chs (n + 1) (k + 1), Nat.mul_add, b, show (k + 1 + 1) * fe_ch (n + 1) (k + 1) = (k + 1) * fe_ch (n + 1) (k + 1) + fe_ch (n + 1) (k + 1) by rw [Nat.add_mul (k + 1) 1]; omega, a]
      have c : (n + 1) * fe_ch n k + (n + 1) * fe_ch n (k + 1) = (n + 1) * fe_ch (n + 1) (k + 1) := by rw [fe_chs, Nat.mul_add]
      rw [Nat.add_mul (n + 1) 1]
      omega
theorem fe_sh (n : Nat) (f : Nat → Int) : la_sm (n + 1) f = f 0 + la_sm n (fun k => f (k + 1)) := by
  rw [la_sm_sk f 0 n (by omega)]
  rfl
theorem fe_bin (x : Int) : ∀ n, (x + 1) ^ n = la_sm (n + 1) (fun k => (fe_ch n k : Int) * x ^ k) := by
  intro n
  induction n with
  | zero =>
    rw [Int.pow_zero]
    show (1 : Int) = 0 + ((1 : Nat) : Int) * x ^ 0
    rw [Int.pow_zero]
    rfl
  | succ n ih =>
    rw [Int.pow_succ, ih, fe_sh (n + 1)]
    have e1 : la_sm (n + 1) (fun k => (fe_ch (n + 1) (k + 1) : Int) * x ^ (k + 1)) = x * la_sm (n + 1) (fun k => (fe_ch n k : Int) * x ^ k) + la_sm (n + 1) (fun k => (fe_ch n (k + 1) : Int) * x ^ (k + 1)) := by
      rw [← la_sm_mul, ← la_sm_add]
      refine la_sm_c (fun k _ => ?_)
      rw [fe_chs, Int.natCast_add, Int.pow_succ]
      grind
    have e2 : la_sm (n + 1) (fun k => (fe_ch n (k + 1) : Int) * x ^ (k + 1)) = la_sm n (fun k => (fe_ch n (k + 1) : Int) * x ^ (k + 1)) := by
      show la_sm n _ + (fe_ch n (n + 1) : Int) * x ^ (n + 1) = _
      rw [fe_chb n (n + 1) (by omega)]
      simp
    have e3 := fe_sh n (fun k => (fe_ch n k : Int) * x ^ k)
    rw [e1, e2]
    simp only [fe_ch0] at e3 ⊢
    rw [show ∀ a : Int, a * (x + 1) = x * a + a from fun a => by grind]
    omega
theorem fe_dch {p : Nat} (hp : la_pr (p : Int)) {k : Nat} (h1 : k + 1 < p) : (p : Int) ∣ (fe_ch p (k + 1) : Int) := by
  obtain ⟨q, rfl⟩ : ∃ q, p = q + 1 := ⟨p - 1, by omega⟩
  have a := fe_abs q k
  have nd : ¬ ((q + 1 : Nat) : Int) ∣ ((k + 1 : Nat) : Int) := fun h => by
    have := Int.le_of_dvd (by omega) h
    omega
  obtain ⟨c', x, hx⟩ := hp _ nd
  have a' : ((k + 1 : Nat) : Int) * (fe_ch (q + 1) (k + 1) : Int) = ((q + 1 : Nat) : Int) * (fe_ch q k : Int) := by
    rw [← Int.natCast_mul, ← Int.natCast_mul, a]
  refine ⟨c' * fe_ch q k - x * fe_ch (q + 1) (k + 1), ?_⟩
  generalize ((k + 1 : Nat) : Int) = A at *
  generalize ((q + 1 : Nat) : Int) = Q at *
  generalize (fe_ch (q + 1) (k + 1) : Int) = B at *
  generalize (fe_ch q k : Int) = C at *
  grind
theorem fe_add1 {p : Nat} (h2 : 2 ≤ p) (hp : la_pr (p : Int)) (x : Int) : (p : Int) ∣ (x + 1) ^ p - (x ^ p + 1) := by
  obtain ⟨q, rfl⟩ : ∃ q, p = q + 1 := ⟨p - 1, by omega⟩
  rw [fe_bin]
  have e : la_sm (q + 1 + 1) (fun k => (fe_ch (q + 1) k : Int) * x ^ k) = la_sm (q + 1) (fun k => (fe_ch (q + 1) k : Int) * x ^ k) + (fe_ch (q + 1) (q + 1) : Int) * x ^ (q + 1) := rfl
  rw [e, fe_chn, fe_sh q]
  have d : ((q + 1 : Nat) : Int) ∣ la_sm q (fun k => (fe_ch (q + 1) (k + 1) : Int) * x ^ (k + 1)) := la_sm_dvd (fun k hk => Int.dvd_mul_of_dvd_left (fe_dch hp (by omega)))
  simp only [fe_ch0]
  obtain ⟨y, hy⟩ := d
  refine ⟨y, ?_⟩
  rw [← hy]
  simp
  omega
theorem fe_fer {p : Nat} (h2 : 2 ≤ p) (hp : la_pr (p : Int)) : ∀ x : Nat, (p : Int) ∣ (x : Int) ^ p - x := by
  intro x
  induction x with
  | zero =>
    rw [show ((0 : Nat) : Int) ^ p = 0 from Int.zero_pow (by omega)]
    exact ⟨0, by simp⟩
  | succ x ih =>
    have a := Int.dvd_add (fe_add1 h2 hp x) ih
    have e : ((x : Int) + 1) ^ p - ((x : Int) ^ p + 1) + ((x : Int) ^ p - x) = ((x + 1 : Nat) : Int) ^ p - ((x + 1 : Nat) : Int) := by
      rw [Int.natCast_add]
      simp
      omega
    rw [e] at a
    exact a
theorem fe_by {p x : Nat} (h2 : 2 ≤ p) (hp : la_pr (p : Int)) (hx : ¬ (p : Int) ∣ (x : Int)) : (p : Int) ∣ (x : Int) * ((x ^ (p - 2) % p : Nat) : Int) - 1 := by
  obtain ⟨y, hy⟩ := fe_fer h2 hp x
  obtain ⟨x', z, hz⟩ := hp _ hx
  obtain ⟨q, rfl⟩ : ∃ q, p = q + 2 := ⟨p - 2, by omega⟩
  have e0 := Nat.mod_add_div (x ^ q) (q + 2)
  have e1 : ((x ^ q % (q + 2) : Nat) : Int) + ((q + 2 : Nat) : Int) * ((x ^ q / (q + 2) : Nat) : Int) = (x : Int) ^ q := by
    rw [← Int.natCast_mul, ← Int.natCast_add, e0, Int.natCast_pow]
  rw [show q + 2 - 2 = q by omega]
  rw [Int.pow_succ, Int.pow_succ] at hy
  generalize ((x ^ q % (q + 2) : Nat) : Int) = R at *
  generalize ((x ^ q / (q + 2) : Nat) : Int) = D at *
  generalize ((q + 2 : Nat) : Int) = P at *
  generalize (x : Int) ^ q = W at *
  generalize (x : Int) = X at *
  refine ⟨y * x' - z * (X * W - 1) - X * D, ?_⟩
  grind
end
section
/-! ===== Int64 as a set of bits: test, set, clear ===== -/
theorem ts_nf {x : Bool} (h : ¬ x = false) : x = true := by cases x <;> first | rfl | exact absurd rfl h
theorem ts_nt {x : Bool} (h : ¬ x = true) : x = false := by cases x <;> first | rfl | exact absurd rfl h
theorem ts_bit {w : Int64} {s : UInt64} {j : Nat} (hj : j < 64) (hs : s.toNat = j) : ((w.toUInt64 >>> s).toInt64 &&& 1) = 0 ↔ w.toBitVec.getLsbD j = false := by
  have e : (w.toUInt64 >>> s).toInt64.toBitVec = w.toBitVec >>> j := by
    apply BitVec.eq_of_toNat_eq
    show (w.toUInt64 >>> s).toNat = _
    rw [UInt64.toNat_shiftRight, hs, Nat.mod_eq_of_lt hj, BitVec.toNat_ushiftRight]
    rfl
  rw [← Int64.toBitVec_inj, Int64.toBitVec_and, e]
  show w.toBitVec >>> j &&& 1#64 = 0#64 ↔ _
  constructor
  · intro h
    have t := congrArg (fun x => x.getLsbD 0) h
    simpa using t
  · intro h
    apply BitVec.eq_of_getLsbD_eq
    intro i hi
    cases i with
    | zero => simp [h]
    | succ i => simp
/-! the bits of a long -/
def bs_t (x : Int64) (s : Nat) : Bool := x.toBitVec.getLsbD s
theorem bs_1 : ∀ s, s < 64 → ((1 : Int64) <<< ((nI s).toInt64 &&& 63)).toBitVec = BitVec.twoPow 64 s := by decide +kernel
theorem bs_sh : ∀ s, s < 64 → ((nI s).toInt64.toUInt64 &&& Int64.toUInt64 63).toNat = s := by decide +kernel
theorem bs_or (x y : Int64) (j : Nat) : bs_t (x ||| y) j = (bs_t x j || bs_t y j) := by
  unfold bs_t; rw [Int64.toBitVec_or, BitVec.getLsbD_or]
theorem bs_and (x y : Int64) (j : Nat) : bs_t (x &&& y) j = (bs_t x j && bs_t y j) := by
  unfold bs_t; rw [Int64.toBitVec_and, BitVec.getLsbD_and]
theorem bs_not (x : Int64) {j : Nat} (hj : j < 64) : bs_t (x ^^^ (-1)) j = !bs_t x j := by
  have ha : (-1 : Int64).toBitVec = BitVec.allOnes 64 := by decide
  unfold bs_t; rw [Int64.toBitVec_xor, ha, BitVec.getLsbD_xor, BitVec.getLsbD_allOnes]
  simp [hj]
theorem bs_b1 {s : Nat} (hs : s < 64) (j : Nat) : bs_t ((1 : Int64) <<< ((nI s).toInt64 &&& 63)) j = decide (s = j) := by
  unfold bs_t; rw [bs_1 s hs, BitVec.getLsbD_twoPow]
  simp [hs]
theorem bs_set (x : Int64) {s : Nat} (hs : s < 64) (j : Nat) : bs_t (x ||| ((1 : Int64) <<< ((nI s).toInt64 &&& 63))) j = (bs_t x j || decide (s = j)) := by
  rw [bs_or, bs_b1 hs]
theorem bs_clr (x : Int64) {s : Nat} (hs : s < 64) {j : Nat} (hj : j < 64) : bs_t (x &&& (((1 : Int64) <<< ((nI s).toInt64 &&& 63)) ^^^ (-1))) j = (bs_t x j && !decide (s = j)) := by
  rw [bs_and, bs_not _ hj, bs_b1 hs]
theorem bs_0 (j : Nat) : bs_t 0 j = false := by
  unfold bs_t
  show (0#64).getLsbD j = false
  simp
theorem bs_ext {x y : Int64} (h : ∀ j, j < 64 → bs_t x j = bs_t y j) : x = y :=
  Int64.toBitVec_inj.mp (BitVec.eq_of_getLsbD_eq (fun i hi => h i hi))
def bs_cn : Nat → (Nat → Bool) → Nat
  | 0, _ => 0
  | n + 1, f => bs_cn n f + (if f n then 1 else 0)
theorem bs_cn_c {n : Nat} {f g : Nat → Bool} (h : ∀ j, j < n → f j = g j) : bs_cn n f = bs_cn n g := by
  induction n with
  | zero => rfl
  | succ n ih =>
    show bs_cn n f + (if f n then 1 else 0) = bs_cn n g + (if g n then 1 else 0)
    rw [ih (fun j hj => h j (by omega)), h n (by omega)]
theorem bs_cn_0 {n : Nat} {f : Nat → Bool} (h : bs_cn n f = 0) : ∀ j, j < n → f j = false := by
  induction n with
  | zero => intro j hj; omega
  | succ n ih =>
    intro j hj
    have h' : bs_cn n f + (if f n then 1 else 0) = 0 := h
    by_cases e : j = n
    · subst e
      cases hf : f j with
      | false => rfl
      | true => rw [hf] at h'; simp at h'
    · exact ih (by omega) j (by omega)
theorem bs_cn_rm {n j : Nat} {f g : Nat → Bool} (hj : j < n) (hf : f j = true) (h : ∀ i, i < n → g i = (f i && !decide (j = i))) : bs_cn n g + 1 = bs_cn n f := by
  induction n with
  | zero => omega
  | succ n ih =>
    show bs_cn n g + (if g n then 1 else 0) + 1 = bs_cn n f + (if f n then 1 else 0)
    have hn := h n (by omega)
    by_cases e : j = n
    · subst e
      rw [bs_cn_c (f := g) (g := f) (fun i hi => by rw [h i (by omega)]; simp; intro _; omega), hn, hf]
      simp
    · have t := ih (by omega) (fun i hi => h i (by omega))
      rw [hn]
      simp only [e, decide_false, Bool.not_false, Bool.and_true]
      omega
theorem bs_cn_1 {n : Nat} {f : Nat → Bool} (h : bs_cn n f = 1) : ∃ v, v < n ∧ f v = true ∧ ∀ v', v' < n → f v' = true → v' = v := by
  induction n with
  | zero => exact absurd (show 0 = 1 from h) (by omega)
  | succ n ih =>
    have h' : bs_cn n f + (if f n then 1 else 0) = 1 := h
    cases hf : f n with
    | true =>
      rw [hf] at h'
      have z : bs_cn n f = 0 := by simp at h'; omega
      refine ⟨n, by omega, hf, fun v' hv' hv => ?_⟩
      apply Classical.byContradiction
      intro hne
      have := bs_cn_0 z v' (by omega)
      rw [hv] at this
      exact Bool.noConfusion this
    | false =>
      rw [hf] at h'
      obtain ⟨v, h1, h2, h3⟩ := ih (by simp at h'; omega)
      refine ⟨v, by omega, h2, fun v' hv' hv => ?_⟩
      apply h3 v' _ hv
      apply Classical.byContradiction
      intro hne
      have e : v' = n := by omega
      subst e
      rw [hf] at hv
      exact Bool.noConfusion hv
theorem bs_low : ∀ m n : Nat, n ≤ m → 0 < n → ∃ j, n.testBit j = true ∧ ∀ i, (n &&& (n - 1)).testBit i = (n.testBit i && !decide (j = i)) := by
  intro m
  induction m with
  | zero => intro n h1 h2; omega
  | succ m ih =>
    intro n h1 h2
    by_cases o : n % 2 = 1
    · refine ⟨0, by rw [Nat.testBit_zero]; simp [o], fun i => ?_⟩
      rw [Nat.testBit_and]
      cases i with
      | zero => rw [Nat.testBit_zero, Nat.testBit_zero]; simp; omega
      | succ i => rw [Nat.testBit_succ, Nat.testBit_succ, show (n - 1) / 2 = n / 2 by omega]; simp
    · obtain ⟨j, h3, h4⟩ := ih (n / 2) (by omega) (by omega)
      refine ⟨j + 1, by rw [Nat.testBit_succ]; exact h3, fun i => ?_⟩
      rw [Nat.testBit_and]
      cases i with
      | zero => rw [Nat.testBit_zero, Nat.testBit_zero]; simp [o]
      | succ i =>
        have t := h4 i
        rw [Nat.testBit_and] at t
        rw [Nat.testBit_succ, Nat.testBit_succ, show (n - 1) / 2 = n / 2 - 1 by omega, t]
        simp
theorem bs_drop {x : Int64} (h : ¬ x = 0) : bs_cn 64 (bs_t (x &&& (x - 1))) + 1 = bs_cn 64 (bs_t x) := by
  have hn : 0 < x.toBitVec.toNat := by
    rcases Nat.eq_zero_or_pos x.toBitVec.toNat with e | e
    · exact absurd (Int64.toBitVec_inj.mp (BitVec.eq_of_toNat_eq e)) h
    · exact e
  obtain ⟨j, h1, h2⟩ := bs_low _ _ (Nat.le_refl _) hn
  have e : (x &&& (x - 1)).toBitVec.toNat = x.toBitVec.toNat &&& (x.toBitVec.toNat - 1) := by
    rw [Int64.toBitVec_and, BitVec.toNat_and, Int64.toBitVec_sub, BitVec.toNat_sub]
    congr 1
    have l := x.toBitVec.isLt
    show (2 ^ 64 - 1 + x.toBitVec.toNat) % 2 ^ 64 = _
    omega
  have hj : j < 64 := by
    apply Classical.byContradiction
    intro hn'
    have : x.toBitVec.toNat.testBit j = false := Nat.testBit_lt_two_pow (Nat.lt_of_lt_of_le x.toBitVec.isLt (Nat.pow_le_pow_right (by omega) (by omega)))
    rw [this] at h1
    exact Bool.noConfusion h1
  refine bs_cn_rm hj h1 (fun i hi => ?_)
  have := h2 i
  rw [← e] at this
  exact this
theorem bs_pcK : ∀ s, s < 64 → bs_cn 64 (bs_t (nI s).toInt64) = mn_pc s := by decide +kernel
theorem bs_pc1 : ∀ s, s < 64 → 1 ≤ s → 1 ≤ mn_pc s := by decide +kernel
theorem bs_pc6 : ∀ s, s < 64 → mn_pc s ≤ 6 := by decide +kernel
/-- y holds the sets below i that f holds -/
def bs_fil (f : Nat → Bool) (i : Nat) (y : Int64) : Prop := ∀ j, j < 64 → bs_t y j = (decide (j < i) && f j)
theorem bs_fil_0 {f : Nat → Bool} (h : f 0 = false) : bs_fil f 1 0 := by
  intro j hj
  rw [bs_0]
  by_cases e : j = 0
  · rw [e, h]; rfl
  · simp; omega
theorem bs_fil_y {f : Nat → Bool} {i : Nat} {y : Int64} (h : bs_fil f i y) (hi : i < 64) (hf : f i = true) : bs_fil f (i + 1) (y ||| ((1 : Int64) <<< ((nI i).toInt64 &&& 63))) := by
  intro j hj
  rw [bs_set _ hi, h j hj]
  by_cases e : i = j
  · subst e; rw [hf]; simp
  · have : (j < i + 1) = (j < i) := propext ⟨fun z => by omega, fun z => by omega⟩
    simp [e, this]
theorem bs_fil_n {f : Nat → Bool} {i : Nat} {y : Int64} (h : bs_fil f i y) (hf : f i = false) : bs_fil f (i + 1) y := by
  intro j hj
  rw [h j hj]
  by_cases e : i = j
  · subst e; rw [hf]; simp
  · have : (j < i + 1) = (j < i) := propext ⟨fun z => by omega, fun z => by omega⟩
    simp [this]
/-! the small methods -/
theorem wk_isIn {A B : Prop} (u : St1) (x : Int64) {s : Nat} (hs : s < 64) (h1 : bs_t x s = true → B) (h0 : bs_t x s = false → A) : wpX_isIn (fun r => (r = 0 → A) ∧ (¬ r = 0 → B)) u x (nI s) := by
  obtain ⟨lv, rc, cc, fc, a1, a2, a3, a4, a5, a6⟩ := u
  exact ⟨fun z => br_t rfl (h0 ((ts_bit hs (bs_sh s hs)).mp z)), fun z => br_f (by decide) (h1 (ts_nf (fun e => z ((ts_bit hs (bs_sh s hs)).mpr e))))⟩
theorem wk_reg {A B : Prop} (u : St1) {r : Nat} (hr : r < 4) (h : B) : wpX_isRegister (fun q => (q = 0 → A) ∧ (¬ q = 0 → B)) u (nI r) := by
  obtain ⟨lv, rc, cc, fc, a1, a2, a3, a4, a5, a6⟩ := u
  exact br_f (nI_pos (by omega)) (pk_lt 3 r (fun z => absurd z (by omega)) (fun _ => br_f (by decide) h))
theorem wk_isSet {A B : Prop} (u : St1) (p : Int32) (h0 : A) (h1 : ∀ s, 1 ≤ s → s < 64 → p = nI s → B) : wpX_isSet (fun q => (q = 0 → A) ∧ (¬ q = 0 → B)) u p := by
  obtain ⟨lv, rc, cc, fc, a1, a2, a3, a4, a5, a6⟩ := u
  refine ⟨fun _ => br_t rfl h0, fun z1 => ⟨fun _ => br_t rfl h0, fun z2 => br_f (by decide) ?_⟩⟩
  have hp : ¬ p < 0 := fun z => z1 (by
    rw [Int32.lt_iff_toInt_lt] at z ⊢
    have e1 : (1 : Int32).toInt = 1 := by decide
    have e0 : (0 : Int32).toInt = 0 := by decide
    omega)
  obtain ⟨s, hs, e⟩ := nI_of hp
  subst e
  have h63 : s ≤ 63 := by
    apply Classical.byContradiction
    intro hn
    exact z2 (nI_lt (a := 63) (b := s) (by omega) hs)
  have hs1 : 1 ≤ s := by
    apply Classical.byContradiction
    intro hn
    exact z1 (nI_lt (a := s) (b := 1) (by omega) (by omega))
  exact h1 s hs1 (by omega) rfl
theorem wk_set {A B : Prop} (u : St1) {s : Nat} (h1 : 1 ≤ s) (hs : s < 64) (h : B) : wpX_isSet (fun q => (q = 0 → A) ∧ (¬ q = 0 → B)) u (nI s) := by
  obtain ⟨lv, rc, cc, fc, a1, a2, a3, a4, a5, a6⟩ := u
  exact br_f (nI_nlt (a := s) (b := 1) h1 (by omega)) (br_f (nI_nlt (a := 63) (b := s) (by omega) (by omega)) (br_f (by decide) h))
section
variable {lv rc cc fc : Int32} {a1 : Nat → Int64} {a2 a3 : Nat → Int32} {a4 : Nat → Int64} {a5 a6 : Nat → Int32}
theorem wk_onesL {post : Int32 → Prop} : ∀ (c : Nat) (x : Int64) (a : Nat), bs_cn 64 (bs_t x) = c → post (nI (a + c)) → wX_onesIn_5 post lv rc cc fc a1 a2 a3 a4 a5 a6 (c + 1) (nI a) x := by
  intro c
  induction c with
  | zero =>
    intro x a hc hp
    have e : x = 0 := bs_ext (fun j hj => by rw [bs_0]; exact bs_cn_0 hc j hj)
    exact br_t e hp
  | succ c ih =>
    intro x a hc hp
    have e : ¬ x = 0 := fun e => by
      rw [e, show bs_cn 64 (bs_t 0) = 0 by decide +kernel] at hc
      omega
    refine br_f e (nm_e (nm_r (nI_1 a) (ih _ (a + 1) ?_ ?_)))
    · have := bs_drop e
      omega
    · rw [show a + 1 + c = a + (c + 1) by omega]
      exact hp
end
theorem wk_ones {post : Int32 → Prop} (u : St1) (x : Int64) (h : post (nI (bs_cn 64 (bs_t x)))) : wpX_onesIn post u x := by
  obtain ⟨lv, rc, cc, fc, a1, a2, a3, a4, a5, a6⟩ := u
  exact ⟨_, wk_onesL _ x 0 rfl (by rw [Nat.zero_add]; exact h)⟩
theorem wk_deg {post : Int32 → Prop} (u : St1) {s : Nat} (h1 : 1 ≤ s) (hs : s < 64) (h : post (nI (mn_pc s - 1))) : wpX_degreeOf post u (nI s) := by
  obtain ⟨lv, rc, cc, fc, a1, a2, a3, a4, a5, a6⟩ := u
  unfold wpX_degreeOf
  dsimp only
  refine wk_ones (post := fun r => post (r - 1)) _ _ ?_
  have e : nI (bs_cn 64 (bs_t (nI s).toInt64)) - 1 = nI (mn_pc s - 1) := by
    rw [bs_pcK s hs]
    exact pk_sub (bs_pc1 s hs h1)
  show post (nI (bs_cn 64 (bs_t (nI s).toInt64)) - 1)
  rw [e]
  exact h
/-- the sets of degree k in x -/
def bs_dg (X : Nat → Bool) (k j : Nat) : Bool := X j && decide (mn_pc j = k + 1)
theorem wk_ofDeg {post : Int64 → Prop} (u : St1) (x : Int64) {k : Nat} (hk : k < 100) (h : ∀ y : Int64, (∀ j, j < 64 → bs_t y j = bs_dg (bs_t x) k j) → post y) : wpX_ofDegree post u x (nI k) := by
  obtain ⟨lv, rc, cc, fc, a1, a2, a3, a4, a5, a6⟩ := u
  refine pk_loop (fun n i y => wX_ofDegree_6 post x (nI k) lv rc cc fc a1 a2 a3 a4 a5 a6 n y (nI i)) (fun i y => 1 ≤ i ∧ bs_fil (bs_dg (bs_t x) k) i y) 64 1 0 (by omega) ⟨by omega, bs_fil_0 ?_⟩ ?_ ?_
  · unfold bs_dg
    rw [show mn_pc 0 = 0 from rfl]
    simp
  · intro n y hy
    refine pk_lt 63 64 (fun _ => h y (fun j hj => ?_)) (fun z => absurd z (by omega))
    rw [hy.2 j hj]
    simp [hj]
  · intro n i y hi hy hw
    refine pk_lt 63 i (fun z => absurd z (by omega)) (fun _ => wk_isIn _ x hi (fun hb => wk_deg _ hy.1 hi ?_) (fun hb => nm_r (nI_1 i) (hw y ⟨by omega, bs_fil_n hy.2 (by unfold bs_dg; rw [hb]; rfl)⟩)))
    have hp := bs_pc1 i hi hy.1
    have hp6 := bs_pc6 i hi
    refine pk_eq (mn_pc i - 1) k (fun e => nm_e (nm_r (nI_1 i) (hw _ ⟨by omega, bs_fil_y hy.2 hi ?_⟩))) (fun e => nm_r (nI_1 i) (hw y ⟨by omega, bs_fil_n hy.2 ?_⟩))
    · unfold bs_dg
      rw [hb, show mn_pc i = k + 1 by omega]
      simp
    · unfold bs_dg
      rw [hb]
      simp
      omega
theorem wk_has {post : Int32 → Prop} {lv rc cc fc : Int32} {a1 : Nat → Int64} {a2 a3 : Nat → Int32} {a4 : Nat → Int64} {a5 a6 : Nat → Int32} {r s : Nat} (hr : r < 4) (h1 : 1 ≤ s) (hs : s < 64) (h : post (if bs_t (a1 r) s then 1 else 0)) : wpX_has post (lv, rc, cc, fc, a1, a2, a3, a4, a5, a6) (nI r) (nI s) := by
  unfold wpX_has
  dsimp only
  refine wk_reg _ hr (wk_set _ h1 hs ⟨vp_in_nI hr (by omega), ?_⟩)
  rw [show (nI r).toNatClampNeg = r from nI_clamp (by omega)]
  refine wk_isIn _ _ hs (fun hb => ?_) (fun hb => ?_)
  · rw [hb] at h; exact h
  · rw [hb] at h; exact h
end
section
/-! cofaces, collapse, the Euler sum -/
def pp_co (X : Nat → Bool) (s v : Nat) : Bool := !s.testBit v && X (s ||| 2 ^ v)
def pp_cof (X : Nat → Bool) (s : Nat) : Nat := bs_cn 6 (pp_co X s)
def pp_oc (X : Nat → Bool) (s : Nat) : Nat → Nat
  | 0 => 0
  | v + 1 => if pp_co X s v then s ||| 2 ^ v else pp_oc X s v
def pp_fr (X : Nat → Bool) : Nat → Nat
  | 0 => 0
  | s + 1 => if X (s + 1) = true ∧ pp_cof X (s + 1) = 1 ∧ pp_cof X (pp_oc X (s + 1) 6) = 0 then s + 1 else pp_fr X s
theorem pp_k1 : ∀ s, s < 64 → ∀ v, v < 6 → ((((nI s) >>> ((nI v) &&& 31)) &&& 1) = 0 ↔ s.testBit v = false) := by decide +kernel
theorem pp_k2 : ∀ s, s < 64 → ∀ v, v < 6 → (nI s ||| ((1 : Int32) <<< (nI v &&& 31))) = nI (s ||| 2 ^ v) := by decide +kernel
theorem pp_k3 : ∀ s, s < 64 → ∀ v, v < 6 → s ||| 2 ^ v < 64 := by decide +kernel
theorem pp_oc64 (X : Nat → Bool) {s : Nat} (hs : s < 64) : ∀ n, n ≤ 6 → pp_oc X s n < 64 := by
  intro n
  induction n with
  | zero => intro _; show 0 < 64; omega
  | succ n ih =>
    intro h
    show (if pp_co X s n then s ||| 2 ^ n else pp_oc X s n) < 64
    split
    · exact pp_k3 s hs n (by omega)
    · exact ih (by omega)
theorem wk_cof {post : Int32 → Prop} (u : St1) (x : Int64) {s : Nat} (hs : s < 64) (h : post (nI (pp_cof (bs_t x) s))) : wpX_cofaceCount post u x (nI s) := by
  obtain ⟨lv, rc, cc, fc, a1, a2, a3, a4, a5, a6⟩ := u
  refine pk_loop (fun n i y => wX_cofaceCount_6 post x (nI s) lv rc cc fc a1 a2 a3 a4 a5 a6 n y (nI i)) (fun i y => y = nI (bs_cn i (pp_co (bs_t x) s))) 6 0 0 (by omega) rfl ?_ ?_
  · intro n y hy
    subst hy
    exact pk_le 6 6 (fun _ => h) (fun z => absurd z (by omega))
  · intro n i y hi hy hw
    subst hy
    refine pk_le 6 i (fun z => absurd z (by omega)) (fun _ => ⟨fun z => ?_, fun z => nm_r (nI_1 i) (hw _ ?_)⟩)
    · rw [pp_k2 s hs i hi]
      have tb := (pp_k1 s hs i hi).mp z
      refine wk_isIn _ x (pp_k3 s hs i hi) (fun hb => nm_r (nI_1 _) (nm_r (nI_1 i) (hw _ ?_))) (fun hb => nm_r (nI_1 i) (hw _ ?_))
      · show nI (bs_cn i (pp_co (bs_t x) s) + 1) = nI (bs_cn i (pp_co (bs_t x) s) + (if pp_co (bs_t x) s i then 1 else 0))
        rw [show pp_co (bs_t x) s i = true by unfold pp_co; rw [tb, hb]; rfl]
        rfl
      · show nI (bs_cn i (pp_co (bs_t x) s)) = nI (bs_cn i (pp_co (bs_t x) s) + (if pp_co (bs_t x) s i then 1 else 0))
        rw [show pp_co (bs_t x) s i = false by unfold pp_co; rw [tb, hb]; rfl]
        rfl
    · show nI (bs_cn i (pp_co (bs_t x) s)) = nI (bs_cn i (pp_co (bs_t x) s) + (if pp_co (bs_t x) s i then 1 else 0))
      have tb : s.testBit i = true := ts_nf (fun e => z ((pp_k1 s hs i hi).mpr e))
      rw [show pp_co (bs_t x) s i = false by unfold pp_co; rw [tb]; rfl]
      rfl
theorem wk_oc {post : Int32 → Prop} (u : St1) (x : Int64) {s : Nat} (hs : s < 64) (h : post (nI (pp_oc (bs_t x) s 6))) : wpX_onlyCoface post u x (nI s) := by
  obtain ⟨lv, rc, cc, fc, a1, a2, a3, a4, a5, a6⟩ := u
  refine pk_loop (fun n i y => wX_onlyCoface_6 post x (nI s) lv rc cc fc a1 a2 a3 a4 a5 a6 n y (nI i)) (fun i y => y = nI (pp_oc (bs_t x) s i)) 6 0 0 (by omega) rfl ?_ ?_
  · intro n y hy
    subst hy
    exact pk_le 6 6 (fun _ => h) (fun z => absurd z (by omega))
  · intro n i y hi hy hw
    subst hy
    refine pk_le 6 i (fun z => absurd z (by omega)) (fun _ => ⟨fun z => ?_, fun z => nm_r (nI_1 i) (hw _ ?_)⟩)
    · rw [pp_k2 s hs i hi]
      have tb := (pp_k1 s hs i hi).mp z
      refine wk_isIn _ x (pp_k3 s hs i hi) (fun hb => nm_e (nm_r (nI_1 i) (hw _ ?_))) (fun hb => nm_r (nI_1 i) (hw _ ?_))
      · show nI (s ||| 2 ^ i) = nI (if pp_co (bs_t x) s i then s ||| 2 ^ i else pp_oc (bs_t x) s i)
        rw [show pp_co (bs_t x) s i = true by unfold pp_co; rw [tb, hb]; rfl]
        rfl
      · show nI (pp_oc (bs_t x) s i) = nI (if pp_co (bs_t x) s i then s ||| 2 ^ i else pp_oc (bs_t x) s i)
        rw [show pp_co (bs_t x) s i = false by unfold pp_co; rw [tb, hb]; rfl]
        rfl
    · show nI (pp_oc (bs_t x) s i) = nI (if pp_co (bs_t x) s i then s ||| 2 ^ i else pp_oc (bs_t x) s i)
      have tb : s.testBit i = true := ts_nf (fun e => z ((pp_k1 s hs i hi).mpr e))
      rw [show pp_co (bs_t x) s i = false by unfold pp_co; rw [tb]; rfl]
      rfl
theorem wk_free {post : Int32 → Prop} (u : St1) (x : Int64) (h : post (nI (pp_fr (bs_t x) 63))) : wpX_freeSet post u x := by
  obtain ⟨lv, rc, cc, fc, a1, a2, a3, a4, a5, a6⟩ := u
  refine ⟨64, pk_loopD (σ := Unit) (fun n i _ => wX_freeSet_3 post x lv rc cc fc a1 a2 a3 a4 a5 a6 n (nI i)) (fun i _ => i < 64 ∧ pp_fr (bs_t x) i = pp_fr (bs_t x) 63) ?_ ?_ 63 () ⟨by omega, rfl⟩⟩
  · intro n _ hi
    refine pk_le 0 0 (fun _ => ?_) (fun z => absurd z (by omega))
    have e : pp_fr (bs_t x) 63 = 0 := hi.2.symm
    rw [e] at h
    exact h
  · intro n i _ hi hw
    have next : ¬ (bs_t x (i + 1) = true ∧ pp_cof (bs_t x) (i + 1) = 1 ∧ pp_cof (bs_t x) (pp_oc (bs_t x) (i + 1) 6) = 0) → wX_freeSet_3 post x lv rc cc fc a1 a2 a3 a4 a5 a6 n (nI i) := by
      intro hn
      refine hw () ⟨by omega, ?_⟩
      have e : pp_fr (bs_t x) (i + 1) = pp_fr (bs_t x) i := by
        show (if bs_t x (i + 1) = true ∧ pp_cof (bs_t x) (i + 1) = 1 ∧ pp_cof (bs_t x) (pp_oc (bs_t x) (i + 1) 6) = 0 then i + 1 else pp_fr (bs_t x) i) = _
        rw [if_neg hn]
      rw [← e]
      exact hi.2
    have bnd : ∀ s, pp_cof (bs_t x) s ≤ 6 := by
      intro s
      unfold pp_cof
      simp only [bs_cn]
      split <;> split <;> split <;> split <;> split <;> split <;> omega
    have b1 := bnd (i + 1)
    have b2 := bnd (pp_oc (bs_t x) (i + 1) 6)
    refine pk_le (i + 1) 0 (fun z => absurd z (by omega)) (fun _ => wk_isIn _ x hi.1 (fun hb => wk_cof _ x hi.1 ?_) (fun hb => nm_r (pk_m1 i) (next (fun z => by rw [hb] at z; exact Bool.noConfusion z.1)))) rfl rfl (by omega) (by omega)
    refine pk_eq (pp_cof (bs_t x) (i + 1)) 1 (fun e1 => wk_oc _ x hi.1 (wk_cof _ x (pp_oc64 _ hi.1 6 (by omega)) ?_)) (fun e1 => nm_r (pk_m1 i) (next (fun z => e1 z.2.1))) rfl rfl (by omega) (by omega)
    refine pk_eq (pp_cof (bs_t x) (pp_oc (bs_t x) (i + 1) 6)) 0 (fun e2 => ?_) (fun e2 => nm_r (pk_m1 i) (next (fun z => e2 z.2.2))) rfl rfl (by omega) (by omega)
    have e : pp_fr (bs_t x) (i + 1) = i + 1 := by
      show (if bs_t x (i + 1) = true ∧ pp_cof (bs_t x) (i + 1) = 1 ∧ pp_cof (bs_t x) (pp_oc (bs_t x) (i + 1) 6) = 0 then i + 1 else pp_fr (bs_t x) i) = _
      rw [if_pos ⟨hb, e1, e2⟩]
    rw [← hi.2, e] at h
    exact h
theorem pp_fr_s {X : Nat → Bool} : ∀ n, pp_fr X n ≠ 0 → 1 ≤ pp_fr X n ∧ pp_fr X n ≤ n ∧ X (pp_fr X n) = true ∧ pp_cof X (pp_fr X n) = 1 ∧ pp_cof X (pp_oc X (pp_fr X n) 6) = 0 := by
  intro n
  induction n with
  | zero => intro h; exact absurd rfl h
  | succ n ih =>
    intro h
    by_cases c : X (n + 1) = true ∧ pp_cof X (n + 1) = 1 ∧ pp_cof X (pp_oc X (n + 1) 6) = 0
    · have e : pp_fr X (n + 1) = n + 1 := if_pos c
      rw [e]
      exact ⟨by omega, by omega, c.1, c.2.1, c.2.2⟩
    · have e : pp_fr X (n + 1) = pp_fr X n := if_neg c
      rw [e] at h ⊢
      have t := ih h
      exact ⟨t.1, by omega, t.2.2⟩
theorem pp_oc_l {X : Nat → Bool} {s : Nat} : ∀ n, (∃ v, v < n ∧ pp_co X s v = true) → ∃ v, v < n ∧ pp_co X s v = true ∧ pp_oc X s n = s ||| 2 ^ v := by
  intro n
  induction n with
  | zero => rintro ⟨v, h, _⟩; omega
  | succ n ih =>
    rintro ⟨v, h, hc⟩
    cases e : pp_co X s n with
    | true => exact ⟨n, by omega, e, by show (if pp_co X s n then s ||| 2 ^ n else pp_oc X s n) = _; rw [e]; rfl⟩
    | false =>
      have hv : v < n := by
        apply Classical.byContradiction
        intro hn
        have : v = n := by omega
        rw [this, e] at hc
        exact Bool.noConfusion hc
      obtain ⟨w, h1, h2, h3⟩ := ih ⟨v, hv, hc⟩
      exact ⟨w, by omega, h2, by show (if pp_co X s n then s ||| 2 ^ n else pp_oc X s n) = _; rw [e]; exact h3⟩
theorem pp_oc_1 {X : Nat → Bool} {s : Nat} (h : pp_cof X s = 1) : ∃ v, v < 6 ∧ pp_co X s v = true ∧ pp_oc X s 6 = s ||| 2 ^ v ∧ ∀ v', v' < 6 → pp_co X s v' = true → v' = v := by
  obtain ⟨v, h1, h2, h3⟩ := bs_cn_1 h
  obtain ⟨w, h4, h5, h6⟩ := pp_oc_l 6 ⟨v, h1, h2⟩
  have e := h3 w h4 h5
  subst e
  exact ⟨w, h4, h5, h6, h3⟩
theorem pp_k4 : ∀ b, b < 64 → ∀ a, a < 64 → b &&& a = b → b ≠ a → Nat.log2 (a ^^^ b) < 6 ∧ b.testBit (Nat.log2 (a ^^^ b)) = false ∧ (b ||| 2 ^ Nat.log2 (a ^^^ b)) &&& a = b ||| 2 ^ Nat.log2 (a ^^^ b) := by decide +kernel
theorem pp_k5 : ∀ s, s < 64 → ∀ v, v < 6 → s.testBit v = false → mn_pc (s ||| 2 ^ v) = mn_pc s + 1 ∧ s < s ||| 2 ^ v := by decide +kernel
/-- a set below another one of a closed complex has a coface there, below that one -/
theorem pp_up {X : Nat → Bool} (hX : el_cl X) {a b : Nat} (ha : a < 64) (hx : X a = true) (hb : b < 64) (h : b &&& a = b) (hne : b ≠ a) : ∃ v, v < 6 ∧ pp_co X b v = true ∧ (b ||| 2 ^ v) &&& a = b ||| 2 ^ v := by
  obtain ⟨h1, h2, h3⟩ := pp_k4 b hb a ha h hne
  refine ⟨_, h1, ?_, h3⟩
  unfold pp_co
  rw [h2, hX a _ ha hx (by have := (pp_k5 b hb _ h1 h2).2; omega) h3]
  rfl
theorem pp_cl {X X' : Nat → Bool} (hX : el_cl X) {s t : Nat} (hs : s < 64) (hxs : X s = true) (h1 : pp_cof X s = 1) (ht : t = pp_oc X s 6) (h0 : pp_cof X t = 0) (hX' : ∀ j, j < 64 → X' j = (X j && !(decide (s = j) || decide (t = j)))) : el_cl X' := by
  have t64 : t < 64 := by rw [ht]; exact pp_oc64 X hs 6 (by omega)
  intro a b ha hxa hb hba
  have hb64 : b < 64 := by
    have : b ≤ a := by rw [← hba]; exact Nat.and_le_right
    omega
  rw [hX' a ha] at hxa
  simp only [Bool.and_eq_true, Bool.not_eq_true', Bool.or_eq_false_iff, decide_eq_false_iff_not] at hxa
  obtain ⟨hxa, hsa, hta⟩ := hxa
  have hxb := hX a b ha hxa hb hba
  have noT : ∀ c, c < 64 → X c = true → t ≠ c → t &&& c = t → False := by
    intro c hc hxc hne hsub
    obtain ⟨v, hv, hco, _⟩ := pp_up hX hc hxc t64 hsub hne
    have := bs_cn_0 h0 v hv
    rw [hco] at this
    exact Bool.noConfusion this
  rw [hX' b hb64, hxb]
  simp only [Bool.true_and, Bool.not_eq_true', Bool.or_eq_false_iff, decide_eq_false_iff_not]
  refine ⟨fun e => ?_, fun e => ?_⟩
  · subst e
    obtain ⟨v, hv, hco, hsub⟩ := pp_up hX ha hxa hb64 hba hsa
    obtain ⟨w, _, _, e1, e2⟩ := pp_oc_1 h1
    have ew := e2 v hv hco
    subst ew
    rw [← e1, ← ht] at hsub
    exact noT a ha hxa hta hsub
  · subst e
    exact noT a ha hxa hta hba
def pp_sg (p : Nat) : Int := if p = 0 then 0 else if p % 2 = 1 then 1 else -1
def pp_ec (X : Nat → Bool) : Int := la_sm 64 (fun j => if X j then pp_sg (mn_pc j) else 0)
theorem pp_rm {X X' : Nat → Bool} {g : Nat → Int} {a n : Nat} (ha : a < n) (hx : X a = true) (h : ∀ j, j < n → X' j = (X j && !decide (a = j))) : la_sm n (fun j => if X' j then g j else 0) = la_sm n (fun j => if X j then g j else 0) - g a := by
  induction n with
  | zero => omega
  | succ n ih =>
    show la_sm n (fun j => if X' j then g j else 0) + (if X' n then g n else 0) = la_sm n (fun j => if X j then g j else 0) + (if X n then g n else 0) - g a
    have hn := h n (by omega)
    by_cases e : a = n
    · subst e
      rw [la_sm_c (f := fun j => if X' j then g j else 0) (g := fun j => if X j then g j else 0) (fun j hj => by
        show (if X' j then g j else 0) = (if X j then g j else 0)
        rw [h j (by omega)]
        have : ¬ a = j := by omega
        simp [this]), hn, hx]
      simp
    · rw [ih (by omega) (fun j hj => h j (by omega)), hn]
      simp only [e, decide_false, Bool.not_false, Bool.and_true]
      omega
theorem pp_ecS {X X' : Nat → Bool} {s t : Nat} (h1 : 1 ≤ s) (hs : s < 64) (ht : t < 64) (hxs : X s = true) (hxt : X t = true) (hne : s ≠ t) (hp : mn_pc t = mn_pc s + 1) (hX' : ∀ j, j < 64 → X' j = (X j && !(decide (s = j) || decide (t = j)))) : pp_ec X' = pp_ec X := by
  unfold pp_ec
  have e1 := pp_rm (X := X) (X' := fun j => X j && !decide (s = j)) (g := fun j => pp_sg (mn_pc j)) (n := 64) hs hxs (fun j _ => rfl)
  have e2 := pp_rm (X := fun j => X j && !decide (s = j)) (X' := X') (g := fun j => pp_sg (mn_pc j)) (n := 64) ht (by show (X t && !decide (s = t)) = true; rw [hxt]; simp [hne]) (fun j hj => by
    rw [hX' j hj]
    show _ = ((X j && !decide (s = j)) && !decide (t = j))
    cases X j <;> cases decide (s = j) <;> cases decide (t = j) <;> rfl)
  rw [e2, e1, hp]
  have p1 := bs_pc1 s hs h1
  unfold pp_sg
  have a : ¬ mn_pc s = 0 := by omega
  have b : ¬ mn_pc s + 1 = 0 := by omega
  rw [if_neg a, if_neg b]
  by_cases c : mn_pc s % 2 = 1
  · have d : ¬ (mn_pc s + 1) % 2 = 1 := by omega
    rw [if_pos c, if_neg d]
    omega
  · have d : (mn_pc s + 1) % 2 = 1 := by omega
    rw [if_neg c, if_pos d]
    omega
theorem bs_clr2 (x : Int64) {s t : Nat} (hs : s < 64) (ht : t < 64) {j : Nat} (hj : j < 64) : bs_t (x &&& ((((1 : Int64) <<< ((nI s).toInt64 &&& 63)) ||| ((1 : Int64) <<< ((nI t).toInt64 &&& 63))) ^^^ (-1))) j = (bs_t x j && !(decide (s = j) || decide (t = j))) := by
  rw [bs_and, bs_not _ hj, bs_or, bs_b1 hs, bs_b1 ht]
/-- the prepared complex: one answer, whatever the state's other fields are -/
theorem wk_prepL : ∀ (c : Nat) (x : Int64), el_cl (bs_t x) → bs_cn 64 (bs_t x) ≤ c → ∃ P : Int64, el_cl (bs_t P) ∧ pp_ec (bs_t P) = pp_ec (bs_t x) ∧
    ∀ (post : Int64 → Prop) (lv rc cc fc : Int32) (a1 : Nat → Int64) (a2 a3 : Nat → Int32) (a4 : Nat → Int64) (a5 a6 : Nat → Int32), post P → wX_prepared_14 post lv rc cc fc a1 a2 a3 a4 a5 a6 (c + 2) x 1 := by
  intro c
  induction c with
  | zero =>
    intro x hcl hc
    refine ⟨x, hcl, rfl, fun post lv rc cc fc a1 a2 a3 a4 a5 a6 hp => ?_⟩
    refine br_f (by decide) (wk_free _ x ?_)
    have z : pp_fr (bs_t x) 63 = 0 := by
      apply Classical.byContradiction
      intro hn
      obtain ⟨_, h2, h3, _⟩ := pp_fr_s 63 hn
      have := bs_cn_0 (show bs_cn 64 (bs_t x) = 0 by omega) (pp_fr (bs_t x) 63) (by omega)
      rw [h3] at this
      exact Bool.noConfusion this
    rw [z]
    exact br_t (by decide) (br_t rfl (br_t rfl hp))
  | succ c ih =>
    intro x hcl hc
    by_cases z : pp_fr (bs_t x) 63 = 0
    · refine ⟨x, hcl, rfl, fun post lv rc cc fc a1 a2 a3 a4 a5 a6 hp => ?_⟩
      refine br_f (by decide) (wk_free _ x ?_)
      rw [z]
      exact br_t (by decide) (br_t rfl (br_t rfl hp))
    · obtain ⟨s1, s2, s3, s4, s5⟩ := pp_fr_s 63 z
      obtain ⟨v, v1, v2, v3, _⟩ := pp_oc_1 s4
      have hs : pp_fr (bs_t x) 63 < 64 := by omega
      generalize es : pp_fr (bs_t x) 63 = s at *
      have ht := pp_oc64 (bs_t x) hs 6 (by omega)
      generalize ht' : pp_oc (bs_t x) s 6 = t at *
      have hv : s.testBit v = false ∧ bs_t x (s ||| 2 ^ v) = true := by
        unfold pp_co at v2
        simp only [Bool.and_eq_true, Bool.not_eq_true'] at v2
        exact v2
      have hk5 := pp_k5 s hs v v1 hv.1
      rw [← v3] at hv hk5
      have bits := fun j (hj : j < 64) => bs_clr2 x hs ht hj
      generalize ex : x &&& ((((1 : Int64) <<< ((nI s).toInt64 &&& 63)) ||| ((1 : Int64) <<< ((nI t).toInt64 &&& 63))) ^^^ (-1)) = x' at bits
      have cnt : bs_cn 64 (bs_t x') ≤ c := by
        have c1 := bs_cn_rm (f := bs_t x) (g := fun j => bs_t x j && !decide (s = j)) hs s3 (fun _ _ => rfl)
        have c2 := bs_cn_rm (f := fun j => bs_t x j && !decide (s = j)) (g := bs_t x') ht (by show (bs_t x t && !decide (s = t)) = true; rw [hv.2]; simp; omega) (fun j hj => by
          rw [bits j hj]
          show _ = ((bs_t x j && !decide (s = j)) && !decide (t = j))
          cases bs_t x j <;> cases decide (s = j) <;> cases decide (t = j) <;> rfl)
        omega
      obtain ⟨P, h1, h2, h3⟩ := ih x' (pp_cl hcl hs s3 s4 ht'.symm s5 bits) cnt
      refine ⟨P, h1, by rw [h2]; exact pp_ecS s1 hs ht s3 hv.2 (by omega) hk5.1 bits, fun post lv rc cc fc a1 a2 a3 a4 a5 a6 hp => ?_⟩
      refine br_f (by decide) (wk_free _ x ?_)
      rw [es]
      refine br_f (nI_nle s1 (by omega)) (br_f (by decide) (wk_oc _ x hs ?_))
      rw [ht']
      exact nm_r ex (h3 post lv rc cc fc a1 a2 a3 a4 a5 a6 hp)
theorem wk_prep (lv : Int32) (x : Int64) (hcl : el_cl (bs_t x)) : ∃ P : Int64, el_cl (bs_t P) ∧ pp_ec (bs_t P) = pp_ec (bs_t x) ∧
    ∀ (post : Int64 → Prop) (rc cc fc : Int32) (a1 : Nat → Int64) (a2 a3 : Nat → Int32) (a4 : Nat → Int64) (a5 a6 : Nat → Int32), post P → wpX_prepared post (lv, rc, cc, fc, a1, a2, a3, a4, a5, a6) x := by
  by_cases hl : lv = 0
  · exact ⟨x, hcl, rfl, fun post rc cc fc a1 a2 a3 a4 a5 a6 hp => br_t hl hp⟩
  · obtain ⟨P, h1, h2, h3⟩ := wk_prepL _ x hcl (Nat.le_refl _)
    exact ⟨P, h1, h2, fun post rc cc fc a1 a2 a3 a4 a5 a6 hp => br_f hl ⟨_, h3 post lv rc cc fc a1 a2 a3 a4 a5 a6 hp⟩⟩
/-! the alternating sum of the counts -/
theorem pp_swap (f : Nat → Nat → Int) (m n : Nat) : la_sm m (fun k => la_sm n (fun j => f k j)) = la_sm n (fun j => la_sm m (fun k => f k j)) := by
  induction m with
  | zero => exact (la_sm_0 (fun _ _ => rfl)).symm
  | succ m ih =>
    show la_sm m (fun k => la_sm n (fun j => f k j)) + la_sm n (fun j => f m j) = la_sm n (fun j => la_sm m (fun k => f k j) + f m j)
    rw [ih, la_sm_add]
theorem pp_cnI (n : Nat) (f : Nat → Bool) : (bs_cn n f : Int) = la_sm n (fun j => if f j then 1 else 0) := by
  induction n with
  | zero => rfl
  | succ n ih =>
    show ((bs_cn n f + (if f n then 1 else 0) : Nat) : Int) = la_sm n (fun j => if f j then 1 else 0) + (if f n then 1 else 0)
    rw [Int.natCast_add, ih]
    cases f n <;> rfl
def pp_ps (k : Nat) : Int := if k % 2 = 0 then 1 else -1
def pp_ck (X : Nat → Bool) (k : Nat) : Nat := bs_cn 64 (bs_dg X k)
theorem pp_k6 : ∀ p, p < 7 → la_sm 6 (fun k => pp_ps k * (if decide (p = k + 1) = true then 1 else 0)) = pp_sg p := by decide +kernel
theorem pp_bal (X : Nat → Bool) : la_sm 6 (fun k => pp_ps k * (pp_ck X k : Int)) = pp_ec X := by
  have e : la_sm 6 (fun k => pp_ps k * (pp_ck X k : Int)) = la_sm 6 (fun k => la_sm 64 (fun j => pp_ps k * (if bs_dg X k j then 1 else 0))) :=
    la_sm_c (fun k _ => by show pp_ps k * (bs_cn 64 (bs_dg X k) : Int) = _; rw [pp_cnI, la_sm_mul])
  rw [e, pp_swap]
  refine la_sm_c (fun j hj => ?_)
  cases hx : X j with
  | false =>
    refine la_sm_0 (fun k _ => ?_)
    show pp_ps k * (if (X j && decide (mn_pc j = k + 1)) = true then 1 else 0) = 0
    rw [hx]
    simp
  | true =>
    have h6 := bs_pc6 j hj
    rw [if_pos rfl, ← pp_k6 (mn_pc j) (by omega)]
    refine la_sm_c (fun k _ => ?_)
    show pp_ps k * (if (X j && decide (mn_pc j = k + 1)) = true then 1 else 0) = _
    rw [hx, Bool.true_and]
def pp_I (z : Int) : Int32 := Int32.ofInt z
theorem pp_In (n : Nat) : nI n = pp_I n := Int32.ofInt_eq_ofNat.symm
theorem pp_k7 : ∀ k, k < 6 → ((nI k &&& 1) = 0 ↔ k % 2 = 0) := by decide +kernel
theorem wk_bal {post : Int32 → Prop} {lv rc cc fc : Int32} {a1 : Nat → Int64} {a2 a3 : Nat → Int32} {a4 : Nat → Int64} {a5 a6 : Nat → Int32} {r : Nat} (hr : r < 4) (h : post (pp_I (pp_ec (bs_t (a1 r))))) : wpX_balance post (lv, rc, cc, fc, a1, a2, a3, a4, a5, a6) (nI r) := by
  unfold wpX_balance
  dsimp only
  refine wk_reg _ hr ?_
  refine pk_loop (fun n i y => wX_balance_14 post (nI r) lv rc cc fc a1 a2 a3 a4 a5 a6 n y (nI i)) (fun i y => y = pp_I (la_sm i (fun k => pp_ps k * (pp_ck (bs_t (a1 r)) k : Int)))) 6 0 0 (by omega) rfl ?_ ?_
  · intro n y hy
    subst hy
    rw [pp_bal]
    exact pk_le 6 6 (fun _ => h) (fun z => absurd z (by omega))
  · intro n i y hi hy hw
    subst hy
    refine pk_le 6 i (fun z => absurd z (by omega)) (fun _ => ⟨vp_in_nI hr (by omega), ?_⟩)
    rw [show (nI r).toNatClampNeg = r from nI_clamp (by omega)]
    refine wk_ofDeg _ _ (by omega) (fun d hd => wk_ones _ d ?_)
    rw [bs_cn_c (f := bs_t d) (g := bs_dg (bs_t (a1 r)) i) hd]
    refine ⟨fun z => nm_e (nm_r (nI_1 i) (hw _ ?_)), fun z => nm_e (nm_r (nI_1 i) (hw _ ?_))⟩
    · have p : pp_ps i = 1 := if_pos ((pp_k7 i hi).mp z)
      show pp_I _ + nI (pp_ck (bs_t (a1 r)) i) = pp_I (la_sm i (fun k => pp_ps k * (pp_ck (bs_t (a1 r)) k : Int)) + pp_ps i * (pp_ck (bs_t (a1 r)) i : Int))
      rw [p, Int.one_mul, pp_In]
      exact (Int32.ofInt_add _ _).symm
    · have p : pp_ps i = -1 := if_neg (fun e => z ((pp_k7 i hi).mpr e))
      show pp_I _ + (-nI (pp_ck (bs_t (a1 r)) i)) = pp_I (la_sm i (fun k => pp_ps k * (pp_ck (bs_t (a1 r)) k : Int)) + pp_ps i * (pp_ck (bs_t (a1 r)) i : Int))
      rw [p, Int.neg_mul, Int.one_mul, pp_In]
      unfold pp_I
      rw [Int32.ofInt_add, Int32.ofInt_neg]
end
section
/-! the table of edges -/
theorem ft_k1 : ∀ t, t < 64 → ∀ r, r < 64 → ((nI r &&& (nI t ^^^ (-1))) = 0 ↔ r &&& t = r) := by decide +kernel
theorem ft_k2 : ∀ t, t < 64 → ∀ r, r < 64 → r &&& t = r → mn_pc r + 1 = mn_pc t → (nI t &&& ((nI t &&& (nI r ^^^ (-1))) - 1)) = nI (t &&& ((t ^^^ r) - 1)) := by decide +kernel
theorem ft_k3 : ∀ q, q < 7 → ((nI q &&& 1) = 0 ↔ q % 2 = 0) := by decide +kernel
theorem wk_edge {post : Int32 → Prop} (u : St1) {t r : Nat} (ht1 : 1 ≤ t) (ht : t < 64) (hr1 : 1 ≤ r) (hr : r < 64) (h : post (pp_I (mn_bd r t))) : wpX_inEdge post u (nI t) (nI r) := by
  obtain ⟨lv, rc, cc, fc, a1, a2, a3, a4, a5, a6⟩ := u
  unfold wpX_inEdge
  dsimp only
  have p1 := bs_pc1 t ht ht1
  have p2 := bs_pc1 r hr hr1
  have p3 := bs_pc6 t ht
  have p4 := bs_pc6 r hr
  refine ⟨fun z => wk_deg _ hr1 hr (wk_deg _ ht1 ht ?_), fun z => ?_⟩
  · have hs := (ft_k1 t ht r hr).mp z
    have e1 : nI (mn_pc t - 1) - 1 = nI (mn_pc t - 1) - nI 1 := rfl
    have cnd : nI (mn_pc r - 1) = nI (mn_pc t - 1) - 1 ↔ mn_pc r + 1 = mn_pc t := by
      by_cases c : mn_pc t = 1
      · rw [c]
        constructor
        · intro e
          have e' : nI (mn_pc r - 1) = -1 := e
          have := congrArg Int32.toInt e'
          rw [nI_toInt (by omega)] at this
          have e2 : (-1 : Int32).toInt = -1 := by decide
          omega
        · intro e; omega
      · rw [e1, pk_sub (by omega), nI_eq (by omega) (by omega)]
        omega
    refine ⟨fun z2 => nm_e (wk_ones _ _ ?_), fun z2 => ?_⟩
    · have hp := cnd.mp z2
      have e : mn_bd r t = if mn_pc (t &&& ((t ^^^ r) - 1)) % 2 = 0 then 1 else -1 := by
        unfold mn_bd
        rw [if_pos ⟨hs, hp⟩]
      have l : t &&& ((t ^^^ r) - 1) < 64 := Nat.lt_of_le_of_lt Nat.and_le_left ht
      rw [ft_k2 t ht r hr hs hp, bs_pcK _ l]
      have l6 := bs_pc6 _ l
      refine ⟨fun z3 => ?_, fun z3 => ?_⟩
      · rw [e, if_pos ((ft_k3 _ (by omega)).mp z3)] at h
        exact h
      · rw [e, if_neg (fun z4 => z3 ((ft_k3 _ (by omega)).mpr z4))] at h
        exact h
    · have e : mn_bd r t = 0 := by
        unfold mn_bd
        rw [if_neg (fun c => z2 (cnd.mpr c.2))]
      rw [e] at h
      exact h
  · have e : mn_bd r t = 0 := by
      unfold mn_bd
      rw [if_neg (fun c => z ((ft_k1 t ht r hr).mpr c.1))]
    rw [e] at h
    exact h
/-- f lists, in order, the m sets below s that X holds and that have d vertices -/
def ft_ls (X : Nat → Bool) (d s m : Nat) (f : Nat → Nat) : Prop :=
  (∀ i, i < m → f i < s ∧ X (f i) = true ∧ mn_pc (f i) = d) ∧ (∀ j, j < s → X j = true → mn_pc j = d → ∃ i, i < m ∧ f i = j) ∧ (∀ i i', i < i' → i' < m → f i < f i') ∧ m ≤ bs_cn s (fun j => decide (mn_pc j = d))
theorem ft_ls0 {X : Nat → Bool} {d : Nat} (hd : 1 ≤ d) (f : Nat → Nat) : ft_ls X d 1 0 f := by
  refine ⟨fun i hi => by omega, fun j hj _ hp => ?_, fun i i' _ h => by omega, by omega⟩
  have e : j = 0 := by omega
  subst e
  have : mn_pc 0 = 0 := rfl
  omega
theorem ft_lsN {X : Nat → Bool} {d s m : Nat} {f : Nat → Nat} (h : ft_ls X d s m f) (hn : ¬ (X s = true ∧ mn_pc s = d)) : ft_ls X d (s + 1) m f := by
  obtain ⟨h1, h2, h3, h4⟩ := h
  refine ⟨fun i hi => ⟨by have := (h1 i hi).1; omega, (h1 i hi).2⟩, fun j hj hx hp => ?_, h3, ?_⟩
  · by_cases e : j = s
    · subst e
      exact absurd ⟨hx, hp⟩ hn
    · exact h2 j (by omega) hx hp
  · show m ≤ bs_cn s (fun j => decide (mn_pc j = d)) + _
    omega
theorem ft_lsY {X : Nat → Bool} {d s m : Nat} {f : Nat → Nat} (h : ft_ls X d s m f) (hx : X s = true) (hp : mn_pc s = d) : ft_ls X d (s + 1) (m + 1) (fun i => if i = m then s else f i) := by
  obtain ⟨h1, h2, h3, h4⟩ := h
  refine ⟨fun i hi => ?_, fun j hj hxj hpj => ?_, fun i i' hii hi' => ?_, ?_⟩
  · show (if i = m then s else f i) < s + 1 ∧ X (if i = m then s else f i) = true ∧ mn_pc (if i = m then s else f i) = d
    by_cases e : i = m
    · rw [if_pos e]
      exact ⟨by omega, hx, hp⟩
    · rw [if_neg e]
      exact ⟨by have := (h1 i (by omega)).1; omega, (h1 i (by omega)).2⟩
  · by_cases e : j = s
    · exact ⟨m, by omega, by show (if m = m then s else f m) = j; rw [if_pos rfl, e]⟩
    · obtain ⟨i, a, b⟩ := h2 j (by omega) hxj hpj
      exact ⟨i, by omega, by show (if i = m then s else f i) = j; rw [if_neg (by omega), b]⟩
  · show (if i = m then s else f i) < (if i' = m then s else f i')
    rw [if_neg (by omega)]
    by_cases e : i' = m
    · rw [if_pos e]
      exact (h1 i (by omega)).1
    · rw [if_neg e]
      exact h3 i i' hii (by omega)
  · show m + 1 ≤ bs_cn s (fun j => decide (mn_pc j = d)) + (if decide (mn_pc s = d) = true then 1 else 0)
    rw [if_pos (decide_eq_true hp)]
    omega
theorem ft_k4 : ∀ s, s < 64 → bs_cn s (fun j => decide (mn_pc j = mn_pc s)) < 20 := by decide +kernel
theorem ft_k5 : ∀ d, d < 8 → bs_cn 64 (fun j => decide (mn_pc j = d)) ≤ 20 := by decide +kernel
theorem ft_k6 : ∀ s, s < 64 → (nI s).toInt8.toInt32 = nI s := by decide +kernel
theorem ft_ix (i j : Nat) : (20 : Int32) * nI i + nI j = nI (20 * i + j) := by
  rw [show (20 : Int32) = nI 20 from rfl, pk_mul, nI_add]
theorem ft_in {i j : Nat} (hi : i < 20) (hj : j < 20) : vp_in ((20 : Int32) * nI i + nI j) 400 := by
  rw [ft_ix]
  exact vp_in_nI (by omega) (by omega)
theorem ft_cl {i j : Nat} (hi : i < 20) (hj : j < 20) : ((20 : Int32) * nI i + nI j).toNatClampNeg = 20 * i + j := by
  rw [ft_ix]
  exact nI_clamp (by omega)
theorem ft_up {a : Nat → Int64} {i j i' j' : Nat} {v : Int64} (hj : j < 20) (hj' : j' < 20) : vp_updL a (20 * i + j) v (20 * i' + j') = if i' = i ∧ j' = j then v else a (20 * i' + j') := by
  unfold vp_updL
  by_cases e : i' = i ∧ j' = j
  · rw [if_pos e, if_pos (by omega)]
  · rw [if_neg e, if_neg (by omega)]
theorem ft_64 {z : Int} (h : z = 0 ∨ z = 1 ∨ z = -1) : (pp_I z).toInt64 = Int64.ofInt z := by
  rcases h with e | e | e <;> subst e <;> decide
section
variable {lv fc : Int32} {a1 : Nat → Int64} {a2 a3 : Nat → Int32} {a5 a6 : Nat → Int32}
theorem wk_fillI {post : St1 → Prop} {J : Int32 → (Nat → Int64) → (Nat → Int32) → (Nat → Int32) → (Nat → Int64) → (Nat → Int32) → (Nat → Int32) → Prop} {m n i : Nat} {f g : Nat → Nat} {rc : Int32} (hn : n ≤ 20) (hi : i < m) (hm : m ≤ 20)
    (h2 : ∀ i, i < m → a2 i = nI (f i) ∧ 1 ≤ f i ∧ f i < 64) (h3 : ∀ j, j < n → a3 j = nI (g j) ∧ 1 ≤ g j ∧ g j < 64) (a4 : Nat → Int64)
    (h : ∀ i' j, i' < i → j < n → a4 (20 * i' + j) = Int64.ofInt (mn_bd (f i') (g j)))
    (hJ : ∀ a4', (∀ i' j, i' < i + 1 → j < n → a4' (20 * i' + j) = Int64.ofInt (mn_bd (f i') (g j))) → J (nI (i + 1)) a1 a2 a3 a4' a5 a6) :
    ∃ fu, wX_fillTable_127 post J (nI i) lv rc (nI n) fc fu 0 a1 a2 a3 a4 a5 a6 := by
  refine pk_loop (fun k j a => wX_fillTable_127 post J (nI i) lv rc (nI n) fc k (nI j) a1 a2 a3 a a5 a6)
    (fun j a => (∀ i' j', i' < i → j' < n → a (20 * i' + j') = Int64.ofInt (mn_bd (f i') (g j'))) ∧ ∀ j', j' < j → a (20 * i + j') = Int64.ofInt (mn_bd (f i) (g j'))) n 0 a4 (by omega) ⟨h, fun j' hj' => by omega⟩ ?_ ?_
  · intro k a ha
    refine pk_le n n (fun _ => nm_r (nI_1 i) (hJ a (fun i' j' hi' hj' => ?_))) (fun z => absurd z (by omega))
    by_cases e : i' = i
    · subst e
      exact ha.2 j' hj'
    · exact ha.1 i' j' (by omega) hj'
  · intro k j a hj ha hw
    refine pk_le n j (fun z => absurd z (by omega)) (fun _ => ⟨vp_in_nI (by omega) (by omega), vp_in_nI (by omega) (by omega), ?_⟩)
    rw [show (nI j).toNatClampNeg = j from nI_clamp (by omega), show (nI i).toNatClampNeg = i from nI_clamp (by omega), (h2 i hi).1, (h3 j hj).1]
    refine wk_edge _ (h3 j hj).2.1 (h3 j hj).2.2 (h2 i hi).2.1 (h2 i hi).2.2 ⟨ft_in (by omega) (by omega), ?_⟩
    rw [ft_cl (by omega) (by omega), ft_64 (mn_bd_u _ _)]
    refine nm_e (nm_r (nI_1 j) (hw _ ⟨fun i' j' hi' hj' => ?_, fun j' hj' => ?_⟩))
    · rw [ft_up (by omega) (by omega), if_neg (by omega)]
      exact ha.1 i' j' hi' hj'
    · rw [ft_up (by omega) (by omega)]
      by_cases e : j' = j
      · subst e
        rw [if_pos ⟨rfl, rfl⟩]
      · rw [if_neg (by omega)]
        exact ha.2 j' (by omega)
theorem wk_fillO {post : St1 → Prop} {m n : Nat} {f g : Nat → Nat} (hn : n ≤ 20) (hm : m ≤ 20)
    (h2 : ∀ i, i < m → a2 i = nI (f i) ∧ 1 ≤ f i ∧ f i < 64) (h3 : ∀ j, j < n → a3 j = nI (g j) ∧ 1 ≤ g j ∧ g j < 64) (a4 : Nat → Int64)
    (H : ∀ a4', (∀ i j, i < m → j < n → a4' (20 * i + j) = Int64.ofInt (mn_bd (f i) (g j))) → post (lv, nI m, nI n, fc, a1, a2, a3, a4', a5, a6)) :
    ∃ fu, wX_fillTable_115 post lv (nI m) (nI n) fc fu 0 a1 a2 a3 a4 a5 a6 := by
  refine pk_loop (fun k i a => wX_fillTable_115 post lv (nI m) (nI n) fc k (nI i) a1 a2 a3 a a5 a6)
    (fun i a => ∀ i' j', i' < i → j' < n → a (20 * i' + j') = Int64.ofInt (mn_bd (f i') (g j'))) m 0 a4 (by omega) (fun i' j' h => by omega) ?_ ?_
  · intro k a ha
    exact pk_le m m (fun _ => H a ha) (fun z => absurd z (by omega))
  · intro k i a hi ha hw
    exact pk_le m i (fun z => absurd z (by omega)) (fun _ => wk_fillI hn hi hm h2 h3 a ha hw)
theorem wk_fill0 {post : St1 → Prop} {rc cc : Int32} {a4 : Nat → Int64} (x : Int64) (H : post (lv, 0, 0, fc, a1, a2, a3, a4, a5, a6)) : wpX_fillTable post (lv, rc, cc, fc, a1, a2, a3, a4, a5, a6) x 0 :=
  ⟨1, br_f (by decide) (br_t (by decide) ⟨1, br_t (by decide) H⟩)⟩
end
/-- what a filled table is: rows f, columns g -/
def ft_tab (X : Nat → Bool) (k m n : Nat) (f g : Nat → Nat) (a4 : Nat → Int64) : Prop :=
  1 ≤ k ∧ k ≤ 6 ∧ m ≤ 20 ∧ n ≤ 20 ∧ ft_ls X k 64 m f ∧ ft_ls X (k + 1) 64 n g ∧ ∀ i j, i < m → j < n → a4 (20 * i + j) = Int64.ofInt (mn_bd (f i) (g j))
theorem wk_fill {post : St1 → Prop} {lv rc cc fc : Int32} {a1 : Nat → Int64} {a2 a3 : Nat → Int32} {a4 : Nat → Int64} {a5 a6 : Nat → Int32} (x : Int64) {k : Nat} (h1 : 1 ≤ k) (h6 : k ≤ 6)
    (H : ∀ m n f g b2 b3 b4, ft_tab (bs_t x) k m n f g b4 → post (lv, nI m, nI n, fc, a1, b2, b3, b4, a5, a6)) : wpX_fillTable post (lv, rc, cc, fc, a1, a2, a3, a4, a5, a6) x (nI k) := by
  refine pk_loop (σ := Int32 × Int32 × (Nat → Int32) × (Nat → Int32)) (fun n i s => wX_fillTable_13 post x (nI k) lv fc n (nI i) s.1 s.2.1 a1 s.2.2.1 s.2.2.2 a4 a5 a6)
    (fun i s => 1 ≤ i ∧ ∃ m n f g, s.1 = nI m ∧ s.2.1 = nI n ∧ ft_ls (bs_t x) k i m f ∧ ft_ls (bs_t x) (k + 1) i n g ∧ (∀ j, j < m → s.2.2.1 j = nI (f j)) ∧ (∀ j, j < n → s.2.2.2 j = nI (g j)))
    64 1 (0, 0, a2, a3) (by omega) ⟨by omega, 0, 0, fun _ => 0, fun _ => 0, rfl, rfl, ft_ls0 h1 _, ft_ls0 (by omega) _, fun j hj => by omega, fun j hj => by omega⟩ ?_ ?_
  · intro n0 s hs
    obtain ⟨rc', cc', b2, b3⟩ := s
    obtain ⟨_, m, n, f, g, e1, e2, l1, l2, c1, c2⟩ := hs
    dsimp only at e1 e2 c1 c2
    subst e1
    subst e2
    have hm : m ≤ 20 := Nat.le_trans l1.2.2.2 (ft_k5 k (by omega))
    have hn : n ≤ 20 := Nat.le_trans l2.2.2.2 (ft_k5 (k + 1) (by omega))
    have pos : ∀ d j, 1 ≤ d → mn_pc j = d → 1 ≤ j := by
      intro d j hd hj
      rcases Nat.eq_zero_or_pos j with e | e
      · subst e
        have : mn_pc 0 = 0 := rfl
        omega
      · exact e
    exact pk_lt 63 64 (fun _ => wk_fillO hn hm (fun i hi => ⟨c1 i hi, pos k _ h1 (l1.1 i hi).2.2, (l1.1 i hi).1⟩) (fun j hj => ⟨c2 j hj, pos (k + 1) _ (by omega) (l2.1 j hj).2.2, (l2.1 j hj).1⟩) a4 (fun b4 h4 => H m n f g b2 b3 b4 ⟨h1, h6, hm, hn, l1, l2, h4⟩)) (fun z => absurd z (by omega))
  · intro n0 i s hi hs hw
    obtain ⟨rc', cc', b2, b3⟩ := s
    obtain ⟨hi1, m, n, f, g, e1, e2, l1, l2, c1, c2⟩ := hs
    dsimp only at e1 e2 c1 c2
    subst e1
    subst e2
    have p1 := bs_pc1 i hi hi1
    have p6 := bs_pc6 i hi
    refine pk_lt 63 i (fun z => absurd z (by omega)) (fun _ => pk_le k 0 (fun z => absurd z (by omega)) (fun _ => wk_isIn _ x hi (fun hb => wk_deg _ hi1 hi ?_) (fun hb => nm_r (nI_1 i) (hw (nI m, nI n, b2, b3) ⟨by omega, m, n, f, g, rfl, rfl, ft_lsN l1 (fun c => by rw [hb] at c; exact Bool.noConfusion c.1), ft_lsN l2 (fun c => by rw [hb] at c; exact Bool.noConfusion c.1), c1, c2⟩))))
    have ek : nI k - 1 = nI (k - 1) := pk_sub (a := k) (b := 1) h1
    refine pk_eq (mn_pc i - 1) (k - 1) (fun e => ?_) (fun e => pk_eq (mn_pc i - 1) k (fun e' => ?_) (fun e' => ?_)) rfl ek
    · have hp : mn_pc i = k := by omega
      have hm : m < 20 := Nat.lt_of_le_of_lt l1.2.2.2 (by rw [← hp]; exact ft_k4 i hi)
      refine ⟨vp_in_nI hm (by omega), ?_⟩
      rw [show (nI m).toNatClampNeg = m from nI_clamp (by omega), ft_k6 i hi]
      refine nm_e (nm_r (nI_1 m) (nm_r (nI_1 i) (hw (nI (m + 1), nI n, upd b2 m (nI i), b3) ⟨by omega, m + 1, n, _, g, rfl, rfl, ft_lsY l1 hb hp, ft_lsN l2 (fun c => by have := c.2; omega), fun j hj => ?_, c2⟩)))
      show upd b2 m (nI i) j = nI (if j = m then i else f j)
      by_cases ej : j = m
      · rw [ej, pk_us, if_pos rfl]
      · rw [pk_un ej, if_neg ej]
        exact c1 j (by omega)
    · have hp : mn_pc i = k + 1 := by omega
      have hn : n < 20 := Nat.lt_of_le_of_lt l2.2.2.2 (by rw [← hp]; exact ft_k4 i hi)
      refine ⟨vp_in_nI hn (by omega), ?_⟩
      rw [show (nI n).toNatClampNeg = n from nI_clamp (by omega), ft_k6 i hi]
      refine nm_e (nm_r (nI_1 n) (nm_r (nI_1 i) (hw (nI m, nI (n + 1), b2, upd b3 n (nI i)) ⟨by omega, m, n + 1, f, _, rfl, rfl, ft_lsN l1 (fun c => by have := c.2; omega), ft_lsY l2 hb hp, c1, fun j hj => ?_⟩)))
      show upd b3 n (nI i) j = nI (if j = n then i else g j)
      by_cases ej : j = n
      · rw [ej, pk_us, if_pos rfl]
      · rw [pk_un ej, if_neg ej]
        exact c2 j (by omega)
    · exact nm_r (nI_1 i) (hw (nI m, nI n, b2, b3) ⟨by omega, m, n, f, g, rfl, rfl, ft_lsN l1 (fun c => by have := c.2; omega), ft_lsN l2 (fun c => by have := c.2; omega), c1, c2⟩)
end
section
/-! rank modulo a prime -/
def rk_tab (p m n : Nat) (v : Nat → Nat → Nat) (a : Nat → Int64) : Prop := ∀ i j, i < m → j < n → a (20 * i + j) = lN (v i j) ∧ v i j < p
theorem rk_mul {a b p : Nat} (ha : a < p) (hb : b < p) (hp : p ≤ 1000003) : a * b < 2 ^ 63 := by
  have := Nat.mul_le_mul (show a ≤ 1000003 by omega) (show b ≤ 1000003 by omega)
  omega
theorem rk_rem {a b p : Nat} (ha : a < p) (hb : b < p) (hp : p ≤ 1000003) : (lN a * lN b) - (lN a * lN b) / lN p * lN p = lN (a * b % p) := by
  rw [lN_mul]
  exact pk_lRem (rk_mul ha hb hp) (by omega) (by omega)
theorem rk_P {p : Nat} (hp : p ≤ 1000003) : (nI p).toInt64 = lN p := nI_l (by omega)
theorem rk_P0 {p : Nat} (h2 : 2 ≤ p) (hp : p ≤ 1000003) : ¬ (nI p).toInt64 = 0 := by
  rw [rk_P hp]
  intro e
  have := (pk_lEQ (a := p) (b := 0) (by omega) (by omega)).mp e
  omega
section
variable {lv rc cc fc : Int32} {a1 : Nat → Int64} {a2 a3 : Nat → Int32} {a4 : Nat → Int64} {a5 a6 : Nat → Int32}
theorem rk_pow1 (A B q p : Nat) : (A * B % p * (B * B % p) ^ q) % p = (A * B ^ (2 * q + 1)) % p := by
  rw [Nat.mul_mod, Nat.mod_mod, Nat.pow_mod, Nat.mod_mod, ← Nat.pow_mod, ← Nat.mul_mod, Nat.pow_succ, Nat.pow_mul, Nat.pow_two, Nat.mul_assoc, Nat.mul_comm B]
theorem rk_pow0 (A B q p : Nat) : (A * (B * B % p) ^ q) % p = (A * B ^ (2 * q)) % p := by
  rw [Nat.mul_mod, Nat.pow_mod, Nat.mod_mod, ← Nat.pow_mod, ← Nat.mul_mod, Nat.pow_mul, Nat.pow_two]
theorem rk_k1 (n : Nat) (h : n < 2 ^ 31) : ((nI n &&& 1) = 0 ↔ n % 2 = 0) := by
  have e : nI n &&& 1 = nI (n % 2 ^ 1) := pk_andN (by omega) 1 (by decide)
  rw [e]
  have : nI (n % 2 ^ 1) = 0 ↔ n % 2 ^ 1 = 0 := nI_eq (a := n % 2 ^ 1) (b := 0) (by omega) (by omega)
  rw [this]
theorem wk_powL {post : Int64 → Prop} {p c : Nat} (h2 : 2 ≤ p) (hp : p ≤ 1000003) (h : post (lN c)) : ∀ (L A B : Nat), L < 2 ^ 31 → A < p → B < p → (A * B ^ L) % p = c → wX_power_9 post (nI p) lv rc cc fc a1 a2 a3 a4 a5 a6 (L + 1) (lN A) (lN B) (nI L) := by
  intro L
  induction L using Nat.strongRecOn with
  | ind L ih =>
    intro A B hL hA hB hc
    have big : ∀ K, K < L → ∀ A' B', A' < p → B' < p → (A' * B' ^ K) % p = c → wX_power_9 post (nI p) lv rc cc fc a1 a2 a3 a4 a5 a6 L (lN A') (lN B') (nI K) := by
      intro K hK A' B' hA' hB' hc'
      have mono : ∀ d n x y z, wX_power_9 post (nI p) lv rc cc fc a1 a2 a3 a4 a5 a6 n x y z → wX_power_9 post (nI p) lv rc cc fc a1 a2 a3 a4 a5 a6 (n + d) x y z := by
        intro d n
        induction n with
        | zero => intro x y z hh; exact hh.elim
        | succ n ih2 =>
          intro x y z hh
          rw [show n + 1 + d = (n + d) + 1 by omega]
          refine ⟨hh.1, fun z0 => ?_⟩
          have h3 := hh.2 z0
          refine ⟨fun z1 => ?_, fun z1 => ?_⟩
          · have h4 := h3.1 z1
            exact ⟨h4.1, fun w ew w2 ew2 => ih2 _ _ _ (h4.2 w ew w2 ew2)⟩
          · have h4 := h3.2 z1
            exact ⟨h4.1, fun w ew => ⟨(h4.2 w ew).1, fun w1 e1 w2 e2 => ih2 _ _ _ ((h4.2 w ew).2 w1 e1 w2 e2)⟩⟩
      have t := mono (L - (K + 1)) (K + 1) _ _ _ (ih K hK A' B' (by omega) hA' hB' hc')
      rw [show K + 1 + (L - (K + 1)) = L by omega] at t
      exact t
    refine pk_le L 0 (fun z => ?_) (fun z => ?_)
    · have e : L = 0 := by omega
      subst e
      rw [Nat.pow_zero, Nat.mul_one, Nat.mod_eq_of_lt hA] at hc
      rw [hc]
      exact h
    · have hp0 := rk_P0 h2 hp
      have hp1 : 0 < p := by omega
      have es : nI L >>> ((1 : Int32) &&& 31) = nI (L / 2) := by
        have := pk_shrN hL ((1 : Int32) &&& 31) 1 (by decide)
        rw [this]
      refine ⟨fun z1 => ?_, fun z1 => ⟨hp0, ?_⟩⟩
      · have ev := (rk_k1 L hL).mp z1
        refine ⟨hp0, ?_⟩
        rw [rk_P hp, rk_rem hB hB hp, es]
        refine nm_e (nm_e (big (L / 2) (by omega) A _ hA (Nat.mod_lt _ hp1) ?_))
        rw [rk_pow0, show 2 * (L / 2) = L by omega]
        exact hc
      · have od : L % 2 = 1 := by
          have : ¬ L % 2 = 0 := fun e => z1 ((rk_k1 L hL).mpr e)
          omega
        rw [rk_P hp, rk_rem hA hB hp]
        refine nm_e ⟨hp0, ?_⟩
        rw [rk_P hp, rk_rem hB hB hp, es]
        refine nm_e (nm_e (big (L / 2) (by omega) _ _ (Nat.mod_lt _ hp1) (Nat.mod_lt _ hp1) ?_))
        rw [rk_pow1, show 2 * (L / 2) + 1 = L by omega]
        exact hc
end
theorem wk_pow {post : Int64 → Prop} (u : St1) {x e p : Nat} (h2 : 2 ≤ p) (hp : p ≤ 1000003) (hx : x < p) (he : e < 2 ^ 31) (h : post (lN (x ^ e % p))) : wpX_power post u (lN x) (nI e) (nI p) := by
  obtain ⟨lv, rc, cc, fc, a1, a2, a3, a4, a5, a6⟩ := u
  exact ⟨_, wk_powL h2 hp h e 1 x he (by omega) hx (by rw [Nat.one_mul])⟩
def rk_sw (i l a : Nat) : Nat := if a = i then l else if a = l then i else a
section
variable {lv fc : Int32} {a1 : Nat → Int64} {a2 a3 : Nat → Int32} {a4 : Nat → Int64} {a5 a6 : Nat → Int32}
theorem wk_exch {post : St1 → Prop} {rc : Int32} {n i l : Nat} (hn : n ≤ 20) (hi : i < 20) (hl : l < 20)
    (H : ∀ b4 : Nat → Int64, (∀ a b, a < 20 → b < n → b4 (20 * a + b) = a4 (20 * rk_sw i l a + b)) → post (lv, rc, nI n, fc, a1, a2, a3, b4, a5, a6)) :
    wpX_exchangeRows post (lv, rc, nI n, fc, a1, a2, a3, a4, a5, a6) (nI i) (nI l) := by
  refine pk_loop (fun k j b => wX_exchangeRows_2 post (nI i) (nI l) lv rc (nI n) fc k (nI j) a1 a2 a3 b a5 a6)
    (fun j b => ∀ a c, a < 20 → c < n → b (20 * a + c) = if c < j then a4 (20 * rk_sw i l a + c) else a4 (20 * a + c)) n 0 a4 (by omega) (fun a c _ _ => by simp) ?_ ?_
  · intro k b hb
    exact pk_le n n (fun _ => H b (fun a c ha hc => by rw [hb a c ha hc, if_pos hc])) (fun z => absurd z (by omega))
  · intro k j b hj hb hw
    refine pk_le n j (fun z => absurd z (by omega)) (fun _ => ⟨ft_in hi (by omega), ?_⟩)
    rw [ft_cl hi (by omega), ft_cl hl (by omega)]
    refine nm_e ⟨ft_in hl (by omega), ft_in hi (by omega), nm_e ⟨ft_in hl (by omega), nm_e (nm_r (nI_1 j) (hw _ (fun a c ha hc => ?_)))⟩⟩
    have bi : b (20 * i + j) = a4 (20 * i + j) := by rw [hb i j hi hj, if_neg (Nat.lt_irrefl j)]
    have bl : b (20 * l + j) = a4 (20 * l + j) := by rw [hb l j hl hj, if_neg (Nat.lt_irrefl j)]
    rw [ft_up (by omega) (by omega), ft_up (by omega) (by omega), bi, bl]
    by_cases e : c = j
    · subst e
      rw [if_pos (show c < c + 1 by omega)]
      by_cases e1 : a = l
      · subst e1
        rw [if_pos (show a = a ∧ c = c from ⟨rfl, rfl⟩)]
        unfold rk_sw
        by_cases e2 : a = i
        · subst e2; rw [if_pos rfl]
        · rw [if_neg e2, if_pos rfl]
      · rw [if_neg (show ¬ (a = l ∧ c = c) from fun z => e1 z.1)]
        by_cases e2 : a = i
        · subst e2
          rw [if_pos (show a = a ∧ c = c from ⟨rfl, rfl⟩)]
          unfold rk_sw
          rw [if_pos rfl]
        · rw [if_neg (show ¬ (a = i ∧ c = c) from fun z => e2 z.1), hb a c ha hc, if_neg (Nat.lt_irrefl c)]
          unfold rk_sw
          rw [if_neg e2, if_neg e1]
    · rw [if_neg (show ¬ (a = l ∧ c = j) from fun z => e z.2), if_neg (show ¬ (a = i ∧ c = j) from fun z => e z.2), hb a c ha hc]
      by_cases e3 : c < j
      · rw [if_pos e3, if_pos (show c < j + 1 by omega)]
      · rw [if_neg e3, if_neg (show ¬ c < j + 1 by omega)]
theorem wk_subM {post : St1 → Prop} {m n l row F p : Nat} {v : Nat → Nat → Nat} (h2 : 2 ≤ p) (hp : p ≤ 1000003) (hm : m ≤ 20) (hn : n ≤ 20) (hl : l < m) (hr : row < m) (hne : l ≠ row) (hF : F < p) (ht : rk_tab p m n v a4)
    (H : ∀ b4 : Nat → Int64, rk_tab p m n (fun i j => if i = l then (v l j + p - F * v row j % p) % p else v i j) b4 → post (lv, nI m, nI n, fc, a1, a2, a3, b4, a5, a6)) :
    wpX_subtractModulo post (lv, nI m, nI n, fc, a1, a2, a3, a4, a5, a6) (nI l) (nI row) (lN F) (nI p) := by
  refine pk_loop (fun k j b => wX_subtractModulo_3 post (nI l) (nI row) (lN F) (nI p) lv (nI m) (nI n) fc k (nI j) a1 a2 a3 b a5 a6)
    (fun j b => rk_tab p m n (fun i c => if i = l ∧ c < j then (v l c + p - F * v row c % p) % p else v i c) b) n 0 a4 (by omega) (fun i j hi hj => by simpa using ht i j hi hj) ?_ ?_
  · intro k b hb
    refine pk_le n n (fun _ => H b (fun i j hi hj => ?_)) (fun z => absurd z (by omega))
    have t := hb i j hi hj
    simp only [hj, and_true] at t
    exact t
  · intro k j b hj hb hw
    have hrv := hb row j hr hj
    have hlv := hb l j hl hj
    simp only [show ¬ (row = l ∧ j < j) by omega, if_false] at hrv
    dsimp only at hlv
    rw [if_neg (show ¬ (l = l ∧ j < j) by omega)] at hlv
    refine pk_le n j (fun z => absurd z (by omega)) (fun _ => ⟨ft_in (by omega) (by omega), rk_P0 h2 hp, ?_⟩)
    rw [ft_cl (i := row) (by omega) (by omega), ft_cl (i := l) (by omega) (by omega), rk_P hp, hrv.1, hlv.1, rk_rem hF hrv.2 hp]
    have hq : F * v row j % p < p := Nat.mod_lt _ (by omega)
    have e1 : lN (v l j) - lN (F * v row j % p) + lN p = lN (v l j + p - F * v row j % p) := by
      rw [← lN_sub (by omega), ← lN_add]
      grind
    refine nm_e ⟨ft_in (by omega) (by omega), by rw [← rk_P hp]; exact rk_P0 h2 hp, ft_in (by omega) (by omega), ?_⟩
    rw [e1, pk_lRem (by omega) (by omega) (by omega)]
    refine nm_e (nm_r (nI_1 j) (hw _ (fun i c hi hc => ?_)))
    have t := hb i c hi hc
    dsimp only at t ⊢
    rw [ft_up (by omega) (by omega)]
    by_cases e : i = l ∧ c = j
    · rw [if_pos e]
      obtain ⟨e3, e4⟩ := e
      subst e3
      subst e4
      rw [if_pos ⟨rfl, by omega⟩]
      exact ⟨rfl, Nat.mod_lt _ (by omega)⟩
    · rw [if_neg e]
      by_cases e5 : i = l ∧ c < j
      · rw [if_pos e5] at t
        rw [if_pos ⟨e5.1, by omega⟩]
        exact t
      · rw [if_neg e5] at t
        rw [if_neg (by omega)]
        exact t
end
end
section
/-! rank: the loops -/
def rl_act (row : Nat) (v : Nat → Nat → Nat) (i j : Nat) : Int := if row ≤ i then (v i j : Int) else 0
theorem rl_cong {p : Int} {m n r : Nat} {M N : Nat → Nat → Int} (h : ∀ i j, i < m → j < n → p ∣ M i j - N i j) (hr : la_rk p m n N r) : la_rk p m n M r := by
  refine la_rk_c (fun s hs => ?_) (fun s hs => ?_) hr
  · exact la_fac_map (fun i => i) (fun j => j) (fun _ => false) (fun _ => false) (fun i _ z => Bool.noConfusion z) (fun j _ z => Bool.noConfusion z) (fun i hi _ j hj _ => ⟨hi, hj, h i j hi hj⟩) hs
  · refine la_fac_map (fun i => i) (fun j => j) (fun _ => false) (fun _ => false) (fun i _ z => Bool.noConfusion z) (fun j _ z => Bool.noConfusion z) (fun i hi _ j hj _ => ⟨hi, hj, ?_⟩) hs
    obtain ⟨x, hx⟩ := h i j hi hj
    exact ⟨-x, by rw [Int.mul_neg, ← hx]; omega⟩
theorem rl_sw2 (i l a : Nat) : rk_sw i l (rk_sw i l a) = a := by
  unfold rk_sw
  by_cases h1 : a = i
  · rw [if_pos h1]
    by_cases h2 : l = i
    · rw [if_pos h2]; omega
    · rw [if_neg h2, if_pos rfl]; omega
  · rw [if_neg h1]
    by_cases h2 : a = l
    · rw [if_pos h2, if_pos rfl]; omega
    · rw [if_neg h2, if_neg h1, if_neg h2]
theorem rl_sw_ge {i row a : Nat} (hi : row ≤ i) : row ≤ rk_sw i row a ↔ row ≤ a := by
  unfold rk_sw
  by_cases h1 : a = i
  · rw [if_pos h1]; omega
  · rw [if_neg h1]
    by_cases h2 : a = row
    · rw [if_pos h2]; omega
    · rw [if_neg h2]
theorem rl_sw_lt {i l a m : Nat} (hi : i < m) (hl : l < m) (ha : a < m) : rk_sw i l a < m := by
  unfold rk_sw
  split
  · exact hl
  · split
    · exact hi
    · exact ha
theorem rl_swap {p : Int} {m n r i row : Nat} {v : Nat → Nat → Nat} (hi : row ≤ i) (him : i < m) (hrow : row < m) (h : la_rk p m n (rl_act row (fun a b => v (rk_sw i row a) b)) r) : la_rk p m n (rl_act row v) r := by
  have e : ∀ a b, rl_act row (fun a b => v (rk_sw i row a) b) a b = rl_act row v (rk_sw i row a) b := by
    intro a b
    unfold rl_act
    by_cases c : row ≤ a
    · rw [if_pos c, if_pos ((rl_sw_ge hi).mpr c)]
    · rw [if_neg c, if_neg (fun z => c ((rl_sw_ge hi).mp z))]
  refine la_rk_c (fun s hs => ?_) (fun s hs => ?_) h
  · refine la_fac_map (rk_sw i row) (fun j => j) (fun _ => false) (fun _ => false) (fun i _ z => Bool.noConfusion z) (fun j _ z => Bool.noConfusion z) (fun a ha _ j hj _ => ⟨rl_sw_lt him hrow ha, hj, ⟨0, ?_⟩⟩) hs
    rw [e, rl_sw2]
    simp
  · refine la_fac_map (rk_sw i row) (fun j => j) (fun _ => false) (fun _ => false) (fun i _ z => Bool.noConfusion z) (fun j _ z => Bool.noConfusion z) (fun a ha _ j hj _ => ⟨rl_sw_lt him hrow ha, hj, ⟨0, ?_⟩⟩) hs
    rw [e]
    simp
theorem rl_modI (x p : Nat) : ((x % p : Nat) : Int) = (x : Int) - p * ((x / p : Nat) : Int) := by
  have := Nat.mod_add_div x p
  have e : ((x % p + p * (x / p) : Nat) : Int) = (x : Int) := by rw [this]
  rw [Int.natCast_add, Int.natCast_mul] at e
  omega
theorem rl_subI {a b c y p F : Nat} (hF : F = c * y % p) (hp : 0 < p) : (p : Int) ∣ (((a + p - F * b % p) % p : Nat) : Int) - ((a : Int) - (c : Int) * y * b) := by
  have l : F * b % p < p := Nat.mod_lt _ hp
  have e1 := rl_modI (a + p - F * b % p) p
  have e2 : ((a + p - F * b % p : Nat) : Int) = (a : Int) + p - ((F * b % p : Nat) : Int) := by omega
  have e3 := rl_modI (F * b) p
  have e4 := rl_modI (c * y) p
  rw [← hF] at e4
  rw [Int.natCast_mul] at e3 e4
  refine ⟨1 + (((F * b) / p : Nat) : Int) + (((c * y) / p : Nat) : Int) * b - (((a + p - F * b % p) / p : Nat) : Int), ?_⟩
  rw [e1, e2]
  generalize (((a + p - F * b % p) / p : Nat) : Int) = D1 at *
  generalize ((F * b % p : Nat) : Int) = Q at *
  generalize (((F * b) / p : Nat) : Int) = D2 at *
  generalize (((c * y) / p : Nat) : Int) = D3 at *
  grind
section
variable {lv fc : Int32} {a1 : Nat → Int64} {a2 a3 : Nat → Int32} {a4 : Nat → Int64} {a5 a6 : Nat → Int32} {post : Int32 → St1 → Prop}
  {J : Int32 → Int32 → Int32 → Int32 → Int32 → Int32 → (Nat → Int64) → (Nat → Int32) → (Nat → Int32) → (Nat → Int64) → (Nat → Int32) → (Nat → Int32) → Prop} {p m n row j0 : Nat}
/-- w is v after the rows behind row have been cleared in column j0 -/
def rl_el (p m n row j0 y : Nat) (v w : Nat → Nat → Nat) : Prop :=
  (∀ i j, i ≤ row → w i j = v i j) ∧ ∀ i j, row < i → i < m → j < n → (p : Int) ∣ (w i j : Int) - ((v i j : Int) - (v i j0 : Int) * y * v row j)
theorem wk_r160 {y : Nat} {v : Nat → Nat → Nat} (h2 : 2 ≤ p) (hp : p ≤ 1000003) (hm : m ≤ 20) (hn : n ≤ 20) (hrow : row < m) (hj0 : j0 < n) (hy : y < p) (ht : rk_tab p m n v a4)
    (hJ : ∀ b4 w, rk_tab p m n w b4 → rl_el p m n row j0 y v w → J (nI (row + 1)) (nI (j0 + 1)) lv (nI m) (nI n) fc a1 a2 a3 b4 a5 a6) :
    ∃ fu, wX_rank_160 post J (nI p) (nI row) (nI j0) (lN y) fu (nI (row + 1)) lv (nI m) (nI n) fc a1 a2 a3 a4 a5 a6 := by
  refine pk_loop (fun k l b => wX_rank_160 post J (nI p) (nI row) (nI j0) (lN y) k (nI l) lv (nI m) (nI n) fc a1 a2 a3 b a5 a6)
    (fun l b => row + 1 ≤ l ∧ ∃ w, rk_tab p m n w b ∧ rl_el p l n row j0 y v w ∧ ∀ i j, l ≤ i → w i j = v i j) m (row + 1) a4 (by omega)
    ⟨Nat.le_refl _, v, ht, ⟨fun _ _ _ => rfl, fun i j h3 h4 => by omega⟩, fun _ _ _ => rfl⟩ ?_ ?_
  · intro k b hb
    obtain ⟨_, w, h3, h4, _⟩ := hb
    exact pk_le m m (fun _ => nm_r (nI_1 row) (nm_r (nI_1 j0) (hJ b w h3 h4))) (fun z => absurd z (by omega))
  · intro k l b hl hb hw
    obtain ⟨hl1, w, h3, h4, h5⟩ := hb
    have hlv := h3 l j0 hl hj0
    rw [h5 l j0 (Nat.le_refl _)] at hlv
    have hF : v l j0 * y % p < p := Nat.mod_lt _ (by omega)
    refine pk_le m l (fun z => absurd z (by omega)) (fun _ => ⟨ft_in (by omega) (by omega), rk_P0 h2 hp, ?_⟩)
    rw [ft_cl (by omega) (by omega), rk_P hp, hlv.1, rk_rem hlv.2 hy hp]
    refine nm_e ⟨fun z => nm_r (nI_1 l) (hw b ⟨by omega, w, h3, ⟨h4.1, fun i j hi1 hi2 hj => ?_⟩, fun i j hi => h5 i j (by omega)⟩), fun z => ?_⟩
    · by_cases e : i = l
      · subst e
        have z0 : v i j0 * y % p = 0 := (pk_lEQ (a := v i j0 * y % p) (b := 0) (by omega) (by omega)).mp z
        rw [h5 i j (Nat.le_refl _)]
        have e4 := rl_modI (v i j0 * y) p
        rw [z0, Int.natCast_mul] at e4
        refine ⟨((v i j0 * y / p : Nat) : Int) * v row j, ?_⟩
        generalize ((v i j0 * y / p : Nat) : Int) = D at *
        grind
      · exact h4.2 i j hi1 (by omega) hj
    · refine wk_subM h2 hp hm hn hl hrow (by omega) hF h3 (fun b4 h6 => nm_r (nI_1 l) (hw b4 ⟨by omega, _, h6, ⟨fun i j hi => ?_, fun i j hi1 hi2 hj => ?_⟩, fun i j hi => ?_⟩))
      · show (if i = l then _ else w i j) = v i j
        rw [if_neg (by omega)]
        exact h4.1 i j hi
      · by_cases e : i = l
        · subst e
          show (p : Int) ∣ ((if i = i then (w i j + p - v i j0 * y % p * w row j % p) % p else w i j : Nat) : Int) - _
          rw [if_pos rfl, h5 i j (Nat.le_refl _), h4.1 row j (Nat.le_refl _)]
          exact rl_subI rfl (by omega)
        · show (p : Int) ∣ ((if i = l then (w l j + p - v l j0 * y % p * w row j % p) % p else w i j : Nat) : Int) - _
          rw [if_neg e]
          exact h4.2 i j hi1 (by omega) hj
      · show (if i = l then _ else w i j) = v i j
        rw [if_neg (by omega)]
        exact h5 i j (by omega)
theorem wk_r115 {i : Nat} {v : Nat → Nat → Nat} (h2 : 2 ≤ p) (hp : p ≤ 1000003) (hm : m ≤ 20) (hn : n ≤ 20) (hrow : row < m) (hj0 : j0 < n) (him : i ≤ m) (ht : rk_tab p m n v a4)
    (hJ0 : i = m → J (nI row) (nI (j0 + 1)) lv (nI m) (nI n) fc a1 a2 a3 a4 a5 a6)
    (hJ1 : i < m → ∀ b4 w, rk_tab p m n w b4 → rl_el p m n row j0 (v i j0 ^ (p - 2) % p) (fun a b => v (rk_sw i row a) b) w → J (nI (row + 1)) (nI (j0 + 1)) lv (nI m) (nI n) fc a1 a2 a3 b4 a5 a6) :
    wX_rank_115 post J (nI p) (nI row) (nI j0) (nI i) lv (nI m) (nI n) fc a1 a2 a3 a4 a5 a6 := by
  refine pk_eq i m (fun e => nm_r (nI_1 j0) (hJ0 e)) (fun e => ?_)
  have hi : i < m := by omega
  refine wk_exch hn (by omega) (by omega) (fun b4 hb => ⟨ft_in (by omega) (by omega), ?_⟩)
  have tb : rk_tab p m n (fun a b => v (rk_sw i row a) b) b4 := fun a b ha hb' => by
    rw [hb a b (by omega) hb']
    exact ht _ b (rl_sw_lt hi hrow ha) hb'
  have er : rk_sw i row row = i := by
    unfold rk_sw
    by_cases c : row = i
    · rw [if_pos c]; exact c
    · rw [if_neg c, if_pos rfl]
  have tr := tb row j0 hrow hj0
  dsimp only at tr
  rw [er] at tr
  rw [ft_cl (by omega) (by omega), tr.1, show nI p - 2 = nI (p - 2) from pk_sub (b := 2) h2]
  refine wk_pow _ h2 hp tr.2 (by omega) (nm_r (nI_1 row) (wk_r160 h2 hp hm hn hrow hj0 (Nat.mod_lt _ (by omega)) tb (fun b5 w h3 h4 => hJ1 hi b5 w h3 h4)))
theorem wk_r83 {v : Nat → Nat → Nat} (h2 : 2 ≤ p) (hp : p ≤ 1000003) (hm : m ≤ 20) (hn : n ≤ 20) (hrow : row < m) (hj0 : j0 < n) (ht : rk_tab p m n v a4)
    (hx : ∀ i, row ≤ i → i ≤ m → (∀ l, row ≤ l → l < i → v l j0 = 0) → (i < m → v i j0 ≠ 0) → wX_rank_115 post J (nI p) (nI row) (nI j0) (nI i) lv (nI m) (nI n) fc a1 a2 a3 a4 a5 a6) :
    ∃ fu, wX_rank_83 post J (nI p) (nI row) (nI j0) lv (nI m) (nI n) fc a1 a2 a3 a4 a5 a6 fu (nI row) := by
  refine pk_loop (σ := Unit) (fun k i _ => wX_rank_83 post J (nI p) (nI row) (nI j0) lv (nI m) (nI n) fc a1 a2 a3 a4 a5 a6 k (nI i)) (fun i _ => row ≤ i ∧ ∀ l, row ≤ l → l < i → v l j0 = 0) m row () (by omega) ⟨Nat.le_refl _, fun l _ _ => by omega⟩ ?_ ?_
  · intro k _ h
    exact pk_le m m (fun _ => hx m h.1 (Nat.le_refl _) h.2 (fun z => by omega)) (fun z => absurd z (by omega))
  · intro k i _ hi h hw
    have tv := ht i j0 hi hj0
    refine pk_le m i (fun z => absurd z (by omega)) (fun _ => ⟨ft_in (by omega) (by omega), ?_⟩)
    rw [ft_cl (by omega) (by omega), tv.1]
    have ez : lN (v i j0) = 0 ↔ v i j0 = 0 := pk_lEQ (a := v i j0) (b := 0) (by omega) (by omega)
    refine ⟨fun z => nm_r (nI_1 i) (hw () ⟨by omega, fun l h3 h4 => ?_⟩), fun z => hx i h.1 (by omega) h.2 (fun _ e => z (ez.mpr e))⟩
    by_cases e : l = i
    · rw [e]; exact ez.mp z
    · exact h.2 l h3 (by omega)
end
/-- the loop over the columns, from any table that has rank as M -/
theorem wk_r64 {lv fc : Int32} {a1 : Nat → Int64} {a2 a3 : Nat → Int32} {a4 : Nat → Int64} {a5 a6 : Nat → Int32} {post : Int32 → St1 → Prop} {p m n : Nat} {M : Nat → Nat → Int} {v0 : Nat → Nat → Nat} (h2 : 2 ≤ p) (hp : p ≤ 1000003) (hpr : la_pr (p : Int)) (hm : m ≤ 20) (hn : n ≤ 20) (ht : rk_tab p m n v0 a4)
    (hM : ∀ i j, i < m → j < n → (p : Int) ∣ M i j - v0 i j)
    (H : ∀ r b4, r ≤ 20 → la_rk p m n M r → post (nI r) (lv, nI m, nI n, fc, a1, a2, a3, b4, a5, a6)) :
    ∃ fu, wX_rank_64 post (nI p) fu 0 0 lv (nI m) (nI n) fc a1 a2 a3 a4 a5 a6 := by
  refine pk_loop (σ := Nat × (Nat → Int64)) (fun k j s => wX_rank_64 post (nI p) k (nI s.1) (nI j) lv (nI m) (nI n) fc a1 a2 a3 s.2 a5 a6)
    (fun j s => s.1 ≤ m ∧ ∃ v, rk_tab p m n v s.2 ∧ (∀ l j', s.1 ≤ l → l < m → j' < j → v l j' = 0) ∧ ∀ r, la_rk p m n (rl_act s.1 v) r → la_rk p m n M (s.1 + r)) n 0 (0, a4) (by omega)
    ⟨by omega, v0, ht, fun l j' _ _ h => by omega, fun r hr => ?_⟩ ?_ ?_
  · show la_rk p m n M (0 + r)
    rw [Nat.zero_add]
    refine rl_cong (fun i j hi hj => ?_) hr
    show (p : Int) ∣ M i j - (if 0 ≤ i then (v0 i j : Int) else 0)
    rw [if_pos (Nat.zero_le i)]
    exact hM i j hi hj
  · intro k s hs
    obtain ⟨row, b⟩ := s
    obtain ⟨hr, v, h3, h4, h5⟩ := hs
    dsimp only at hr h3 h4 h5
    refine pk_le n n (fun _ => H row b (by omega) ?_) (fun z => absurd z (by omega))
    have t := h5 0 (la_rk_0 (fun i hi j hj => by
      unfold rl_act
      split
      · rename_i c
        rw [h4 i j c hi hj]
        exact Int.dvd_zero _
      · exact Int.dvd_zero _))
    rw [Nat.add_zero] at t
    exact t
  · intro k j0 s hj0 hs hw
    obtain ⟨row, b⟩ := s
    obtain ⟨hr, v, h3, h4, h5⟩ := hs
    dsimp only at hr h3 h4 h5
    refine pk_le n j0 (fun z => absurd z (by omega)) (fun _ => pk_le m row (fun z => H row b (by omega) ?_) (fun hrow => ?_))
    · have t := h5 0 (la_rk_0 (fun i hi j hj => by
        unfold rl_act
        rw [if_neg (by omega)]
        exact Int.dvd_zero _))
      rw [Nat.add_zero] at t
      exact t
    · refine wk_r83 h2 hp hm hn hrow hj0 h3 (fun i hi1 hi2 hz hnz => wk_r115 h2 hp hm hn hrow hj0 hi2 h3 (fun e => hw (row, b) ⟨hr, v, h3, fun l j' hl1 hl2 hj' => ?_, h5⟩) (fun him b4 w h6 h7 => hw (row + 1, b4) ⟨hrow, w, h6, fun l j' hl1 hl2 hj' => ?_, fun r hr' => ?_⟩))
      · by_cases e2 : j' = j0
        · rw [e2]
          exact hz l hl1 (by omega)
        · exact h4 l j' hl1 hl2 (by omega)
      · dsimp only at hl1
        have hsw : ∀ a, row ≤ a → a < m → row ≤ rk_sw i row a ∧ rk_sw i row a < m := fun a ha1 ha2 => ⟨(rl_sw_ge hi1).mpr ha1, rl_sw_lt him hrow ha2⟩
        have hl := hsw l (by omega) hl2
        have hrr := hsw row (Nat.le_refl _) hrow
        have d := h7.2 l j' (by omega) hl2 (by omega)
        dsimp only at d
        have wl := (h6 l j' hl2 (by omega)).2
        have dz : (p : Int) ∣ (w l j' : Int) := by
          by_cases e2 : j' = j0
          · subst e2
            have er : rk_sw i row row = i := by
              unfold rk_sw
              by_cases c : row = i
              · rw [if_pos c]; exact c
              · rw [if_neg c, if_pos rfl]
            rw [er] at d
            have nz := hnz him
            have vlt := (h3 i j' him (by omega)).2
            have by1 := fe_by (x := v i j') h2 hpr (fun hd => by
              have := Int.le_of_dvd (by omega) hd
              omega)
            obtain ⟨x1, e1⟩ := d
            obtain ⟨x2, e2⟩ := by1
            generalize ((v i j' ^ (p - 2) % p : Nat) : Int) = Y at *
            refine ⟨x1 - x2 * (v (rk_sw i row l) j' : Int), ?_⟩
            grind
          · rw [h4 _ j' hl.1 hl.2 (by omega), h4 _ j' hrr.1 hrr.2 (by omega)] at d
            simpa using d
        apply Classical.byContradiction
        intro hne
        have := Int.le_of_dvd (by omega) dz
        omega
      · dsimp only at hr'
        have st : la_rk p m n (rl_act row (fun a b => v (rk_sw i row a) b)) (r + 1) := by
          have er : rk_sw i row row = i := by
            unfold rk_sw
            by_cases c : row = i
            · rw [if_pos c]; exact c
            · rw [if_neg c, if_pos rfl]
          have nz := hnz him
          have vlt := (h3 i j0 him hj0).2
          have nd : ¬ (p : Int) ∣ (v i j0 : Int) := fun hd => by
            have := Int.le_of_dvd (by omega) hd
            omega
          have pv : rl_act row (fun a b => v (rk_sw i row a) b) row j0 = (v i j0 : Int) := by
            unfold rl_act
            rw [if_pos (Nat.le_refl _)]
            dsimp only
            rw [er]
          refine la_rk_step hpr hrow hj0 (by rw [pv]; exact nd) (fun a ha b hb => ?_) hr'
          rw [pv]
          by_cases c1 : row < a
          · have d := h7.2 a b c1 ha hb
            dsimp only at d
            rw [er] at d
            have by1 := fe_by (x := v i j0) h2 hpr nd
            unfold rl_act
            rw [if_pos (by omega), if_pos (by omega), if_pos (by omega), if_pos (by omega)]
            dsimp only
            rw [er]
            obtain ⟨x1, e1⟩ := d
            obtain ⟨x2, e2⟩ := by1
            generalize ((v i j0 ^ (p - 2) % p : Nat) : Int) = Y at *
            refine ⟨(v i j0 : Int) * x1 - x2 * (v (rk_sw i row a) j0 : Int) * (v i b : Int), ?_⟩
            grind
          · by_cases c2 : a = row
            · subst c2
              unfold rl_act
              rw [if_neg (by omega), if_pos (by omega), if_pos (by omega)]
              dsimp only
              rw [er]
              exact ⟨0, by simp⟩
            · unfold rl_act
              rw [if_neg (by omega), if_neg (by omega), if_neg (by omega)]
              exact ⟨0, by simp⟩
        have t := h5 (r + 1) (rl_swap hi1 him hrow st)
        show la_rk p m n M (row + 1 + r)
        rw [show row + 1 + r = row + (r + 1) by omega]
        exact t
def rl_nv (p : Nat) (z : Int) : Nat := (z + p).toNat % p
theorem rl_nvS {p : Nat} (h2 : 2 ≤ p) (hp : p ≤ 1000003) {z : Int} (hz : z = 0 ∨ z = 1 ∨ z = -1) : (Int64.ofInt z + lN p) - (Int64.ofInt z + lN p) / lN p * lN p = lN (rl_nv p z) := by
  have e : Int64.ofInt z + lN p = lN (z + p).toNat := by
    have e1 : lN p = Int64.ofInt (p : Int) := Int64.ofInt_eq_ofNat.symm
    have e2 : lN (z + p).toNat = Int64.ofInt (((z + p).toNat : Nat) : Int) := Int64.ofInt_eq_ofNat.symm
    rw [e1, ← Int64.ofInt_add, e2, Int.toNat_of_nonneg (by omega)]
  rw [e]
  exact pk_lRem (by omega) (by omega) (by omega)
theorem rl_nvD {p : Nat} (h2 : 2 ≤ p) {z : Int} (hz : z = 0 ∨ z = 1 ∨ z = -1) : (p : Int) ∣ z - rl_nv p z := by
  unfold rl_nv
  have e := rl_modI (z + p).toNat p
  have e2 := Int.toNat_of_nonneg (show 0 ≤ z + p by omega)
  rw [e, e2]
  refine ⟨(((z + p).toNat / p : Nat) : Int) - 1, ?_⟩
  generalize (((z + p).toNat / p : Nat) : Int) = D at *
  grind
/-- the rank of a filled table -/
theorem wk_rank {lv fc : Int32} {a1 : Nat → Int64} {a2 a3 : Nat → Int32} {a4 : Nat → Int64} {a5 a6 : Nat → Int32} {post : Int32 → St1 → Prop} {p m n : Nat} {M : Nat → Nat → Int} (h2 : 2 ≤ p) (hp : p ≤ 1000003) (hpr : la_pr (p : Int)) (hm : m ≤ 20) (hn : n ≤ 20)
    (hM : ∀ i j, M i j = 0 ∨ M i j = 1 ∨ M i j = -1) (ht : ∀ i j, i < m → j < n → a4 (20 * i + j) = Int64.ofInt (M i j))
    (H : ∀ r b4, r ≤ 20 → la_rk p m n M r → post (nI r) (lv, nI m, nI n, fc, a1, a2, a3, b4, a5, a6)) :
    wpX_rank post (lv, nI m, nI n, fc, a1, a2, a3, a4, a5, a6) (nI p) := by
  refine pk_loop (fun k i b => wX_rank_2 post (nI p) lv (nI m) (nI n) fc k (nI i) a1 a2 a3 b a5 a6)
    (fun i b => (∀ i' j, i' < i → j < n → b (20 * i' + j) = lN (rl_nv p (M i' j))) ∧ ∀ i' j, i ≤ i' → i' < m → j < n → b (20 * i' + j) = Int64.ofInt (M i' j)) m 0 a4 (by omega)
    ⟨fun i' j h => by omega, fun i' j _ h1 h3 => ht i' j h1 h3⟩ ?_ ?_
  · intro k b hb
    refine pk_le m m (fun _ => wk_r64 (v0 := fun i j => rl_nv p (M i j)) h2 hp hpr hm hn (fun i j hi hj => ⟨hb.1 i j hi hj, Nat.mod_lt _ (by omega)⟩) (fun i j _ _ => rl_nvD h2 (hM i j)) H) (fun z => absurd z (by omega))
  · intro k i b hi hb hw
    refine pk_le m i (fun z => absurd z (by omega)) (fun _ => ?_)
    refine pk_loop (fun k' j c => wX_rank_12 post (wX_rank_2 post (nI p) lv (nI m) (nI n) fc k) (nI p) (nI i) lv (nI m) (nI n) fc k' (nI j) a1 a2 a3 c a5 a6)
      (fun j c => (∀ i' j', i' < i → j' < n → c (20 * i' + j') = lN (rl_nv p (M i' j'))) ∧ (∀ j', j' < j → c (20 * i + j') = lN (rl_nv p (M i j'))) ∧ (∀ j', j ≤ j' → j' < n → c (20 * i + j') = Int64.ofInt (M i j')) ∧ ∀ i' j', i < i' → i' < m → j' < n → c (20 * i' + j') = Int64.ofInt (M i' j')) n 0 b (by omega)
      ⟨hb.1, fun j' h => by omega, fun j' _ h => hb.2 i j' (Nat.le_refl _) hi h, fun i' j' h3 h4 h5 => hb.2 i' j' (by omega) h4 h5⟩ ?_ ?_
    · intro k' c hc
      refine pk_le n n (fun _ => nm_r (nI_1 i) (hw c ⟨fun i' j' hi' hj' => ?_, fun i' j' h3 h4 h5 => hc.2.2.2 i' j' (by omega) h4 h5⟩)) (fun z => absurd z (by omega))
      by_cases e : i' = i
      · rw [e]
        exact hc.2.1 j' hj'
      · exact hc.1 i' j' (by omega) hj'
    · intro k' j c hj hc hw'
      refine pk_le n j (fun z => absurd z (by omega)) (fun _ => ⟨ft_in (by omega) (by omega), rk_P0 h2 hp, ft_in (by omega) (by omega), ?_⟩)
      rw [ft_cl (by omega) (by omega), hc.2.2.1 j (Nat.le_refl _) hj, rk_P hp, rl_nvS h2 hp (hM i j)]
      refine nm_e (nm_r (nI_1 j) (hw' _ ⟨fun i' j' h3 h4 => ?_, fun j' h3 => ?_, fun j' h3 h4 => ?_, fun i' j' h3 h4 h5 => ?_⟩))
      · rw [ft_up (by omega) (by omega), if_neg (show ¬ (i' = i ∧ j' = j) by omega)]
        exact hc.1 i' j' h3 h4
      · rw [ft_up (by omega) (by omega)]
        by_cases e : j' = j
        · rw [if_pos (show i = i ∧ j' = j from ⟨rfl, e⟩), e]
        · rw [if_neg (show ¬ (i = i ∧ j' = j) from fun z => e z.2)]
          exact hc.2.1 j' (by omega)
      · rw [ft_up (by omega) (by omega), if_neg (show ¬ (i = i ∧ j' = j) by omega)]
        exact hc.2.2.1 j' (by omega) h4
      · rw [ft_up (by omega) (by omega), if_neg (show ¬ (i' = i ∧ j' = j) by omega)]
        exact hc.2.2.2 i' j' h3 h4 h5
end
section
/-! holes -/
theorem hm_rk {X : Nat → Bool} {k m n : Nat} {f g : Nat → Nat} {a4 : Nat → Int64} (hX : el_cl X) (ht : ft_tab X k m n f g a4) {p : Int} {r : Nat} (h : la_rk p m n (fun i j => mn_bd (f i) (g j)) r) : la_rk p 64 64 (el_S X k) r := by
  obtain ⟨h1, h6, hm, hn, lf, lg, _⟩ := ht
  have sf : ∃ σ : Nat → Nat, ∀ ρ, ρ < 64 → X ρ = true → mn_pc ρ = k → σ ρ < m ∧ f (σ ρ) = ρ := by
    refine ⟨fun ρ => @dite Nat (∃ i, i < m ∧ f i = ρ) (Classical.propDecidable _) (fun h => Classical.choose h) (fun _ => 0), fun ρ h3 h4 h5 => ?_⟩
    have e := lf.2.1 ρ h3 h4 h5
    dsimp only
    rw [dif_pos e]
    exact Classical.choose_spec e
  have sg : ∃ τ : Nat → Nat, ∀ t, t < 64 → X t = true → mn_pc t = k + 1 → τ t < n ∧ g (τ t) = t := by
    refine ⟨fun t => @dite Nat (∃ i, i < n ∧ g i = t) (Classical.propDecidable _) (fun h => Classical.choose h) (fun _ => 0), fun t h3 h4 h5 => ?_⟩
    have e := lg.2.1 t h3 h4 h5
    dsimp only
    rw [dif_pos e]
    exact Classical.choose_spec e
  obtain ⟨σ, hσ⟩ := sf
  obtain ⟨τ, hτ⟩ := sg
  have ok := el_ok0 hX h1 h6
  have on : ∀ i j, i < m → j < n → el_S X k (f i) (g j) = mn_bd (f i) (g j) := by
    intro i j hi hj
    have := lg.1 j hj
    unfold el_S
    rw [if_pos ⟨this.1, this.2.1, this.2.2⟩]
  refine la_rk_c (fun s hs => ?_) (fun s hs => ?_) h
  · refine la_fac_map σ τ (fun ρ => !(X ρ && decide (mn_pc ρ = k))) (fun t => !(X t && decide (mn_pc t = k + 1))) (fun ρ h3 z t h4 => ?_) (fun t h4 z ρ h3 => ?_) (fun ρ h3 z t h4 z' => ?_) hs
    · rw [Classical.byContradiction (fun hh => by
        have := (ok.1 ρ t hh).1
        rw [this.2.1, this.2.2] at z
        simp at z : ¬ el_S X k ρ t = 0 → False)]
      exact Int.dvd_zero p
    · rw [Classical.byContradiction (fun hh => by
        have := (ok.1 ρ t hh).2
        rw [this.2.1, this.2.2] at z
        simp at z : ¬ el_S X k ρ t = 0 → False)]
      exact Int.dvd_zero p
    · simp only [Bool.not_eq_false', Bool.and_eq_true, decide_eq_true_eq] at z z'
      have a := hσ ρ h3 z.1 z.2
      have b := hτ t h4 z'.1 z'.2
      refine ⟨a.1, b.1, 0, ?_⟩
      rw [← on _ _ a.1 b.1, a.2, b.2]
      simp
  · refine la_fac_map f g (fun _ => false) (fun _ => false) (fun i _ z => Bool.noConfusion z) (fun j _ z => Bool.noConfusion z) (fun i hi _ j hj _ => ⟨(lf.1 i hi).1, (lg.1 j hj).1, 0, ?_⟩) hs
    rw [on i j hi hj]
    simp
noncomputable def hm_te (X : Nat → Bool) (k : Nat) : Nat × Nat := @dite (Nat × Nat) (∃ te : Nat × Nat, 1 ≤ k ∧ k ≤ 6 ∧ el_sm X k te.1 te.2) (Classical.propDecidable _) (fun h => Classical.choose h) (fun _ => (0, 0))
theorem hm_teS {X : Nat → Bool} (hX : el_cl X) {k : Nat} (h1 : 1 ≤ k) (h6 : k ≤ 6) : el_sm X k (hm_te X k).1 (hm_te X k).2 := by
  have e : ∃ te : Nat × Nat, 1 ≤ k ∧ k ≤ 6 ∧ el_sm X k te.1 te.2 := by
    obtain ⟨t, e, h⟩ := el_ex hX h1 h6
    exact ⟨(t, e), h1, h6, h⟩
  unfold hm_te
  rw [dif_pos e]
  exact (Classical.choose_spec e).2.2
theorem hm_te0 (X : Nat → Bool) : hm_te X 0 = (0, 0) := by
  unfold hm_te
  rw [dif_neg (fun h => by obtain ⟨_, h1, _⟩ := h; omega)]
/-- the rank of the edge map from degree k, modulo p -/
noncomputable def hm_rv (X : Nat → Bool) (k p : Nat) : Nat := (hm_te X k).1 + (if p = 2 then 0 else (hm_te X k).2)
noncomputable def hm_h (X : Nat → Bool) (k p : Nat) : Int := (pp_ck X k : Int) - hm_rv X k p - hm_rv X (k + 1) p
def hm_ps (p : Nat) : Prop := p = 2 ∨ p = 3 ∨ p = 5 ∨ p = 1000003
theorem hm_pr {p : Nat} (h : hm_ps p) : la_pr (p : Int) := by
  rcases h with e | e | e | e <;> subst e
  · exact el_pr2
  · exact el_pr3
  · exact el_pr5
  · exact fe_prP
theorem hm_p2 {p : Nat} (h : hm_ps p) : 2 ≤ p ∧ p ≤ 1000003 := by
  rcases h with e | e | e | e <;> subst e <;> omega
theorem hm_rvU {X : Nat → Bool} (hX : el_cl X) {k p r : Nat} (h1 : 1 ≤ k) (h6 : k ≤ 6) (hp : hm_ps p) (h : la_rk p 64 64 (el_S X k) r) : r = hm_rv X k p := by
  have s := hm_teS hX h1 h6
  unfold hm_rv
  by_cases e : p = 2
  · subst e
    rw [if_pos rfl]
    exact la_rk_u h s.2.2
  · rw [if_neg e]
    exact la_rk_u h (s.2.1 p (by have := hm_p2 hp; omega) (hm_pr hp))
theorem hm_rv0 (X : Nat → Bool) (p : Nat) : hm_rv X 0 p = 0 := by
  unfold hm_rv
  rw [hm_te0]
  simp
theorem hm_sub (a b c : Nat) : (nI a - nI b) - nI c = pp_I ((a : Int) - b - c) := by
  rw [pp_In, pp_In, pp_In]
  unfold pp_I
  rw [Int32.ofInt_sub, Int32.ofInt_sub]
theorem wk_hom {post : Int32 → St1 → Prop} {lv rc cc fc : Int32} {a1 : Nat → Int64} {a2 a3 : Nat → Int32} {a4 : Nat → Int64} {a5 a6 : Nat → Int32} {k p : Nat} (hp : hm_ps p) (hk : k ≤ 5) (P : Int64) (hcl : el_cl (bs_t P))
    (H : ∀ rc cc b2 b3 b4, post (pp_I (hm_h (bs_t P) k p)) (lv, rc, cc, fc, a1, b2, b3, b4, a5, a6)) : wpX_homology post (lv, rc, cc, fc, a1, a2, a3, a4, a5, a6) P (nI k) (nI p) := by
  have hp2 := hm_p2 hp
  have hpr := hm_pr hp
  unfold wpX_homology
  dsimp only
  refine wk_ofDeg _ P (by omega) (fun d hd => wk_ones _ d ?_)
  rw [bs_cn_c (f := bs_t d) (g := bs_dg (bs_t P) k) hd, nI_1 k]
  have fin : ∀ r1 r2, r1 = hm_rv (bs_t P) k p → r2 = hm_rv (bs_t P) (k + 1) p → (nI (bs_cn 64 (bs_dg (bs_t P) k)) - nI r1) - nI r2 = pp_I (hm_h (bs_t P) k p) := by
    intro r1 r2 e1 e2
    rw [hm_sub, e1, e2]
    rfl
  by_cases e : k = 0
  · subst e
    refine wk_fill0 P (wk_rank (m := 0) (n := 0) (M := fun _ _ => 0) hp2.1 hp2.2 hpr (by omega) (by omega) (fun _ _ => Or.inl rfl) (fun i j h => by omega) (fun r b4 _ hr => ?_))
    have er : r = 0 := la_rk_u hr (la_rk_0 (fun i h => by omega))
    refine wk_fill P (k := 1) (by omega) (by omega) (fun m' n' f' g' c2 c3 c4 ht' => wk_rank hp2.1 hp2.2 hpr ht'.2.2.1 ht'.2.2.2.1 (M := fun i j => mn_bd (f' i) (g' j)) (fun i j => mn_bd_u _ _) ht'.2.2.2.2.2.2 (fun r' b5 _ hr' => ?_))
    have er' := hm_rvU hcl (by omega) (by omega) hp (hm_rk hcl ht' hr')
    have := fin r r' (by rw [er, hm_rv0]) er'
    show post ((nI (bs_cn 64 (bs_dg (bs_t P) 0)) - nI r) - nI r') _
    rw [this]
    exact H _ _ _ _ _
  · refine wk_fill P (by omega) (by omega) (fun m n f g b2 b3 b4 ht => wk_rank hp2.1 hp2.2 hpr ht.2.2.1 ht.2.2.2.1 (M := fun i j => mn_bd (f i) (g j)) (fun i j => mn_bd_u _ _) ht.2.2.2.2.2.2 (fun r b5 _ hr => ?_))
    have er := hm_rvU hcl (by omega) (by omega) hp (hm_rk hcl ht hr)
    refine wk_fill P (k := k + 1) (by omega) (by omega) (fun m' n' f' g' c2 c3 c4 ht' => wk_rank hp2.1 hp2.2 hpr ht'.2.2.1 ht'.2.2.2.1 (M := fun i j => mn_bd (f' i) (g' j)) (fun i j => mn_bd_u _ _) ht'.2.2.2.2.2.2 (fun r' b6 _ hr' => ?_))
    have er' := hm_rvU hcl (by omega) (by omega) hp (hm_rk hcl ht' hr')
    have := fin r r' er er'
    show post ((nI (bs_cn 64 (bs_dg (bs_t P) k)) - nI r) - nI r') _
    rw [this]
    exact H _ _ _ _ _
/-- P is what the desk prepares of c at level lv -/
def hm_prep (lv : Int32) (c P : Int64) : Prop := el_cl (bs_t P) ∧ pp_ec (bs_t P) = pp_ec (bs_t c) ∧
    ∀ (post : Int64 → Prop) (rc cc fc : Int32) (a1 : Nat → Int64) (a2 a3 : Nat → Int32) (a4 : Nat → Int64) (a5 a6 : Nat → Int32), post P → wpX_prepared post (lv, rc, cc, fc, a1, a2, a3, a4, a5, a6) c
def hm_q (q : Nat) : Nat := if q = 0 then 1000003 else q
theorem wk_holes {post : Int32 → St1 → Prop} {lv rc cc fc : Int32} {a1 : Nat → Int64} {a2 a3 : Nat → Int32} {a4 : Nat → Int64} {a5 a6 : Nat → Int32} {r k q : Nat} {P : Int64} (hr : r < 4) (hk : k ≤ 5) (hq : q = 0 ∨ q = 2 ∨ q = 3 ∨ q = 5) (hP : hm_prep lv (a1 r) P)
    (H : ∀ rc cc b2 b3 b4, post (pp_I (hm_h (bs_t P) k (hm_q q))) (lv, rc, cc, fc, a1, b2, b3, b4, a5, a6)) : wpX_holes post (lv, rc, cc, fc, a1, a2, a3, a4, a5, a6) (nI r) (nI k) (nI q) := by
  have h38 : wX_holes_38 post (nI r) (nI k) (nI q) lv rc cc fc a1 a2 a3 a4 a5 a6 := by
    refine ⟨vp_in_nI hr (by omega), ?_⟩
    rw [show (nI r).toNatClampNeg = r from nI_clamp (by omega)]
    refine hP.2.2 _ rc cc fc a1 a2 a3 a4 a5 a6 ?_
    refine pk_eq q 0 (fun e => ?_) (fun e => ?_) rfl rfl (by omega) (by omega)
    · unfold wX_holes_64
      refine wk_hom (p := 1000003) (Or.inr (Or.inr (Or.inr rfl))) hk P hP.1 (fun rc cc b2 b3 b4 => ?_)
      have := H rc cc b2 b3 b4
      rw [show hm_q q = 1000003 by unfold hm_q; rw [if_pos e]] at this
      exact this
    · unfold wX_holes_64
      refine wk_hom (p := q) (by unfold hm_ps; omega) hk P hP.1 (fun rc cc b2 b3 b4 => ?_)
      have := H rc cc b2 b3 b4
      rw [show hm_q q = q by unfold hm_q; rw [if_neg e]] at this
      exact this
  unfold wpX_holes
  dsimp only
  refine wk_reg _ hr (br_f (nI_pos (by omega)) (pk_lt 5 k (fun z => absurd z (by omega)) (fun _ => ?_)))
  refine pk_eq q 0 (fun _ => h38) (fun e0 => pk_eq q 2 (fun _ => h38) (fun e2 => pk_eq q 3 (fun _ => h38) (fun e3 => pk_eq q 5 (fun _ => h38) (fun e5 => absurd hq (by omega)) rfl rfl (by omega) (by omega)) rfl rfl (by omega) (by omega)) rfl rfl (by omega) (by omega)) rfl rfl (by omega) (by omega)
end
section
/-! the diagonal form -/
def dg_I (z : Int) : Int64 := Int64.ofInt z
def dg_s (z : Int) : Prop := -1000 ≤ z ∧ z ≤ 1000
theorem dg_T {z : Int} (h : dg_s z) : (dg_I z).toInt = z := Int64.toInt_ofInt_of_le (by unfold dg_s at h; omega) (by unfold dg_s at h; omega)
theorem dg_0 {z : Int} (h : dg_s z) : dg_I z = 0 ↔ z = 0 := by
  constructor
  · intro e
    have := congrArg Int64.toInt e
    rw [dg_T h] at this
    exact this
  · intro e; rw [e]; rfl
theorem dg_div {a b : Int} (ha : dg_s a) (hb : dg_s b) : dg_I a / dg_I b = dg_I (a.tdiv b) := by
  unfold dg_I
  have e1 : Int64.minValue.toInt = -9223372036854775808 := by decide
  have e2 : Int64.maxValue.toInt = 9223372036854775807 := by decide
  unfold dg_s at ha hb
  exact (Int64.ofInt_tdiv (by omega) (by omega) (by omega) (by omega)).symm
theorem dg_N (n : Nat) : lN n = dg_I n := Int64.ofInt_eq_ofNat.symm
theorem wk_size {post : Int64 → Prop} (u : St1) {z : Int} (hz : dg_s z) (h : post (lN z.natAbs)) : wpX_size post u (dg_I z) := by
  obtain ⟨lv, rc, cc, fc, a1, a2, a3, a4, a5, a6⟩ := u
  have e0 : (0 : Int64).toInt = 0 := by decide
  rw [dg_N] at h
  refine ⟨fun c => ?_, fun c => ?_⟩
  · rw [Int64.le_iff_toInt_le, dg_T hz, e0] at c
    rw [show ((z.natAbs : Nat) : Int) = z by omega] at h
    exact h
  · rw [Int64.le_iff_toInt_le, dg_T hz, e0] at c
    rw [show ((z.natAbs : Nat) : Int) = -z by omega] at h
    unfold dg_I at h ⊢
    rw [Int64.ofInt_neg] at h
    exact h
/-- the table holds S -/
def dg_tab (m n : Nat) (S : Nat → Nat → Int) (a : Nat → Int64) : Prop := ∀ i j, i < m → j < n → a (20 * i + j) = dg_I (S i j)
def dg_sc (n i j a b : Nat) : Prop := (a < i ∧ b < n) ∨ (a = i ∧ b < j)
/-- x is the answer of a search over the places Q -/
def dg_best (m n : Nat) (S : Nat → Nat → Int) (Q : Nat → Nat → Prop) (x : Int32) : Prop :=
  (x = -1 ∧ ∀ a b, Q a b → S a b = 0) ∨ ∃ i0 j0, x = nI (20 * i0 + j0) ∧ i0 < m ∧ j0 < n ∧ Q i0 j0 ∧ S i0 j0 ≠ 0 ∧ (∀ a b, Q a b → S a b ≠ 0 → (S i0 j0).natAbs ≤ (S a b).natAbs) ∧ (∀ a b, Q a b → a < i0 → S a b ≠ 0 → (S i0 j0).natAbs < (S a b).natAbs)
theorem dg_best_c {m n : Nat} {S : Nat → Nat → Int} {Q Q' : Nat → Nat → Prop} {x : Int32} (h : ∀ a b, Q a b ↔ Q' a b) (hb : dg_best m n S Q x) : dg_best m n S Q' x := by
  rcases hb with ⟨e, z⟩ | ⟨i0, j0, e, hi, hj, hq, hn, h1, h2⟩
  · exact Or.inl ⟨e, fun a b q => z a b ((h a b).mpr q)⟩
  · exact Or.inr ⟨i0, j0, e, hi, hj, (h _ _).mp hq, hn, fun a b q => h1 a b ((h a b).mpr q), fun a b q => h2 a b ((h a b).mpr q)⟩
section
variable {lv fc : Int32} {a1 : Nat → Int64} {a2 a3 : Nat → Int32} {a4 : Nat → Int64} {a5 a6 : Nat → Int32} {m n : Nat} {S : Nat → Nat → Int}
theorem wk_find {post : Int32 → Prop} (hm : m ≤ 20) (hn : n ≤ 20) (hS : ∀ i j, dg_s (S i j)) (ht : dg_tab m n S a4) (H : ∀ x, dg_best m n S (fun a b => a < m ∧ b < n) x → post x) : wpX_findPivot post (lv, nI m, nI n, fc, a1, a2, a3, a4, a5, a6) := by
  refine pk_loop (fun k i x => wX_findPivot_4 post lv (nI m) (nI n) fc a1 a2 a3 a4 a5 a6 k x (nI i)) (fun i x => dg_best m n S (dg_sc n i 0) x) m 0 (-1) (by omega) (Or.inl ⟨rfl, fun a b q => by unfold dg_sc at q; omega⟩) ?_ ?_
  · intro k x hx
    exact pk_le m m (fun _ => H x (dg_best_c (fun a b => by unfold dg_sc; omega) hx)) (fun z => absurd z (by omega))
  · intro k i x hi hx hw
    refine pk_le m i (fun z => absurd z (by omega)) (fun _ => ?_)
    refine pk_loop (fun k' j y => wX_findPivot_14 post (wX_findPivot_4 post lv (nI m) (nI n) fc a1 a2 a3 a4 a5 a6 k) (nI i) lv (nI m) (nI n) fc a1 a2 a3 a4 a5 a6 k' y (nI j)) (fun j y => dg_best m n S (dg_sc n i j) y) n 0 x (by omega) hx ?_ ?_
    · intro k' y hy
      exact pk_le n n (fun _ => nm_r (nI_1 i) (hw y (dg_best_c (fun a b => by unfold dg_sc; omega) hy))) (fun z => absurd z (by omega))
    · intro k' j y hj hy hw'
      refine pk_le n j (fun z => absurd z (by omega)) (fun _ => nm_r (ft_ix i j) ⟨vp_in_nI (by omega) (by omega), ?_⟩)
      rw [show (nI (20 * i + j)).toNatClampNeg = 20 * i + j from nI_clamp (by omega), ht i j hi hj]
      refine ⟨fun z => nm_r (nI_1 j) (hw' y ?_), fun z => ?_⟩
      · have z0 := (dg_0 (hS i j)).mp z
        rcases hy with ⟨e, zz⟩ | ⟨i0, j0, e, hi0, hj0, hq, hn0, h1, h2⟩
        · refine Or.inl ⟨e, fun a b q => ?_⟩
          by_cases c : a = i ∧ b = j
          · rw [c.1, c.2]; exact z0
          · exact zz a b (by unfold dg_sc at q ⊢; omega)
        · refine Or.inr ⟨i0, j0, e, hi0, hj0, by unfold dg_sc at hq ⊢; omega, hn0, fun a b q hne => ?_, fun a b q hlt hne => ?_⟩
          · by_cases c : a = i ∧ b = j
            · rw [c.1, c.2] at hne; exact absurd z0 hne
            · exact h1 a b (by unfold dg_sc at q ⊢; omega) hne
          · by_cases c : a = i ∧ b = j
            · rw [c.1, c.2] at hne; exact absurd z0 hne
            · exact h2 a b (by unfold dg_sc at q ⊢; omega) hlt hne
      · have z0 : S i j ≠ 0 := fun e => z ((dg_0 (hS i j)).mpr e)
        rcases hy with ⟨e, zz⟩ | ⟨i0, j0, e, hi0, hj0, hq, hn0, h1, h2⟩
        · subst e
          refine br_t (by decide) (nm_r (nI_1 j) (hw' _ (Or.inr ⟨i, j, rfl, hi, hj, by unfold dg_sc; omega, z0, fun a b q hne => ?_, fun a b q hlt hne => ?_⟩)))
          · by_cases c : a = i ∧ b = j
            · rw [c.1, c.2]; exact Nat.le_refl _
            · exact absurd (zz a b (by unfold dg_sc at q ⊢; omega)) hne
          · by_cases c : a = i ∧ b = j
            · omega
            · exact absurd (zz a b (by unfold dg_sc at q ⊢; omega)) hne
        · subst e
          refine br_f (nI_pos (by omega)) ⟨vp_in_nI (by omega) (by omega), wk_size _ (hS i j) ⟨vp_in_nI (by omega) (by omega), ?_⟩⟩
          rw [show (nI (20 * i0 + j0)).toNatClampNeg = 20 * i0 + j0 from nI_clamp (by omega), ht i0 j0 hi0 hj0]
          refine wk_size _ (hS i0 j0) ?_
          have s1 := hS i j
          have s0 := hS i0 j0
          unfold dg_s at s1 s0
          have cmp := pk_lLE (a := (S i0 j0).natAbs) (b := (S i j).natAbs) (by omega) (by omega)
          refine ⟨fun c => nm_r (nI_1 j) (hw' _ (Or.inr ⟨i0, j0, rfl, hi0, hj0, by unfold dg_sc at hq ⊢; omega, hn0, fun a b q hne => ?_, fun a b q hlt hne => ?_⟩)), fun c => nm_r (nI_1 j) (hw' _ (Or.inr ⟨i, j, rfl, hi, hj, by unfold dg_sc; omega, z0, fun a b q hne => ?_, fun a b q hlt hne => ?_⟩))⟩
          · by_cases d : a = i ∧ b = j
            · rw [d.1, d.2]; exact cmp.mp c
            · exact h1 a b (by unfold dg_sc at q ⊢; omega) hne
          · by_cases d : a = i ∧ b = j
            · unfold dg_sc at hq
              omega
            · exact h2 a b (by unfold dg_sc at q ⊢; omega) hlt hne
          · have lt : ¬ (S i0 j0).natAbs ≤ (S i j).natAbs := fun t => c (cmp.mpr t)
            by_cases d : a = i ∧ b = j
            · rw [d.1, d.2]; exact Nat.le_refl _
            · have := h1 a b (by unfold dg_sc at q ⊢; omega) hne
              omega
          · have lt : ¬ (S i0 j0).natAbs ≤ (S i j).natAbs := fun t => c (cmp.mpr t)
            by_cases d : a = i ∧ b = j
            · omega
            · have := h1 a b (by unfold dg_sc at q ⊢; omega) hne
              omega
theorem dg_ring (a f b : Int) : dg_I a - dg_I f * dg_I b = dg_I (a - f * b) := by
  unfold dg_I
  rw [Int64.ofInt_sub, Int64.ofInt_mul]
theorem wk_subR {post : St1 → Prop} {l i : Nat} {F : Int} (hm : m ≤ 20) (hn : n ≤ 20) (hl : l < m) (hi : i < m) (hne : l ≠ i) (ht : dg_tab m n S a4)
    (H : ∀ b4, dg_tab m n (fun a c => if a = l then S l c - F * S i c else S a c) b4 → post (lv, nI m, nI n, fc, a1, a2, a3, b4, a5, a6)) :
    wpX_subtractRow post (lv, nI m, nI n, fc, a1, a2, a3, a4, a5, a6) (nI l) (nI i) (dg_I F) := by
  refine pk_loop (fun k j b => wX_subtractRow_3 post (nI l) (nI i) (dg_I F) lv (nI m) (nI n) fc k (nI j) a1 a2 a3 b a5 a6)
    (fun j b => dg_tab m n (fun a c => if a = l ∧ c < j then S l c - F * S i c else S a c) b) n 0 a4 (by omega) (fun a c ha hc => by
      show a4 (20 * a + c) = dg_I (if a = l ∧ c < 0 then S l c - F * S i c else S a c)
      rw [if_neg (by omega)]
      exact ht a c ha hc) ?_ ?_
  · intro k b hb
    refine pk_le n n (fun _ => H b (fun a c ha hc => ?_)) (fun z => absurd z (by omega))
    have t := hb a c ha hc
    simp only [hc, and_true] at t
    exact t
  · intro k j b hj hb hw
    have t1 := hb l j hl hj
    have t2 := hb i j hi hj
    dsimp only at t1 t2
    rw [if_neg (show ¬ (l = l ∧ j < j) by omega)] at t1
    rw [if_neg (show ¬ (i = l ∧ j < j) by omega)] at t2
    refine pk_le n j (fun z => absurd z (by omega)) (fun _ => ⟨ft_in (by omega) (by omega), ft_in (by omega) (by omega), ft_in (by omega) (by omega), ?_⟩)
    rw [ft_cl (by omega) (by omega), ft_cl (by omega) (by omega), t1, t2, dg_ring]
    refine nm_e (nm_r (nI_1 j) (hw _ (fun a c ha hc => ?_)))
    have t := hb a c ha hc
    dsimp only at t ⊢
    rw [ft_up (by omega) (by omega)]
    by_cases e : a = l ∧ c = j
    · rw [if_pos e]
      obtain ⟨e3, e4⟩ := e
      subst e3
      subst e4
      rw [if_pos (show a = a ∧ c < c + 1 from ⟨rfl, by omega⟩)]
    · rw [if_neg e, t]
      by_cases e5 : a = l ∧ c < j
      · rw [if_pos e5, if_pos (show a = l ∧ c < j + 1 from ⟨e5.1, by omega⟩)]
      · rw [if_neg e5, if_neg (show ¬ (a = l ∧ c < j + 1) by omega)]
theorem wk_subC {post : St1 → Prop} {c j : Nat} {G : Int} (hm : m ≤ 20) (hn : n ≤ 20) (hc : c < n) (hj : j < n) (hne : c ≠ j) (ht : dg_tab m n S a4)
    (H : ∀ b4, dg_tab m n (fun a b => if b = c then S a c - G * S a j else S a b) b4 → post (lv, nI m, nI n, fc, a1, a2, a3, b4, a5, a6)) :
    wpX_subtractColumn post (lv, nI m, nI n, fc, a1, a2, a3, a4, a5, a6) (nI c) (nI j) (dg_I G) := by
  refine pk_loop (fun k l b => wX_subtractColumn_3 post (nI c) (nI j) (dg_I G) lv (nI m) (nI n) fc k (nI l) a1 a2 a3 b a5 a6)
    (fun l b => dg_tab m n (fun a d => if d = c ∧ a < l then S a c - G * S a j else S a d) b) m 0 a4 (by omega) (fun a d ha hd => by
      show a4 (20 * a + d) = dg_I (if d = c ∧ a < 0 then S a c - G * S a j else S a d)
      rw [if_neg (by omega)]
      exact ht a d ha hd) ?_ ?_
  · intro k b hb
    refine pk_le m m (fun _ => H b (fun a d ha hd => ?_)) (fun z => absurd z (by omega))
    have t := hb a d ha hd
    simp only [ha, and_true] at t
    exact t
  · intro k l b hl hb hw
    have t1 := hb l c hl hc
    have t2 := hb l j hl hj
    dsimp only at t1 t2
    rw [if_neg (show ¬ (c = c ∧ l < l) by omega)] at t1
    rw [if_neg (show ¬ (j = c ∧ l < l) by omega)] at t2
    refine pk_le m l (fun z => absurd z (by omega)) (fun _ => ⟨ft_in (by omega) (by omega), ft_in (by omega) (by omega), ft_in (by omega) (by omega), ?_⟩)
    rw [ft_cl (by omega) (by omega), ft_cl (by omega) (by omega), t1, t2, dg_ring]
    refine nm_e (nm_r (nI_1 l) (hw _ (fun a d ha hd => ?_)))
    have t := hb a d ha hd
    dsimp only at t ⊢
    rw [ft_up (by omega) (by omega)]
    by_cases e : a = l ∧ d = c
    · rw [if_pos e]
      obtain ⟨e3, e4⟩ := e
      subst e3
      subst e4
      rw [if_pos (show d = d ∧ a < a + 1 from ⟨rfl, by omega⟩)]
    · rw [if_neg e, t]
      by_cases e5 : d = c ∧ a < l
      · rw [if_pos e5, if_pos (show d = c ∧ a < l + 1 from ⟨e5.1, by omega⟩)]
      · rw [if_neg e5, if_neg (show ¬ (d = c ∧ a < l + 1) by omega)]
/-- the table after the rows have been cleared, up to row l -/
def dg_R (S : Nat → Nat → Int) (F : Nat → Int) (i l a c : Nat) : Int := if a = i ∨ l ≤ a then S a c else S a c - F a * S i c
/-- and the row of the pivot, up to column l -/
def dg_C (S : Nat → Nat → Int) (F : Nat → Int) (i j l a c : Nat) : Int := if a = i then (if c = j ∨ l ≤ c then S a c else 0) else S a c - F a * S i c
theorem wk_clear {post : Int32 → St1 → Prop} {i j : Nat} {F G : Nat → Int} {v : Int} (hm : m ≤ 20) (hn : n ≤ 20) (hi : i < m) (hj : j < n) (hv : S i j = v) (hv0 : v ≠ 0) (hsv : dg_s v) (hS : ∀ a c, dg_s (S a c)) (hF : ∀ a, a < m → S a j = F a * v ∧ dg_s (F a)) (hG : ∀ c, c < n → S i c = G c * v ∧ dg_s (G c)) (ht : dg_tab m n S a4)
    (H : ∀ b4, dg_tab m n (dg_C S F i j n) b4 → post 1 (lv, nI m, nI n, fc, a1, a2, a3, b4, a5, a6)) :
    wpX_clearAround post (lv, nI m, nI n, fc, a1, a2, a3, a4, a5, a6) (nI i) (nI j) := by
  refine ⟨ft_in (by omega) (by omega), ?_⟩
  rw [ft_cl (by omega) (by omega), ht i j hi hj, hv]
  have hvn : ¬ dg_I v = 0 := fun e => hv0 ((dg_0 hsv).mp e)
  refine nm_e ?_
  refine pk_loop (fun k l b => wX_clearAround_18 post (nI i) (nI j) (dg_I v) k 1 (nI l) lv (nI m) (nI n) fc a1 a2 a3 b a5 a6)
    (fun l b => dg_tab m n (dg_R S F i l) b) m 0 a4 (by omega) (fun a c ha hc => by
      unfold dg_R
      rw [if_pos (Or.inr (Nat.zero_le a))]
      exact ht a c ha hc) ?_ ?_
  · intro k b hb
    refine pk_le m m (fun _ => ?_) (fun z => absurd z (by omega))
    refine pk_loop (fun k' c b' => wX_clearAround_104 post (nI i) (nI j) (dg_I v) k' 1 (nI c) lv (nI m) (nI n) fc a1 a2 a3 b' a5 a6)
      (fun c b' => dg_tab m n (dg_C S F i j c) b') n 0 b (by omega) (fun a c ha hc => by
        rw [hb a c ha hc]
        unfold dg_R dg_C
        by_cases e : a = i
        · rw [if_pos (Or.inl e), if_pos e, if_pos (Or.inr (Nat.zero_le c))]
        · rw [if_neg (show ¬ (a = i ∨ m ≤ a) by omega), if_neg e]) ?_ ?_
    · intro k' b' hb'
      exact pk_le n n (fun _ => ⟨by rfl, H b' hb'⟩) (fun z => absurd z (by omega))
    · intro k' c b' hc hb' hw
      refine pk_le n c (fun z => absurd z (by omega)) (fun _ => ?_)
      have same : ∀ b'' , (∀ a d, a < m → d < n → b'' (20 * a + d) = dg_I (dg_C S F i j (c + 1) a d)) → wX_clearAround_155 post (wX_clearAround_104 post (nI i) (nI j) (dg_I v) k') (nI i) (nI j) (dg_I v) 1 (nI c) lv (nI m) (nI n) fc a1 a2 a3 b'' a5 a6 := by
        intro b'' h3
        refine pk_eq c j (fun e => nm_r (nI_1 c) (hw b'' h3)) (fun e => ⟨ft_in (by omega) (by omega), ?_⟩)
        rw [ft_cl (by omega) (by omega), h3 i c hi hc]
        have z : dg_C S F i j (c + 1) i c = 0 := by
          unfold dg_C
          rw [if_pos rfl, if_neg (by omega)]
        rw [z]
        exact br_t rfl (nm_r (nI_1 c) (hw b'' h3))
      refine pk_eq c j (fun e => br_t rfl (same b' (fun a d ha hd => ?_))) (fun e => ⟨ft_in (by omega) (by omega), hvn, ?_⟩)
      · rw [hb' a d ha hd]
        unfold dg_C
        by_cases e2 : a = i
        · rw [if_pos e2, if_pos e2]
          by_cases e3 : d = j
          · rw [if_pos (Or.inl e3), if_pos (Or.inl e3)]
          · by_cases e4 : c ≤ d
            · rw [if_pos (Or.inr e4), if_pos (Or.inr (show c + 1 ≤ d by omega))]
            · rw [if_neg (show ¬ (d = j ∨ c ≤ d) by omega), if_neg (show ¬ (d = j ∨ c + 1 ≤ d) by omega)]
        · rw [if_neg e2, if_neg e2]
      · have ec : dg_C S F i j c i c = S i c := by
          unfold dg_C
          rw [if_pos rfl, if_pos (Or.inr (Nat.le_refl _))]
        rw [ft_cl (by omega) (by omega), hb' i c hi hc, ec, dg_div (hS i c) hsv, (hG c hc).1, Int.mul_tdiv_cancel _ hv0]
        refine ⟨fun z => same b' (fun a d ha hd => ?_), fun z => wk_subC hm hn hc hj e hb' (fun b4 h4 => same b4 (fun a d ha hd => ?_))⟩
        · have g0 := (dg_0 (hG c hc).2).mp z
          have sz : S i c = 0 := by rw [(hG c hc).1, g0, Int.zero_mul]
          rw [hb' a d ha hd]
          unfold dg_C
          by_cases e2 : a = i
          · rw [if_pos e2, if_pos e2]
            by_cases e3 : d = c
            · rw [e3, if_pos (Or.inr (Nat.le_refl _)), if_neg (show ¬ (c = j ∨ c + 1 ≤ c) by omega), e2, sz]
            · by_cases e4 : d = j ∨ c ≤ d
              · rw [if_pos e4, if_pos (show d = j ∨ c + 1 ≤ d by omega)]
              · rw [if_neg e4, if_neg (show ¬ (d = j ∨ c + 1 ≤ d) by omega)]
          · rw [if_neg e2, if_neg e2]
        · rw [h4 a d ha hd]
          have cj : dg_C S F i j c a j = if a = i then v else 0 := by
            unfold dg_C
            by_cases e2 : a = i
            · rw [if_pos e2, if_pos e2, if_pos (Or.inl rfl), e2, hv]
            · rw [if_neg e2, if_neg e2, (hF a ha).1, hv]
              omega
          dsimp only
          rw [cj]
          by_cases e3 : d = c
          · rw [if_pos e3, e3]
            unfold dg_C
            by_cases e2 : a = i
            · rw [if_pos e2, if_pos e2, if_pos e2, if_pos (Or.inr (Nat.le_refl _)), if_neg (show ¬ (c = j ∨ c + 1 ≤ c) by omega), e2, (hG c hc).1]
              rw [Int.sub_self]
            · rw [if_neg e2, if_neg e2, if_neg e2, Int.mul_zero, Int.sub_zero]
          · rw [if_neg e3]
            unfold dg_C
            by_cases e2 : a = i
            · rw [if_pos e2, if_pos e2]
              by_cases e4 : d = j ∨ c ≤ d
              · rw [if_pos e4, if_pos (show d = j ∨ c + 1 ≤ d by omega)]
              · rw [if_neg e4, if_neg (show ¬ (d = j ∨ c + 1 ≤ d) by omega)]
            · rw [if_neg e2, if_neg e2]
  · intro k l b hl hb hw
    refine pk_le m l (fun z => absurd z (by omega)) (fun _ => ?_)
    have same : ∀ b'' , dg_tab m n (dg_R S F i (l + 1)) b'' → wX_clearAround_69 post (wX_clearAround_18 post (nI i) (nI j) (dg_I v) k) (nI i) (nI j) (dg_I v) 1 (nI l) lv (nI m) (nI n) fc a1 a2 a3 b'' a5 a6 := by
      intro b'' h3
      refine pk_eq l i (fun e => nm_r (nI_1 l) (hw b'' h3)) (fun e => ⟨ft_in (by omega) (by omega), ?_⟩)
      have z : dg_R S F i (l + 1) l j = 0 := by
        unfold dg_R
        rw [if_neg (show ¬ (l = i ∨ l + 1 ≤ l) by omega), (hF l hl).1, hv]
        omega
      rw [ft_cl (by omega) (by omega), h3 l j hl hj, z]
      exact br_t rfl (nm_r (nI_1 l) (hw b'' h3))
    refine pk_eq l i (fun e => br_t rfl (same b (fun a d ha hd => ?_))) (fun e => ⟨ft_in (by omega) (by omega), hvn, ?_⟩)
    · rw [hb a d ha hd]
      unfold dg_R
      by_cases e2 : a = i ∨ l ≤ a
      · rw [if_pos e2, if_pos (show a = i ∨ l + 1 ≤ a by omega)]
      · rw [if_neg e2, if_neg (show ¬ (a = i ∨ l + 1 ≤ a) by omega)]
    · have ec : dg_R S F i l l j = S l j := by
        unfold dg_R
        rw [if_pos (Or.inr (Nat.le_refl _))]
      rw [ft_cl (by omega) (by omega), hb l j hl hj, ec, dg_div (hS l j) hsv, (hF l hl).1, Int.mul_tdiv_cancel _ hv0]
      refine ⟨fun z => same b (fun a d ha hd => ?_), fun z => wk_subR hm hn hl hi e hb (fun b4 h4 => same b4 (fun a d ha hd => ?_))⟩
      · have f0 := (dg_0 (hF l hl).2).mp z
        rw [hb a d ha hd]
        unfold dg_R
        by_cases e3 : a = l
        · rw [e3, if_pos (Or.inr (Nat.le_refl _)), if_neg (show ¬ (l = i ∨ l + 1 ≤ l) by omega), f0, Int.zero_mul, Int.sub_zero]
        · by_cases e2 : a = i ∨ l ≤ a
          · rw [if_pos e2, if_pos (show a = i ∨ l + 1 ≤ a by omega)]
          · rw [if_neg e2, if_neg (show ¬ (a = i ∨ l + 1 ≤ a) by omega)]
      · rw [h4 a d ha hd]
        dsimp only
        unfold dg_R
        by_cases e3 : a = l
        · rw [if_pos e3, if_pos (Or.inr (Nat.le_refl _)), if_pos (Or.inl rfl), e3, if_neg (show ¬ (l = i ∨ l + 1 ≤ l) by omega)]
        · rw [if_neg e3]
          by_cases e2 : a = i ∨ l ≤ a
          · rw [if_pos e2, if_pos (show a = i ∨ l + 1 ≤ a by omega)]
          · rw [if_neg e2, if_neg (show ¬ (a = i ∨ l + 1 ≤ a) by omega)]
end
end
section
/-! diagonalProduct and torsion -/
theorem dp_qr {i j : Nat} (hi : i < 20) (hj : j < 20) : nI (20 * i + j) / 20 = nI i ∧ nI (20 * i + j) - nI (20 * i + j) / 20 * 20 = nI j := by
  have a : nI (20 * i + j) / 20 = nI ((20 * i + j) / 20) := pk_div (d := 20) (by omega) (by omega) (by omega)
  have b : nI (20 * i + j) - nI (20 * i + j) / 20 * 20 = nI ((20 * i + j) % 20) := pk_rem (d := 20) (by omega) (by omega) (by omega)
  rw [b, a, show (20 * i + j) / 20 = i by omega, show (20 * i + j) % 20 = j by omega]
  exact ⟨rfl, rfl⟩
section
variable {lv fc : Int32} {a1 : Nat → Int64} {a2 a3 : Nat → Int32} {a5 a6 : Nat → Int32} {m n k : Nat} {f g : Nat → Nat} {X : Nat → Bool}
theorem dp_zero {E : Nat → Nat → Int} (ok : el_ok X k E) (lf : ft_ls X k 64 m f) (lg : ft_ls X (k + 1) 64 n g) (h : ∀ a b, a < m ∧ b < n → E (f a) (g b) = 0) (ρ t : Nat) : E ρ t = 0 := by
  apply Classical.byContradiction
  intro hh
  obtain ⟨⟨r1, r2, r3⟩, t1, t2, t3⟩ := ok.1 ρ t hh
  obtain ⟨a, ha, ea⟩ := lf.2.1 ρ r1 r2 r3
  obtain ⟨b, hb, eb⟩ := lg.2.1 t t1 t2 t3
  apply hh
  rw [← ea, ← eb]
  exact h a b ⟨ha, hb⟩
theorem dp_up {S S' : Nat → Nat → Int} {F : Nat → Int} {i j : Nat} {b : Nat → Int64} (hn : n ≤ 20) (hj : j < n) (hb : dg_tab m n (dg_C S F i j n) b) (h0 : ∀ c, S' i c = 0) (h1 : ∀ a c, a < m → c < n → a ≠ i → S' a c = S a c - F a * S i c) : dg_tab m n S' (vp_updL b (20 * i + j) 0) := by
  intro a c ha hc
  rw [ft_up (by omega) (by omega)]
  by_cases e : a = i ∧ c = j
  · rw [if_pos e, e.1, h0]
    rfl
  · rw [if_neg e, hb a c ha hc]
    unfold dg_C
    by_cases e2 : a = i
    · rw [if_pos e2, if_neg (show ¬ (c = j ∨ n ≤ c) by omega), e2, h0]
    · rw [if_neg e2, h1 a c ha hc e2]
theorem wk_diagL {post : Int64 → St1 → Prop} (hm : m ≤ 20) (hn : n ≤ 20) (lf : ft_ls X k 64 m f) (lg : ft_ls X (k + 1) 64 n g)
    (H : ∀ t e b4, el_sm X k t e → post (lN (2 ^ e)) (lv, nI m, nI n, fc, a1, a2, a3, b4, a5, a6)) :
    ∀ (μ : Nat) (E : Nat → Nat → Int) (t : Nat) (b4 : Nat → Int64) (x : Int32), el_run X k E t → el_mu E ≤ μ → dg_tab m n (fun i j => E (f i) (g j)) b4 → dg_best m n (fun i j => E (f i) (g j)) (fun a b => a < m ∧ b < n) x →
    wX_diagonalProduct_7 post (μ + 2) 1 x lv (nI m) (nI n) fc a1 a2 a3 b4 a5 a6 := by
  intro μ
  induction μ with
  | zero =>
    intro E t b4 x hrun hmu htab hbest
    have zall : ∀ ρ t, E ρ t = 0 := el_zall hrun.1 (fun ρ hr t => by
      apply Classical.byContradiction
      intro hh
      have a := el_ct_lt (P := fun ρ => ∃ t, E ρ t ≠ 0) (Q := fun _ => False) 32 hr ⟨t, hh⟩ (fun x => x) (fun _ _ x => x.elim)
      have b : el_mu E = el_ct (fun ρ => ∃ t, E ρ t ≠ 0) 32 := rfl
      omega)
    rcases hbest with ⟨e, _⟩ | ⟨i0, j0, _, _, _, _, hne, _⟩
    · subst e
      exact br_t (by decide) (H t 0 b4 (el_end0 hrun zall))
    · exact absurd (zall _ _) hne
  | succ μ ih =>
    intro E t b4 x hrun hmu htab hbest
    have hS : ∀ a c, dg_s (E (f a) (g c)) := fun a c => by
      have := el_e64 hrun.1 (f a) (g c)
      unfold dg_s
      omega
    rcases hbest with ⟨e, hz⟩ | ⟨i0, j0, e, hi, hj, _, hne, hmin, hfst⟩
    · subst e
      exact br_t (by decide) (H t 0 b4 (el_end0 hrun (dp_zero hrun.1 lf lg hz)))
    · subst e
      dsimp only at hne hmin hfst
      have qr := dp_qr (i := i0) (j := j0) (by omega) (by omega)
      have ecl : (nI (20 * i0 + j0)).toNatClampNeg = 20 * i0 + j0 := nI_clamp (by omega)
      have pv := el_piv hrun.1 hne (fun ρ s hh => by
        obtain ⟨⟨r1, r2, r3⟩, t1, t2, t3⟩ := hrun.1.1 ρ s hh
        obtain ⟨a, ha, ea⟩ := lf.2.1 ρ r1 r2 r3
        obtain ⟨b, hb, eb⟩ := lg.2.1 s t1 t2 t3
        subst ea
        subst eb
        exact hmin a b ⟨ha, hb⟩ hh) (fun ρ s hlt hh => by
        obtain ⟨⟨r1, r2, r3⟩, t1, t2, t3⟩ := hrun.1.1 ρ s hh
        obtain ⟨a, ha, ea⟩ := lf.2.1 ρ r1 r2 r3
        obtain ⟨b, hb, eb⟩ := lg.2.1 s t1 t2 t3
        subst ea
        subst eb
        refine hfst a b ⟨ha, hb⟩ ?_ hh
        apply Classical.byContradiction
        intro hge
        by_cases ei : a = i0
        · subst ei
          omega
        · have := lf.2.2.1 i0 a (by omega) ha
          omega)
      obtain ⟨hi32, pv⟩ := pv
      have hsv := hS i0 j0
      refine br_f (nI_pos (by omega)) ⟨by decide, nm_r qr.1 ⟨by decide, nm_r qr.2 ?_⟩⟩
      generalize hv : E (f i0) (g j0) = v at *
      rcases pv with h1 | ⟨h2, hno⟩
      · have vv : v * v = 1 := by rcases h1 with e | e <;> rw [e] <;> rfl
        have v0 : v ≠ 0 := hne
        refine wk_clear (S := fun i j => E (f i) (g j)) (F := fun a => E (f a) (g j0) * v) (G := fun c => E (f i0) (g c) * v) hm hn hi hj hv v0 hsv hS (fun a _ => ⟨by show E (f a) (g j0) = E (f a) (g j0) * v * v; rw [Int.mul_assoc, vv, Int.mul_one], by have := el_e64 hrun.1 (f a) (g j0); unfold dg_s; rcases h1 with e | e <;> rw [e] <;> omega⟩) (fun c _ => ⟨by show E (f i0) (g c) = E (f i0) (g c) * v * v; rw [Int.mul_assoc, vv, Int.mul_one], by have := el_e64 hrun.1 (f i0) (g c); unfold dg_s; rcases h1 with e | e <;> rw [e] <;> omega⟩) htab (fun b5 h5 => ?_)
        refine br_f (by decide) ⟨vp_in_nI (by omega) (by omega), ?_⟩
        rw [ecl, h5 i0 j0 hi hj, show dg_C (fun i j => E (f i) (g j)) (fun a => E (f a) (g j0) * v) i0 j0 n i0 j0 = v by unfold dg_C; rw [if_pos rfl, if_pos (Or.inl rfl)]; exact hv]
        refine wk_size _ hsv (nm_r (show (1 : Int64) * lN v.natAbs = 1 by rw [show v.natAbs = 1 by omega]; decide) ⟨vp_in_nI (by omega) (by omega), nm_e ?_⟩)
        have hSd : ∀ ρ s, (fun ρ s => E ρ s - v * E ρ (g j0) * E (f i0) s) ρ s = E ρ s - E (f i0) (g j0) * E ρ (g j0) * E (f i0) s := fun ρ s => by rw [hv]
        have run' := el_runS (S' := fun ρ s => E ρ s - v * E ρ (g j0) * E (f i0) s) hrun hi32 (by rw [hv]; exact h1) hSd
        have mu' := el_muS (S' := fun ρ s => E ρ s - v * E ρ (g j0) * E (f i0) s) hi32 (by rw [hv]; exact h1) hSd
        have tab' : dg_tab m n (fun i j => (fun ρ s => E ρ s - v * E ρ (g j0) * E (f i0) s) (f i) (g j)) (vp_updL b5 (20 * i0 + j0) 0) := dp_up hn hj h5 (fun c => by show E (f i0) (g c) - v * E (f i0) (g j0) * E (f i0) (g c) = 0; rw [hv, vv]; omega) (fun a c _ _ _ => by show E (f a) (g c) - v * E (f a) (g j0) * E (f i0) (g c) = E (f a) (g c) - E (f a) (g j0) * v * E (f i0) (g c); rw [Int.mul_comm v])
        unfold wX_diagonalProduct_58
        refine wk_find hm hn (fun a c => ?_) tab' (fun x hx => ih _ (t + 1) _ x run' (by omega) tab' hx)
        have := el_e64 run'.1 (f a) (g c)
        unfold dg_s
        dsimp only at this ⊢
        omega
      · have v0 : v ≠ 0 := hne
        have ev := fun ρ s => el_even hrun.1 hno ρ s
        have dv : ∀ z : Int, (2 : Int) ∣ z → v ∣ z := by
          intro z hz
          rcases h2 with e | e <;> rw [e]
          · exact hz
          · obtain ⟨w, hw⟩ := hz
            exact ⟨-w, by rw [hw]; omega⟩
        have sm : ∀ z : Int, -64 ≤ z ∧ z ≤ 64 → (2 : Int) ∣ z → z = z / v * v ∧ dg_s (z / v) := by
          intro z hz hd
          have e := Int.ediv_mul_cancel (dv z hd)
          refine ⟨e.symm, ?_⟩
          unfold dg_s
          generalize z / v = q at *
          rcases h2 with e2 | e2 <;> rw [e2] at e <;> omega
        have two := fun ρ s => el_two (j := g j0) hrun.1 hno hi32 ρ s
        refine wk_clear (S := fun i j => E (f i) (g j)) (F := fun a => E (f a) (g j0) / v) (G := fun c => E (f i0) (g c) / v) hm hn hi hj hv v0 hsv hS (fun a _ => sm _ (el_e64 hrun.1 _ _) (ev _ _)) (fun c _ => sm _ (el_e64 hrun.1 _ _) (ev _ _)) htab (fun b5 h5 => ?_)
        refine br_f (by decide) ⟨vp_in_nI (by omega) (by omega), ?_⟩
        rw [ecl, h5 i0 j0 hi hj, show dg_C (fun i j => E (f i) (g j)) (fun a => E (f a) (g j0) / v) i0 j0 n i0 j0 = v by unfold dg_C; rw [if_pos rfl, if_pos (Or.inl rfl)]; exact hv]
        refine wk_size _ hsv (nm_r (show (1 : Int64) * lN v.natAbs = lN (2 ^ 1) by rw [show v.natAbs = 2 by omega]; decide) ⟨vp_in_nI (by omega) (by omega), nm_e ?_⟩)
        have tab' : dg_tab m n (fun i j => (fun _ _ => 0 : Nat → Nat → Int) i j) (vp_updL b5 (20 * i0 + j0) 0) := dp_up hn hj h5 (fun c => rfl) (fun a c _ _ _ => by
          show (0 : Int) = E (f a) (g c) - E (f a) (g j0) / v * E (f i0) (g c)
          have e1 := (sm _ (el_e64 hrun.1 (f a) (g j0)) (ev _ _)).1
          have e2 := two (f a) (g c)
          rw [hv] at e2
          generalize E (f a) (g j0) / v = q at *
          rw [e1] at e2
          have e3 : v * (E (f a) (g c) - q * E (f i0) (g c)) = 0 := by grind
          rcases Int.mul_eq_zero.mp e3 with e4 | e4
          · exact absurd e4 v0
          · exact e4.symm)
        unfold wX_diagonalProduct_58
        refine wk_find hm hn (fun a c => by show dg_s 0; unfold dg_s; omega) tab' (fun x hx => ?_)
        rcases hx with ⟨e, _⟩ | ⟨_, _, _, _, _, _, hne', _⟩
        · subst e
          exact br_t (by decide) (H t 1 _ (el_end2 hrun hno hi32 (by rw [hv]; exact h2)))
        · exact absurd rfl hne'
end
theorem wk_diag {post : Int64 → St1 → Prop} {lv fc : Int32} {a1 : Nat → Int64} {a2 a3 : Nat → Int32} {a4 : Nat → Int64} {a5 a6 : Nat → Int32} {m n k : Nat} {f g : Nat → Nat} {X : Nat → Bool} (hX : el_cl X) (ht : ft_tab X k m n f g a4)
    (H : ∀ t e b4, el_sm X k t e → post (lN (2 ^ e)) (lv, nI m, nI n, fc, a1, a2, a3, b4, a5, a6)) : wpX_diagonalProduct post (lv, nI m, nI n, fc, a1, a2, a3, a4, a5, a6) := by
  obtain ⟨h1, h6, hm, hn, lf, lg, tb⟩ := ht
  have run := el_run0 hX h1 h6
  have tab : dg_tab m n (fun i j => el_S X k (f i) (g j)) a4 := fun i j hi hj => by
    have c := lg.1 j hj
    rw [tb i j hi hj]
    dsimp only
    unfold el_S
    rw [if_pos ⟨c.1, c.2.1, c.2.2⟩]
    rfl
  unfold wpX_diagonalProduct
  dsimp only
  refine wk_find hm hn (fun a c => ?_) tab (fun x hx => ⟨_, wk_diagL hm hn lf lg H _ _ 0 a4 x run (Nat.le_refl _) tab hx⟩)
  have := el_e64 run.1 (f a) (g c)
  unfold dg_s
  omega
theorem wk_tors {post : Int32 → St1 → Prop} {lv rc cc fc : Int32} {a1 : Nat → Int64} {a2 a3 : Nat → Int32} {a4 : Nat → Int64} {a5 a6 : Nat → Int32} {r k : Nat} {P : Int64} (hr : r < 4) (hk : k ≤ 5) (hP : hm_prep lv (a1 r) P)
    (H : ∀ rc cc b2 b3 b4, post (nI (2 ^ (hm_te (bs_t P) (k + 1)).2)) (lv, rc, cc, fc, a1, b2, b3, b4, a5, a6)) : wpX_torsion post (lv, rc, cc, fc, a1, a2, a3, a4, a5, a6) (nI r) (nI k) := by
  unfold wpX_torsion
  dsimp only
  refine wk_reg _ hr (br_f (nI_pos (by omega)) (pk_le k 5 (fun _ => ⟨vp_in_nI hr (by omega), ?_⟩) (fun z => absurd z (by omega))))
  rw [show (nI r).toNatClampNeg = r from nI_clamp (by omega), nI_1 k]
  refine hP.2.2 _ rc cc fc a1 a2 a3 a4 a5 a6 ?_
  refine wk_fill P (k := k + 1) (by omega) (by omega) (fun m n f g b2 b3 b4 ht => wk_diag hP.1 ht (fun t e b5 hs => ?_))
  have u := el_sm_u hs (hm_teS hP.1 (by omega) (by omega))
  show post (lN (2 ^ e)).toInt32 _
  rw [lN_i, u.2]
  exact H _ _ _ _ _
end
section
/-! the methods that change complexes keep them closed -/
def mt_gd (a : Nat → Int64) : Prop := ∀ r, r < 3 → el_cl (bs_t (a r))
theorem mt_and : ∀ a, a < 64 → ∀ b, b < 64 → nI a &&& nI b = nI (a &&& b) := by decide +kernel
theorem mt_or : ∀ a, a < 64 → ∀ b, b < 64 → (nI a ||| nI b = nI (a ||| b) ∧ a ||| b < 64) := by decide +kernel
theorem mt_xor : ∀ a, a < 64 → ((63 : Int32) ^^^ nI a = nI (63 ^^^ a) ∧ 63 ^^^ a < 64) := by decide +kernel
theorem mt_tr {t u s : Nat} (h1 : t &&& u = t) (h2 : u &&& s = u) : t &&& s = t := by
  calc t &&& s = (t &&& u) &&& s := by rw [h1]
    _ = t &&& (u &&& s) := Nat.and_assoc t u s
    _ = t := by rw [h2, h1]
theorem mt_le {t u : Nat} (h : t &&& u = t) : t ≤ u := by rw [← h]; exact Nat.and_le_right
theorem mt_upd {a : Nat → Int64} {d : Nat} {y : Int64} (h : mt_gd a) (hy : d < 3 → el_cl (bs_t y)) : mt_gd (vp_updL a d y) := by
  intro r hr
  by_cases e : r = d
  · subst e
    rw [pk_uLs]
    exact hy hr
  · rw [pk_uLn e]
    exact h r hr
theorem mt_clc {X Y : Nat → Bool} (h : ∀ j, j < 64 → Y j = X j) (hX : ∀ s t, s < 64 → X s = true → 0 < t → t &&& s = t → X t = true) : el_cl Y := by
  intro s t hs hx ht hts
  have := mt_le hts
  rw [h t (by omega)]
  rw [h s hs] at hx
  exact hX s t hs hx ht hts
theorem mt_k0 : ∀ s, s < 64 → ∀ q, q < 64 → (q &&& s = q ∧ 0 < q) → ∀ j, j < 64 → (j &&& s ≠ j ∨ decide ((q - 1) &&& s < j) = (decide (q < j) || decide (q = j))) := by decide +kernel
theorem mt_k1 {s q j : Nat} (hs : s < 64) (hq : q < 64) (h : q &&& s = q) (h0 : 0 < q) (hj : j < 64) (hjs : j &&& s = j) : decide ((q - 1) &&& s < j) = (decide (q < j) || decide (q = j)) := by
  rcases mt_k0 s hs q hq ⟨h, h0⟩ j hj with e | e
  · exact absurd hjs e
  · exact e
section
variable {lv rc cc fc : Int32} {a1 : Nat → Int64} {a2 a3 : Nat → Int32} {a4 : Nat → Int64} {a5 a6 : Nat → Int32} {post : Int32 → St1 → Prop}
theorem wk_add {d : Nat} (hd : d < 3) (p : Int32) (hg : mt_gd a1) (H : ∀ x b1, mt_gd b1 → post x (lv, rc, cc, fc, b1, a2, a3, a4, a5, a6)) : wpX_add post (lv, rc, cc, fc, a1, a2, a3, a4, a5, a6) (nI d) p := by
  unfold wpX_add
  dsimp only
  refine wk_reg _ (by omega) (wk_isSet _ p (H _ a1 hg) (fun s h1 hs e => ?_))
  subst e
  have ecl : (nI d).toNatClampNeg = d := nI_clamp (by omega)
  refine loop_m (σ := Nat × (Nat → Int64)) (fun n x => wX_add_20 post (nI d) (nI s) lv rc cc fc n (nI x.1) x.2 a2 a3 a4 a5 a6)
    (fun x => x.1 &&& s = x.1 ∧ (∀ r, r ≠ d → x.2 r = a1 r) ∧ ∀ j, j < 64 → bs_t (x.2 d) j = (bs_t (a1 d) j || (decide (j &&& s = j) && decide (x.1 < j)))) (fun x => x.1) ?_ (s, a1) ⟨Nat.and_self s, fun _ _ => rfl, fun j hj => ?_⟩
  · intro n x hx hw
    obtain ⟨q, b⟩ := x
    obtain ⟨hq, ho, hb⟩ := hx
    dsimp only at hq ho hb
    have hqs := mt_le hq
    refine pk_le q 0 (fun z => ⟨vp_in_nI (by omega) (by omega), wk_ones _ _ (H _ b (fun r hr => ?_))⟩) (fun z => ⟨vp_in_nI (by omega) (by omega), vp_in_nI (by omega) (by omega), ?_⟩) rfl rfl (by omega) (by omega)
    · by_cases e : r = d
      · subst e
        have q0 : q = 0 := by omega
        refine mt_clc hb (fun u t hu hxu ht htu => ?_)
        simp only [Bool.or_eq_true, Bool.and_eq_true, decide_eq_true_eq] at hxu ⊢
        rcases hxu with hxu | hxu
        · exact Or.inl (hg r hr u t hu hxu ht htu)
        · exact Or.inr ⟨mt_tr htu hxu.1, by omega⟩
      · rw [ho r e]
        exact hg r hr
    · rw [ecl]
      refine nm_e (nm_r (e' := nI ((q - 1) &&& s)) ?_ (hw ((q - 1) &&& s, _) ⟨?_, fun r hr => ?_, fun j hj => ?_⟩ ?_))
      · rw [show nI q - 1 = nI (q - 1) from pk_sub (b := 1) (by omega)]
        exact mt_and (q - 1) (by omega) s hs
      · show ((q - 1) &&& s) &&& s = (q - 1) &&& s
        rw [Nat.and_assoc, Nat.and_self]
      · show vp_updL b d _ r = a1 r
        rw [pk_uLn hr]
        exact ho r hr
      · show bs_t (vp_updL b d _ d) j = _
        rw [pk_uLs, bs_set _ (by omega), hb j hj]
        by_cases hjs : j &&& s = j
        · have e := mt_k1 hs (show q < 64 by omega) hq (by omega) hj hjs
          show _ = (bs_t (a1 d) j || (decide (j &&& s = j) && decide ((q - 1) &&& s < j)))
          rw [e]
          simp only [hjs, decide_true, Bool.true_and]
          cases bs_t (a1 d) j <;> cases decide (q < j) <;> cases decide (q = j) <;> rfl
        · have ne : ¬ q = j := fun e => hjs (by rw [← e]; exact hq)
          simp [hjs, ne]
      · show (q - 1) &&& s < q
        have : (q - 1) &&& s ≤ q - 1 := Nat.and_le_left
        omega
  · by_cases hjs : j &&& s = j
    · have := mt_le hjs
      have n : ¬ s < j := by omega
      simp [n]
    · simp [hjs]
theorem wk_take {d : Nat} (hd : d < 3) (p : Int32) (hg : mt_gd a1) (H : ∀ x b1, mt_gd b1 → post x (lv, rc, cc, fc, b1, a2, a3, a4, a5, a6)) : wpX_take post (lv, rc, cc, fc, a1, a2, a3, a4, a5, a6) (nI d) p := by
  unfold wpX_take
  dsimp only
  refine wk_reg _ (by omega) (wk_isSet _ p (H _ a1 hg) (fun s h1 hs e => ?_))
  subst e
  have ecl : (nI d).toNatClampNeg = d := nI_clamp (by omega)
  refine pk_loop (fun n i b => wX_take_20 post (nI d) (nI s) lv rc cc fc n (nI i) b a2 a3 a4 a5 a6)
    (fun i b => (∀ r, r ≠ d → b r = a1 r) ∧ ∀ j, j < 64 → bs_t (b d) j = (bs_t (a1 d) j && !(decide (j &&& s = s) && decide (j < i)))) 64 s a1 (by omega) ⟨fun _ _ => rfl, fun j hj => ?_⟩ ?_ ?_
  · by_cases hjs : j &&& s = s
    · have : s ≤ j := by rw [← hjs]; exact Nat.and_le_left
      have n : ¬ j < s := by omega
      simp [n]
    · simp [hjs]
  · intro n b hb
    refine pk_lt 63 64 (fun _ => ⟨vp_in_nI (by omega) (by omega), wk_ones _ _ (H _ b (fun r hr => ?_))⟩) (fun z => absurd z (by omega))
    by_cases e : r = d
    · subst e
      refine mt_clc hb.2 (fun u t hu hxu ht htu => ?_)
      have ht64 : t < 64 := by have := mt_le htu; omega
      simp only [hu, ht64, decide_true, Bool.and_true, Bool.and_eq_true, Bool.not_eq_true', decide_eq_false_iff_not] at hxu ⊢
      refine ⟨hg r hr u t hu hxu.1 ht htu, fun hts => hxu.2 ?_⟩
      have a : s &&& t = s := by rw [Nat.and_comm]; exact hts
      have b := mt_tr a htu
      rw [Nat.and_comm]
      exact b
    · rw [hb.1 r e]
      exact hg r hr
  · intro n i b hi hb hw
    refine pk_lt 63 i (fun z => absurd z (by omega)) (fun _ => ?_)
    rw [mt_and i hi s hs, ecl]
    have l : i &&& s ≤ i := Nat.and_le_left
    refine pk_eq (i &&& s) s (fun e => ⟨vp_in_nI (by omega) (by omega), vp_in_nI (by omega) (by omega), nm_e (nm_r (nI_1 i) (hw _ ⟨fun r hr => ?_, fun j hj => ?_⟩))⟩) (fun e => nm_r (nI_1 i) (hw b ⟨hb.1, fun j hj => ?_⟩)) rfl rfl (by omega) (by omega)
    · rw [pk_uLn hr]
      exact hb.1 r hr
    · rw [pk_uLs, bs_clr _ hi hj, hb.2 j hj]
      by_cases c : i = j
      · subst c
        simp [e]
      · have : (j < i + 1) = (j < i) := propext ⟨fun z => by omega, fun z => by omega⟩
        simp [c, this]
    · rw [hb.2 j hj]
      by_cases c : i = j
      · subst c
        simp [e]
      · have : (j < i + 1) = (j < i) := propext ⟨fun z => by omega, fun z => by omega⟩
        simp [this]
/-- the dual's sets -/
def mt_du (X : Nat → Bool) (j : Nat) : Bool := decide (1 ≤ j) && (decide (j < 63) && !X (63 ^^^ j))
theorem mt_k2 : ∀ u, u < 64 → ∀ t, t < 64 → t &&& u = t → (63 ^^^ u) &&& (63 ^^^ t) = 63 ^^^ u := by decide +kernel
theorem mt_k3 : ∀ u, u < 63 → 0 < 63 ^^^ u := by decide +kernel
theorem mt_duC {X Y : Nat → Bool} (hX : el_cl X) (h : ∀ j, j < 64 → Y j = mt_du X j) : el_cl Y := by
  refine mt_clc h (fun u t hu hxu ht htu => ?_)
  have l := mt_le htu
  unfold mt_du at hxu ⊢
  simp only [Bool.and_eq_true, Bool.not_eq_true', decide_eq_true_eq] at hxu ⊢
  refine ⟨ht, by omega, ?_⟩
  cases hx : X (63 ^^^ t) with
  | false => rfl
  | true =>
    have := hX (63 ^^^ t) (63 ^^^ u) (mt_xor t (by omega)).2 hx (mt_k3 u hxu.2.1) (mt_k2 u hu t (by omega) htu)
    rw [hxu.2.2] at this
    exact Bool.noConfusion this
theorem wk_apply {o d a b : Nat} (ho : o ≤ 2) (hd : d < 4) (ha : a < 4) (hb : b < 4)
    (H : ∀ y : Int64, (o = 2 → ∀ j, j < 64 → bs_t y j = mt_du (bs_t (a1 a)) j) → (o = 0 → y = a1 a ||| a1 b) → (o = 1 → y = a1 a &&& a1 b) → post 1 (lv, rc, cc, fc, vp_updL a1 d y, a2, a3, a4, a5, a6)) :
    wpX_apply post (lv, rc, cc, fc, a1, a2, a3, a4, a5, a6) (nI o) (nI d) (nI a) (nI b) := by
  have ed : (nI d).toNatClampNeg = d := nI_clamp (by omega)
  have ea : (nI a).toNatClampNeg = a := nI_clamp (by omega)
  have eb : (nI b).toNatClampNeg = b := nI_clamp (by omega)
  have h71 : ∀ z : Int64, (o = 0 → z = a1 a ||| a1 b) → (o = 1 → z = a1 a &&& a1 b) → wX_apply_71 post (nI o) (nI d) (a1 a) z lv rc cc fc a1 a2 a3 a4 a5 a6 := by
    intro z h0 h1
    refine pk_eq o 2 (fun e => ?_) (fun e => ⟨vp_in_nI hd (by omega), ?_⟩) rfl rfl (by omega) (by omega)
    · refine pk_loop (fun n i y => wX_apply_84 post (nI d) (a1 a) lv rc cc fc a1 a2 a3 a4 a5 a6 n y (nI i)) (fun i y => 1 ≤ i ∧ bs_fil (mt_du (bs_t (a1 a))) i y) 63 1 0 (by omega) ⟨by omega, bs_fil_0 rfl⟩ ?_ ?_
      · intro n y hy
        refine pk_le 63 63 (fun _ => ⟨vp_in_nI hd (by omega), ?_⟩) (fun z => absurd z (by omega))
        rw [ed]
        refine nm_e (H y (fun _ j hj => ?_) (fun e0 => by omega) (fun e1 => by omega))
        rw [hy.2 j hj]
        by_cases c : j < 63
        · simp [c]
        · unfold mt_du
          simp [c]
      · intro n i y hi hy hw
        refine pk_le 63 i (fun z => absurd z (by omega)) (fun _ => ?_)
        rw [(mt_xor i (by omega)).1]
        refine wk_isIn _ _ (mt_xor i (by omega)).2 (fun hbt => nm_r (nI_1 i) (hw y ⟨by omega, bs_fil_n hy.2 ?_⟩)) (fun hbt => nm_e (nm_r (nI_1 i) (hw _ ⟨by omega, bs_fil_y hy.2 (by omega) ?_⟩)))
        · unfold mt_du
          rw [hbt]
          simp
        · unfold mt_du
          rw [hbt]
          simp
          omega
    · rw [ed]
      exact nm_e (H z (fun e2 => absurd e2 e) h0 h1)
  unfold wpX_apply
  dsimp only
  refine br_f (nI_pos (by omega)) (pk_lt 2 o (fun z => absurd z (by omega)) (fun _ => wk_reg _ hd (wk_reg _ ha (wk_reg _ hb ⟨vp_in_nI ha (by omega), ?_⟩))) rfl rfl (by omega) (by omega))
  rw [ea, eb]
  refine nm_e (pk_eq o 0 (fun e => ⟨vp_in_nI hb (by omega), h71 _ (fun _ => rfl) (fun e1 => by omega)⟩) (fun e => ⟨vp_in_nI hb (by omega), h71 _ (fun e0 => absurd e0 e) (fun _ => rfl)⟩) rfl rfl (by omega) (by omega))
theorem wk_applyG {o d a b : Nat} (ho : o ≤ 2) (hd : d < 4) (ha : a < 3) (hb : b < 3) (hg : mt_gd a1) (H : ∀ x b1, mt_gd b1 → post x (lv, rc, cc, fc, b1, a2, a3, a4, a5, a6)) :
    wpX_apply post (lv, rc, cc, fc, a1, a2, a3, a4, a5, a6) (nI o) (nI d) (nI a) (nI b) := by
  refine wk_apply ho hd (by omega) (by omega) (fun y h2 h0 h1 => H 1 _ (mt_upd hg (fun _ => ?_)))
  have e : o = 0 ∨ o = 1 ∨ o = 2 := by omega
  rcases e with e | e | e
  · rw [h0 e]
    refine mt_clc (X := fun j => bs_t (a1 a) j || bs_t (a1 b) j) (fun j _ => bs_or _ _ j) (fun u t hu hxu ht htu => ?_)
    simp only [Bool.or_eq_true] at hxu ⊢
    exact hxu.imp (fun z => hg a ha u t hu z ht htu) (fun z => hg b hb u t hu z ht htu)
  · rw [h1 e]
    refine mt_clc (X := fun j => bs_t (a1 a) j && bs_t (a1 b) j) (fun j _ => bs_and _ _ j) (fun u t hu hxu ht htu => ?_)
    simp only [Bool.and_eq_true] at hxu ⊢
    exact ⟨hg a ha u t hu hxu.1 ht htu, hg b hb u t hu hxu.2 ht htu⟩
  · exact mt_duC (hg a ha) (h2 e)
def mt_lk (X : Nat → Bool) (s j : Nat) : Bool := decide (1 ≤ j) && (decide (j &&& s = 0) && X (j ||| s))
theorem mt_orS {t u s : Nat} (h : t &&& u = t) : (t ||| s) &&& (u ||| s) = t ||| s := by
  apply Nat.eq_of_testBit_eq
  intro i
  have e := congrArg (fun x => Nat.testBit x i) h
  simp only [Nat.testBit_and, Nat.testBit_or] at e ⊢
  revert e
  cases t.testBit i <;> cases u.testBit i <;> cases s.testBit i <;> simp
theorem wk_link {d a : Nat} (hd : d < 3) (ha : a < 3) (p : Int32) (hg : mt_gd a1) (H : ∀ x b1, mt_gd b1 → post x (lv, rc, cc, fc, b1, a2, a3, a4, a5, a6)) : wpX_link post (lv, rc, cc, fc, a1, a2, a3, a4, a5, a6) (nI d) (nI a) p := by
  unfold wpX_link
  dsimp only
  refine wk_reg _ (by omega) (wk_reg _ (by omega) (wk_isSet _ p (H _ a1 hg) (fun s h1 hs e => ?_)))
  subst e
  have ed : (nI d).toNatClampNeg = d := nI_clamp (by omega)
  have ea : (nI a).toNatClampNeg = a := nI_clamp (by omega)
  refine pk_loop (fun n i y => wX_link_32 post (nI d) (nI a) (nI s) lv rc cc fc a1 a2 a3 a4 a5 a6 n y (nI i)) (fun i y => 1 ≤ i ∧ bs_fil (mt_lk (bs_t (a1 a)) s) i y) 64 1 0 (by omega) ⟨by omega, bs_fil_0 rfl⟩ ?_ ?_
  · intro n y hy
    refine pk_lt 63 64 (fun _ => ⟨vp_in_nI (by omega) (by omega), ?_⟩) (fun z => absurd z (by omega))
    rw [ed]
    refine nm_e (H 1 _ (mt_upd hg (fun _ => mt_clc (X := mt_lk (bs_t (a1 a)) s) (fun j hj => ?_) (fun u t hu hxu ht htu => ?_))))
    · rw [hy.2 j hj]
      simp [hj]
    · unfold mt_lk at hxu ⊢
      simp only [Bool.and_eq_true, decide_eq_true_eq] at hxu ⊢
      have l := mt_le htu
      refine ⟨ht, ?_, hg a ha (u ||| s) (t ||| s) (mt_or u hu s hs).2 hxu.2.2 ?_ (mt_orS htu)⟩
      · rw [← htu, Nat.and_assoc, hxu.2.1, Nat.and_zero]
      · have := @Nat.left_le_or t s
        omega
  · intro n i y hi hy hw
    refine pk_lt 63 i (fun z => absurd z (by omega)) (fun _ => ?_)
    rw [mt_and i hi s hs, ea, (mt_or i hi s hs).1]
    have l : i &&& s ≤ i := Nat.and_le_left
    refine pk_eq (i &&& s) 0 (fun e => ⟨vp_in_nI (by omega) (by omega), wk_isIn _ _ (mt_or i hi s hs).2 (fun hbt => nm_e (nm_r (nI_1 i) (hw _ ⟨by omega, bs_fil_y hy.2 hi ?_⟩))) (fun hbt => nm_r (nI_1 i) (hw y ⟨by omega, bs_fil_n hy.2 ?_⟩))⟩) (fun e => nm_r (nI_1 i) (hw y ⟨by omega, bs_fil_n hy.2 ?_⟩)) rfl rfl (by omega) (by omega)
    · unfold mt_lk
      rw [hbt, e]
      simp
      omega
    · unfold mt_lk
      rw [hbt]
      simp
    · unfold mt_lk
      simp [e]
theorem mt_k4 : ∀ u, u < 64 → ∀ t, t < 64 → t &&& u = t → mn_pc t ≤ mn_pc u := by decide +kernel
theorem wk_skel {d a : Nat} (hd : d < 3) (ha : a < 3) {k : Nat} (hk : k ≤ 5) (hg : mt_gd a1) (H : ∀ x b1, mt_gd b1 → post x (lv, rc, cc, fc, b1, a2, a3, a4, a5, a6)) : wpX_skeleton post (lv, rc, cc, fc, a1, a2, a3, a4, a5, a6) (nI d) (nI a) (nI k) := by
  unfold wpX_skeleton
  dsimp only
  have ed : (nI d).toNatClampNeg = d := nI_clamp (by omega)
  have ea : (nI a).toNatClampNeg = a := nI_clamp (by omega)
  refine wk_reg _ (by omega) (wk_reg _ (by omega) (br_f (nI_pos (by omega)) (pk_le k 5 (fun _ => ?_) (fun z => absurd z (by omega)))))
  refine pk_loop (fun n i y => wX_skeleton_33 post (nI d) (nI a) (nI k) lv rc cc fc a1 a2 a3 a4 a5 a6 n y (nI i)) (fun i y => ∀ j, j < 64 → bs_t y j = (bs_t (a1 a) j && (decide (1 ≤ mn_pc j) && decide (mn_pc j ≤ i)))) (k + 1) 0 0 (by omega) (fun j hj => ?_) ?_ ?_
  · rw [bs_0]
    by_cases c : mn_pc j = 0
    · simp [c]
    · simp [c]
  · intro n y hy
    refine pk_lt k (k + 1) (fun _ => ⟨vp_in_nI (by omega) (by omega), ?_⟩) (fun z => absurd z (by omega))
    rw [ed]
    refine nm_e (H 1 _ (mt_upd hg (fun _ => mt_clc hy (fun u t hu hxu ht htu => ?_))))
    have l := mt_le htu
    simp only [Bool.and_eq_true, decide_eq_true_eq] at hxu ⊢
    have m1 := mt_k4 u hu t (by omega) htu
    exact ⟨hg a ha u t hu hxu.1 ht htu, bs_pc1 t (by omega) ht, by omega⟩
  · intro n i y hi hy hw
    refine pk_lt k i (fun z => absurd z (by omega)) (fun _ => ⟨vp_in_nI (by omega) (by omega), ?_⟩)
    rw [ea]
    refine wk_ofDeg _ _ (by omega) (fun z hz => nm_e (nm_r (nI_1 i) (hw _ (fun j hj => ?_))))
    rw [bs_or, hy j hj, hz j hj]
    unfold bs_dg
    by_cases c : mn_pc j = i + 1
    · simp [c]
      omega
    · have e : (mn_pc j ≤ i + 1) = (mn_pc j ≤ i) := propext ⟨fun z => by omega, fun z => by omega⟩
      simp [c, e]
theorem wk_level {k : Nat} (hk : k ≤ 1) (H : ∀ lv', post 1 (lv', rc, cc, fc, a1, a2, a3, a4, a5, a6)) : wpX_level post (lv, rc, cc, fc, a1, a2, a3, a4, a5, a6) (nI k) :=
  br_f (nI_pos (by omega)) (pk_le k 1 (fun _ => H _) (fun z => absurd z (by omega)))
end
end
section
/-! what the law checks of one register -/
theorem hd_le {p : Int} {m n r : Nat} {M : Nat → Nat → Int} (h : la_rk p m n M r) : r ≤ n := by
  refine h.2 n ⟨M, fun q j => if q = j then 1 else 0, fun i _ j hj => ⟨0, ?_⟩⟩
  have key : ∀ k, la_sm k (fun q => M i q * (if q = j then 1 else 0)) = if j < k then M i j else 0 := by
    intro k
    induction k with
    | zero => rw [if_neg (by omega)]; rfl
    | succ k ih =>
      show la_sm k (fun q => M i q * (if q = j then 1 else 0)) + M i k * (if k = j then 1 else 0) = _
      rw [ih]
      by_cases e : k = j
      · subst e
        rw [if_neg (by omega), if_pos rfl, if_pos (by omega)]
        simp
      · rw [if_neg e]
        by_cases c : j < k
        · rw [if_pos c, if_pos (by omega)]; simp
        · rw [if_neg c, if_neg (by omega)]; simp
  rw [key, if_pos hj]
  simp
theorem hd_rv64 {X : Nat → Bool} (hX : el_cl X) {k p : Nat} (h6 : k ≤ 6) : hm_rv X k p ≤ 65 := by
  by_cases e : k = 0
  · subst e
    rw [hm_rv0]
    omega
  · have s := hm_teS hX (by omega : 1 ≤ k) h6
    have a := hd_le s.2.2
    have b := s.1
    unfold hm_rv
    split <;> omega
theorem hd_rv6 {X : Nat → Bool} (hX : el_cl X) (p : Nat) : hm_rv X 6 p = 0 := by
  have s := hm_teS hX (by omega : 1 ≤ 6) (by omega)
  have z : ∀ q : Int, la_rk q 64 64 (el_S X 6) 0 := fun q => la_rk_0 (fun i _ j hj => by
    unfold el_S
    rw [if_neg (fun c => by have := bs_pc6 j hj; omega)]
    exact Int.dvd_zero q)
  have a := la_rk_u s.2.2 (z 2)
  have b := la_rk_u (s.2.1 3 (by omega) el_pr3) (z 3)
  unfold hm_rv
  split <;> omega
theorem hd_cn (n : Nat) (f : Nat → Bool) : bs_cn n f ≤ n := by
  induction n with
  | zero => exact Nat.le_refl _
  | succ n ih =>
    show bs_cn n f + (if f n then 1 else 0) ≤ n + 1
    split <;> omega
theorem hd_b {X : Nat → Bool} (hX : el_cl X) {k p : Nat} (hk : k ≤ 5) : -200 ≤ hm_h X k p ∧ hm_h X k p ≤ 200 := by
  have a := hd_rv64 hX (k := k) (p := p) (by omega)
  have b := hd_rv64 hX (k := k + 1) (p := p) (by omega)
  have c : pp_ck X k ≤ 64 := hd_cn 64 _
  unfold hm_h
  omega
theorem hd_T {z : Int} (h : -100000 ≤ z ∧ z ≤ 100000) : (pp_I z).toInt = z := Int32.toInt_ofInt_of_le (by omega) (by omega)
theorem hd_eq {a b : Int} (ha : -100000 ≤ a ∧ a ≤ 100000) (hb : -100000 ≤ b ∧ b ≤ 100000) (h : pp_I a = pp_I b) : a = b := by
  rw [← hd_T ha, ← hd_T hb, h]
theorem hd_mono {X : Nat → Bool} {k p : Nat} : hm_h X k 1000003 ≤ hm_h X k p := by
  have a : ∀ k, hm_rv X k p ≤ hm_rv X k 1000003 := by
    intro k
    unfold hm_rv
    rw [if_neg (show ¬ 1000003 = 2 by omega)]
    split <;> omega
  have b := a k
  have c := a (k + 1)
  unfold hm_h
  omega
theorem hd_e0 {X : Nat → Bool} {k : Nat} (h : hm_h X k 1000003 = hm_h X k 2) : (hm_te X (k + 1)).2 = 0 := by
  unfold hm_h hm_rv at h
  rw [if_neg (show ¬ 1000003 = 2 by omega), if_pos rfl, if_neg (show ¬ 1000003 = 2 by omega), if_pos rfl] at h
  omega
theorem hd_tel (r : Nat → Int) : ∀ n, la_sm n (fun k => pp_ps k * (r k + r (k + 1))) = r 0 - pp_ps n * r n := by
  intro n
  induction n with
  | zero => show (0 : Int) = r 0 - 1 * r 0; omega
  | succ n ih =>
    show la_sm n (fun k => pp_ps k * (r k + r (k + 1))) + pp_ps n * (r n + r (n + 1)) = _
    rw [ih]
    have e : pp_ps (n + 1) = - pp_ps n := by
      unfold pp_ps
      by_cases c : n % 2 = 0
      · rw [if_pos c, if_neg (by omega)]
      · rw [if_neg c, if_pos (by omega)]; rfl
    rw [e]
    grind
theorem hd_sum {X : Nat → Bool} (hX : el_cl X) (p : Nat) : la_sm 6 (fun k => pp_ps k * hm_h X k p) = pp_ec X := by
  have t := hd_tel (fun k => (hm_rv X k p : Int)) 6
  have e : la_sm 6 (fun k => pp_ps k * hm_h X k p) = la_sm 6 (fun k => pp_ps k * (pp_ck X k : Int)) + (-1) * la_sm 6 (fun k => pp_ps k * ((hm_rv X k p : Int) + (hm_rv X (k + 1) p : Int))) := by
    rw [← la_sm_mul, ← la_sm_add]
    refine la_sm_c (fun k _ => ?_)
    unfold hm_h
    grind
  rw [e, pp_bal, t, hd_rv6 hX, hm_rv0]
  simp
theorem hd_par {k : Nat} (hk : k < 100) : (nI k - nI k / 2 * 2 = 0) ↔ k % 2 = 0 := by
  have e : nI k - nI k / 2 * 2 = nI (k % 2) := pk_rem (d := 2) (by omega) (by omega) (by omega)
  rw [e]
  exact nI_eq (a := k % 2) (b := 0) (by omega) (by omega)
section
variable {lv fc : Int32} {a1 : Nat → Int64} {a5 a6 : Nat → Int32} {post : Int32 → St1 → Prop} {r : Nat} {P : Int64}
theorem hd_242 {rc cc : Int32} {a2 a3 : Nat → Int32} {a4 : Nat → Int64} {J : Int32 → Int32 → Int32 → Int32 → Int32 → (Nat → Int64) → (Nat → Int32) → (Nat → Int32) → (Nat → Int64) → (Nat → Int32) → (Nat → Int32) → Prop} {k : Nat} {x4 x5 z0 : Int32} (hr : r < 4) (hk : k ≤ 4) (hP : hm_prep lv (a1 r) P) (hx : x4 = 0 ∨ (hm_te (bs_t P) (k + 1)).2 = 0)
    (hJ : ∀ rc cc b2 b3 b4, J (nI (k + 1)) lv rc cc fc a1 b2 b3 b4 a5 a6) : wL_holds_242 post J (nI r) (nI k) x4 x5 z0 lv rc cc fc a1 a2 a3 a4 a5 a6 := by
  refine ⟨fun _ => nm_r (nI_1 k) (hJ _ _ _ _ _), fun n4 => ⟨fun _ => nm_r (nI_1 k) (hJ _ _ _ _ _), fun _ => ⟨fun _ => nm_r (nI_1 k) (hJ _ _ _ _ _), fun _ => ?_⟩⟩⟩
  refine wk_tors hr (by omega) hP (fun rc cc b2 b3 b4 => ?_)
  rcases hx with e | e
  · exact absurd e n4
  · rw [e]
    exact br_t rfl (nm_r (nI_1 k) (hJ _ _ _ _ _))
theorem hd_197 {rc cc : Int32} {a2 a3 : Nat → Int32} {a4 : Nat → Int64} {J : Int32 → Int32 → Int32 → Int32 → Int32 → (Nat → Int64) → (Nat → Int32) → (Nat → Int32) → (Nat → Int64) → (Nat → Int32) → (Nat → Int32) → Prop} {k : Nat} {x4 z0 : Int32} (hr : r < 4) (hk : k ≤ 4) (hP : hm_prep lv (a1 r) P) (hx : x4 = 0 ∨ (hm_te (bs_t P) (k + 1)).2 = 0)
    (hJ : ∀ rc cc b2 b3 b4, J (nI (k + 1)) lv rc cc fc a1 b2 b3 b4 a5 a6) : wL_holds_197 post J (nI r) (nI k) x4 z0 lv rc cc fc a1 a2 a3 a4 a5 a6 := by
  unfold wL_holds_197
  rw [nI_1 k]
  refine wk_holes (q := 0) hr (by omega) (Or.inl rfl) hP (fun _ _ _ _ _ => wk_holes (q := 5) hr (by omega) (Or.inr (Or.inr (Or.inr rfl))) hP (fun _ _ _ _ _ => ⟨fun _ => ?_, fun _ => ?_⟩))
  · refine wk_holes (q := 0) (k := k + 1) hr (by omega) (Or.inl rfl) hP (fun _ _ _ _ _ => wk_holes (q := 5) (k := k + 1) hr (by omega) (Or.inr (Or.inr (Or.inr rfl))) hP (fun _ _ _ _ _ => ⟨fun _ => hd_242 hr hk hP hx hJ, fun _ => ?_⟩))
    unfold wL_holds_241
    exact hd_242 hr hk hP hx hJ
  · unfold wL_holds_241
    exact hd_242 hr hk hP hx hJ
theorem hd_152 {rc cc : Int32} {a2 a3 : Nat → Int32} {a4 : Nat → Int64} {J : Int32 → Int32 → Int32 → Int32 → Int32 → (Nat → Int64) → (Nat → Int32) → (Nat → Int32) → (Nat → Int64) → (Nat → Int32) → (Nat → Int32) → Prop} {k : Nat} {z0 : Int32} (hr : r < 4) (hk : k ≤ 4) (hP : hm_prep lv (a1 r) P) (hx : z0 = 0 ∨ (hm_te (bs_t P) (k + 1)).2 = 0)
    (hJ : ∀ rc cc b2 b3 b4, J (nI (k + 1)) lv rc cc fc a1 b2 b3 b4 a5 a6) : wL_holds_152 post J (nI r) (nI k) z0 lv rc cc fc a1 a2 a3 a4 a5 a6 := by
  unfold wL_holds_152
  rw [nI_1 k]
  refine wk_holes (q := 0) hr (by omega) (Or.inl rfl) hP (fun _ _ _ _ _ => wk_holes (q := 3) hr (by omega) (Or.inr (Or.inr (Or.inl rfl))) hP (fun _ _ _ _ _ => ⟨fun _ => ?_, fun _ => ?_⟩))
  · refine wk_holes (q := 0) (k := k + 1) hr (by omega) (Or.inl rfl) hP (fun _ _ _ _ _ => wk_holes (q := 3) (k := k + 1) hr (by omega) (Or.inr (Or.inr (Or.inl rfl))) hP (fun _ _ _ _ _ => ⟨fun _ => hd_197 hr hk hP hx hJ, fun _ => ?_⟩))
    unfold wL_holds_196
    exact hd_197 hr hk hP hx hJ
  · unfold wL_holds_196
    exact hd_197 hr hk hP hx hJ
theorem hd_k1 : ∀ s, s < 63 → 1 ≤ s → 1 ≤ 63 ^^^ s ∧ 63 ^^^ s < 63 ∧ 63 ^^^ (63 ^^^ s) = s := by decide +kernel
theorem hd_dd {X Y Z : Nat → Bool} (hY : ∀ j, j < 64 → Y j = mt_du X j) (hZ : ∀ j, j < 64 → Z j = mt_du Y j) (h63 : X 63 = false) {s : Nat} (h1 : 1 ≤ s) (hs : s < 64) : Z s = X s := by
  rw [hZ s hs]
  unfold mt_du
  by_cases e : s < 63
  · obtain ⟨a, b, c⟩ := hd_k1 s e h1
    rw [hY _ (by omega)]
    unfold mt_du
    rw [c]
    simp [h1, e, a, b]
  · have e2 : s = 63 := by omega
    subst e2
    rw [h63]
    simp
theorem hd_104 {rc cc : Int32} {a2 a3 : Nat → Int32} {a4 : Nat → Int64} (hr : r < 3) (hg : mt_gd a1) (hP : hm_prep lv (a1 r) P) (H : ∀ rc cc b1 b2 b3 b4, mt_gd b1 → post 1 (lv, rc, cc, fc, b1, b2, b3, b4, a5, a6)) :
    ∃ fu, wL_holds_104 post (nI r) fu 0 lv rc cc fc a1 a2 a3 a4 a5 a6 := by
  refine pk_loop (σ := Int32 × Int32 × (Nat → Int32) × (Nat → Int32) × (Nat → Int64)) (fun n k s => wL_holds_104 post (nI r) n (nI k) lv s.1 s.2.1 fc a1 s.2.2.1 s.2.2.2.1 s.2.2.2.2 a5 a6) (fun _ _ => True) 5 0 (rc, cc, a2, a3, a4) (by omega) trivial ?_ ?_
  · intro n s _
    obtain ⟨rc', cc', b2, b3, b4⟩ := s
    refine pk_le 5 5 (fun _ => ?_) (fun z => absurd z (by omega))
    refine wk_apply (o := 2) (d := 3) (a := r) (b := 0) (by omega) (by omega) (by omega) (by omega) (fun y1 d1 _ _ => br_f (by decide) ?_)
    refine wk_apply (o := 2) (d := 3) (a := 3) (b := 0) (by omega) (by omega) (by omega) (by omega) (fun y2 d2 _ _ => br_f (by decide) ?_)
    have hg2 : mt_gd (vp_updL (vp_updL a1 3 y1) 3 y2) := mt_upd (mt_upd hg (fun z => by omega)) (fun z => by omega)
    have er : vp_updL (vp_updL a1 3 y1) 3 y2 r = a1 r := by rw [pk_uLn (by omega), pk_uLn (by omega)]
    have e3 : vp_updL (vp_updL a1 3 y1) 3 y2 3 = y2 := pk_uLs
    have d2' := d2 rfl
    rw [pk_uLs] at d2'
    refine wk_has (s := 63) (by omega) (by omega) (by omega) ?_
    cases h63 : bs_t (vp_updL (vp_updL a1 3 y1) 3 y2 r) 63 with
    | true => exact br_f (by decide) (H _ _ _ _ _ _ hg2)
    | false =>
      rw [er] at h63
      refine br_t rfl ?_
      unfold wpL_same
      dsimp only
      refine pk_loop (σ := Unit) (fun n i _ => wL_same_2 _ 3 (nI r) lv rc' cc' fc (vp_updL (vp_updL a1 3 y1) 3 y2) b2 b3 b4 a5 a6 n (nI i)) (fun i _ => 1 ≤ i) 64 1 () (by omega) (by omega) ?_ ?_
      · intro n _ _
        exact pk_le 64 64 (fun _ => br_f (by decide) (H _ _ _ _ _ _ hg2)) (fun z => absurd z (by omega))
      · intro n i _ hi hi1 hw
        refine pk_le 64 i (fun z => absurd z (by omega)) (fun _ => wk_has (r := 3) (by omega) hi1 hi (wk_has (by omega) hi1 hi ?_))
        rw [er, e3, hd_dd (d1 rfl) d2' h63 hi1 hi]
        exact br_t rfl (nm_r (nI_1 i) (hw () (by omega)))
  · intro n k s hk _ hw
    obtain ⟨rc', cc', b2, b3, b4⟩ := s
    have hJ : ∀ rc cc b2 b3 b4, wL_holds_104 post (nI r) n (nI (k + 1)) lv rc cc fc a1 b2 b3 b4 a5 a6 := fun rc cc b2 b3 b4 => hw (rc, cc, b2, b3, b4) trivial
    refine pk_le 5 k (fun z => absurd z (by omega)) (fun _ => ?_)
    rw [nI_1 k]
    have h151 : ∀ rc cc b2 b3 b4, wL_holds_151 post (wL_holds_104 post (nI r) n) (nI r) (nI k) lv rc cc fc a1 b2 b3 b4 a5 a6 := by
      intro rc cc b2 b3 b4
      unfold wL_holds_151
      exact hd_152 (by omega) (by omega) hP (Or.inl rfl) hJ
    refine wk_holes (q := 0) (by omega) (by omega) (Or.inl rfl) hP (fun _ _ _ _ _ => wk_holes (q := 2) (by omega) (by omega) (Or.inr (Or.inl rfl)) hP (fun _ _ _ _ _ => ⟨fun e => ?_, fun _ => h151 _ _ _ _ _⟩))
    have e0 : (hm_te (bs_t P) (k + 1)).2 = 0 := by
      have b1 := hd_b hP.1 (k := k) (p := 1000003) (by omega)
      have b2 := hd_b hP.1 (k := k) (p := 2) (by omega)
      exact hd_e0 (hd_eq (by omega) (by omega) e)
    exact wk_holes (q := 0) (k := k + 1) (by omega) (by omega) (Or.inl rfl) hP (fun _ _ _ _ _ => wk_holes (q := 2) (k := k + 1) (by omega) (by omega) (Or.inr (Or.inl rfl)) hP (fun _ _ _ _ _ => ⟨fun _ => hd_152 (by omega) (by omega) hP (Or.inr e0) hJ, fun _ => h151 _ _ _ _ _⟩))
theorem hd_30 {rc cc : Int32} {a2 a3 : Nat → Int32} {a4 : Nat → Int64} {J : Int32 → Int32 → Int32 → Int32 → Int32 → (Nat → Int64) → (Nat → Int32) → (Nat → Int32) → (Nat → Int64) → (Nat → Int32) → (Nat → Int32) → Prop} {q : Nat} (hr : r < 3) (hq : q = 0 ∨ q = 2 ∨ q = 3 ∨ q = 5) (hP : hm_prep lv (a1 r) P)
    (hJ : ∀ rc cc b2 b3 b4, J (nI (q + 1)) lv rc cc fc a1 b2 b3 b4 a5 a6) : ∃ fu, wL_holds_30 post J (nI r) (pp_I (pp_ec (bs_t (a1 r)))) (nI q) fu 0 0 lv rc cc fc a1 a2 a3 a4 a5 a6 := by
  refine pk_loop (σ := Int32 × Int32 × Int32 × (Nat → Int32) × (Nat → Int32) × (Nat → Int64)) (fun n k s => wL_holds_30 post J (nI r) (pp_I (pp_ec (bs_t (a1 r)))) (nI q) n s.1 (nI k) lv s.2.1 s.2.2.1 fc a1 s.2.2.2.1 s.2.2.2.2.1 s.2.2.2.2.2 a5 a6)
    (fun k s => s.1 = pp_I (la_sm k (fun k => pp_ps k * hm_h (bs_t P) k (hm_q q)))) 6 0 (0, rc, cc, a2, a3, a4) (by omega) rfl ?_ ?_
  · intro n s hs
    obtain ⟨x, rc', cc', b2, b3, b4⟩ := s
    dsimp only at hs
    refine pk_le 6 6 (fun _ => br_t ?_ (nm_r (nI_1 q) (hJ _ _ _ _ _))) (fun z => absurd z (by omega))
    show x = _
    rw [hs, hd_sum hP.1, hP.2.1]
  · intro n k s hk hs hw
    obtain ⟨x, rc', cc', b2, b3, b4⟩ := s
    dsimp only at hs
    subst hs
    refine pk_le 6 k (fun z => absurd z (by omega)) (fun _ => wk_holes (q := q) (by omega) (by omega) hq hP (fun _ _ _ _ _ => wk_holes (q := 0) (by omega) (by omega) (Or.inl rfl) hP (fun rc2 cc2 c2 c3 c4 => ?_)))
    have b1 := hd_b hP.1 (k := k) (p := hm_q q) (by omega)
    have b2 := hd_b hP.1 (k := k) (p := 1000003) (by omega)
    refine br_t ?_ ⟨by decide, ⟨fun z => nm_r (e' := pp_I (la_sm (k + 1) (fun k => pp_ps k * hm_h (bs_t P) k (hm_q q)))) ?_ (nm_r (nI_1 k) (hw (_, rc2, cc2, c2, c3, c4) rfl)), fun z => nm_r (e' := pp_I (la_sm (k + 1) (fun k => pp_ps k * hm_h (bs_t P) k (hm_q q)))) ?_ (nm_r (nI_1 k) (hw (_, rc2, cc2, c2, c3, c4) rfl))⟩⟩
    · rw [show hm_q 0 = 1000003 from rfl, Int32.le_iff_toInt_le, hd_T (z := hm_h (bs_t P) k 1000003) (by omega), hd_T (z := hm_h (bs_t P) k (hm_q q)) (by omega)]
      exact hd_mono
    · have p : pp_ps k = 1 := if_pos ((hd_par (by omega)).mp z)
      show pp_I _ + pp_I _ = pp_I (la_sm k (fun k => pp_ps k * hm_h (bs_t P) k (hm_q q)) + pp_ps k * hm_h (bs_t P) k (hm_q q))
      rw [p, Int.one_mul]
      exact (Int32.ofInt_add _ _).symm
    · have p : pp_ps k = -1 := if_neg (fun e => z ((hd_par (by omega)).mpr e))
      show pp_I _ + (-pp_I _) = pp_I (la_sm k (fun k => pp_ps k * hm_h (bs_t P) k (hm_q q)) + pp_ps k * hm_h (bs_t P) k (hm_q q))
      rw [p, Int.neg_mul, Int.one_mul]
      unfold pp_I
      rw [Int32.ofInt_add, Int32.ofInt_neg]
theorem wk_holds {rc cc : Int32} {a2 a3 : Nat → Int32} {a4 : Nat → Int64} (hr : r < 3) (hg : mt_gd a1) (H : ∀ rc cc b1 b2 b3 b4, mt_gd b1 → post 1 (lv, rc, cc, fc, b1, b2, b3, b4, a5, a6)) :
    wpL_holds post (lv, rc, cc, fc, a1, a2, a3, a4, a5, a6) (nI r) := by
  obtain ⟨P, p1, p2, p3⟩ := wk_prep lv (a1 r) (hg r hr)
  have hP : hm_prep lv (a1 r) P := ⟨p1, p2, p3⟩
  unfold wpL_holds
  dsimp only
  refine wk_bal (by omega) ?_
  refine pk_loop (σ := Int32 × Int32 × (Nat → Int32) × (Nat → Int32) × (Nat → Int64)) (fun n q s => wL_holds_8 post (nI r) (pp_I (pp_ec (bs_t (a1 r)))) n (nI q) lv s.1 s.2.1 fc a1 s.2.2.1 s.2.2.2.1 s.2.2.2.2 a5 a6) (fun _ _ => True) 6 0 (rc, cc, a2, a3, a4) (by omega) trivial ?_ ?_
  · intro n s _
    obtain ⟨rc', cc', b2, b3, b4⟩ := s
    exact pk_le 6 6 (fun _ => hd_104 hr hg hP H) (fun z => absurd z (by omega))
  · intro n q s hq _ hw
    obtain ⟨rc', cc', b2, b3, b4⟩ := s
    refine pk_le 6 q (fun z => absurd z (by omega)) (fun _ => pk_eq q 1 (fun e => nm_r (nI_1 q) (hw (rc', cc', b2, b3, b4) trivial)) (fun e1 => pk_eq q 4 (fun e => nm_r (nI_1 q) (hw (rc', cc', b2, b3, b4) trivial)) (fun e4 => ?_)))
    exact hd_30 hr (by omega) hP (fun rc cc b2 b3 b4 => hw (rc, cc, b2, b3, b4) trivial)
end
end
section
/-! the law -/
theorem lx_rem (x : Int32) (c : Nat) (hc : 0 < c) (hc2 : c < 1000) : ∃ d, d < c ∧ (x &&& 255) - (x &&& 255) / nI c * nI c = nI d := by
  obtain ⟨j, hj, e⟩ := pk_andE x (m := 255) 8 (by decide)
  rw [e, pk_rem (by omega) hc (by omega)]
  exact ⟨j % c, Nat.mod_lt _ hc, rfl⟩
section
variable {lv rc cc fc : Int32} {a1 : Nat → Int64} {a2 a3 : Nat → Int32} {a4 : Nat → Int64} {a5 a6 : Nat → Int32} {L : Nat} {xs : Nat → Int32} {kc ks i d : Nat}
  {J : Int32 → Int32 → Int32 → Int32 → Int32 → (Nat → Int64) → (Nat → Int32) → (Nat → Int32) → (Nat → Int64) → (Nat → Int32) → (Nat → Int32) → Prop}
theorem lx_265 (hL : L ≤ 260) (hi : i < L) (hd : d < 3) (hg : mt_gd a1) (hJ : ∀ lv rc cc fc a1 a2 a3 a4 a5 a6, mt_gd a1 → J (nI (i + 3)) lv rc cc fc a1 a2 a3 a4 a5 a6) : wL_law_265 (fun r => r = 1) L xs J (nI i) (nI d) kc ks lv rc cc fc a1 a2 a3 a4 a5 a6 := by
  refine ⟨vp_in_nI hi (by omega), ?_⟩
  obtain ⟨j, hj, e⟩ := pk_andE ((xs (nI i).toNatClampNeg) >>> ((5 : Int32) &&& 31)) (m := 1) 1 (by decide)
  rw [e]
  refine wk_level (by omega) (fun lv' => br_f (by decide) (wk_holds hd hg (fun rc cc b1 b2 b3 b4 hg' => br_f (by decide) (nm_r (nI_add i 3) (hJ _ _ _ _ _ _ _ _ _ _ hg')))))
theorem lx_169 (hL : L ≤ 260) (hi : i < L) (hd : d < 3) (hg : mt_gd a1) (x4 : Int32) (hJ : ∀ lv rc cc fc a1 a2 a3 a4 a5 a6, mt_gd a1 → J (nI (i + 3)) lv rc cc fc a1 a2 a3 a4 a5 a6) : wL_law_169 (fun r => r = 1) L xs J (nI i) x4 (nI d) kc ks lv rc cc fc a1 a2 a3 a4 a5 a6 :=
  ⟨by decide, wk_take hd _ hg (fun _ _ hg' => lx_265 hL hi hd hg' hJ)⟩
theorem lx_261 (hL : L ≤ 260) (hi : i < L) (hd : d < 3) (hg : mt_gd a1) (z : Int32) (hJ : ∀ lv rc cc fc a1 a2 a3 a4 a5 a6, mt_gd a1 → J (nI (i + 3)) lv rc cc fc a1 a2 a3 a4 a5 a6) : wL_law_261 (fun r => r = 1) L xs J (nI i) (nI d) z (nI d) kc ks lv rc cc fc a1 a2 a3 a4 a5 a6 := by
  unfold wL_law_261
  exact wk_add hd z hg (fun _ _ hg' => lx_265 hL hi hd hg' hJ)
end
theorem lx_loop (xs : Nat → Int32) (L kc ks : Nat) (hL : L ≤ 260) (lv rc cc fc : Int32) (a1 : Nat → Int64) (a2 a3 : Nat → Int32) (a4 : Nat → Int64) (a5 a6 : Nat → Int32) (hg : mt_gd a1) :
    ∃ fu, wL_law_10 (fun r => r = 1) L xs kc ks fu 0 lv rc cc fc a1 a2 a3 a4 a5 a6 := by
  refine loop_m (σ := Nat × St1) (fun n s => wL_law_10 (fun r => r = 1) L xs kc ks n (nI s.1) s.2.1 s.2.2.1 s.2.2.2.1 s.2.2.2.2.1 s.2.2.2.2.2.1 s.2.2.2.2.2.2.1 s.2.2.2.2.2.2.2.1 s.2.2.2.2.2.2.2.2.1 s.2.2.2.2.2.2.2.2.2.1 s.2.2.2.2.2.2.2.2.2.2) (fun s => s.1 ≤ 300 ∧ mt_gd s.2.2.2.2.2.1) (fun s => L - s.1) ?_ (0, lv, rc, cc, fc, a1, a2, a3, a4, a5, a6) ⟨by show 0 ≤ 300; omega, hg⟩
  intro n s hs hw
  obtain ⟨i, lv, rc, cc, fc, a1, a2, a3, a4, a5, a6⟩ := s
  obtain ⟨hi3, hg⟩ := hs
  dsimp only at hi3 hg
  have cnd : (Int32.ofNat L - 3 < nI i) ↔ L < i + 3 := by
    have e : (Int32.ofNat L - 3).toInt = (L : Int) - (3 : Nat) := pk_sub_toInt (a := L) (b := 3) (by omega) (by omega)
    rw [Int32.lt_iff_toInt_lt, e, nI_toInt (by omega)]
    omega
  refine ⟨fun _ => ?_, fun z => ?_⟩
  · exact wk_holds (r := 0) (by omega) hg (fun _ _ _ _ _ _ hg1 => br_f (by decide) (wk_holds (r := 1) (by omega) hg1 (fun _ _ _ _ _ _ hg2 => br_f (by decide) (wk_holds (r := 2) (by omega) hg2 (fun _ _ _ _ _ _ _ => br_f (by decide) rfl)))))
  · have hi : i + 3 ≤ L := by
      rcases Nat.lt_or_ge L (i + 3) with c | c
      · exact absurd (cnd.mpr c) z
      · exact c
    have hJ : ∀ lv rc cc fc a1 a2 a3 a4 a5 a6, mt_gd a1 → wL_law_10 (fun r => r = 1) L xs kc ks n (nI (i + 3)) lv rc cc fc a1 a2 a3 a4 a5 a6 := fun lv rc cc fc a1 a2 a3 a4 a5 a6 h => hw (i + 3, lv, rc, cc, fc, a1, a2, a3, a4, a5, a6) ⟨by show i + 3 ≤ 300; omega, h⟩ (by show L - (i + 3) < L - i; omega)
    refine ⟨pk_in (i + 1) L (by omega) (nI_1 i), fun x3 _ => ⟨pk_in (i + 2) L (by omega) (nI_add i 2), fun x4 _ => ⟨by decide, fun x5 e5 => ⟨by decide, fun x6 e6 => ⟨by decide, fun x7 e7 => ⟨vp_in_nI (by omega) (by omega), fun kk ek => ?_⟩⟩⟩⟩⟩⟩
    obtain ⟨d, hd, ed⟩ := lx_rem x3 3 (by omega) (by omega)
    obtain ⟨u, hu, eu⟩ := lx_rem (x3 >>> ((8 : Int32) &&& 31)) 3 (by omega) (by omega)
    obtain ⟨v, hv, ev⟩ := lx_rem (x3 >>> ((16 : Int32) &&& 31)) 3 (by omega) (by omega)
    have e5' : x5 = nI d := e5.trans ed
    have e6' : x6 = nI u := e6.trans eu
    have e7' : x7 = nI v := e7.trans ev
    obtain ⟨q, hq, eq⟩ := pk_andE (xs (nI i).toNatClampNeg) (m := 15) 4 (by decide)
    have ek' : kk = nI q := ek.trans eq
    subst e5' e6' e7' ek'
    have hil : i < L := by omega
    refine br_f (nI_pos (by omega)) (pk_lt 4 q (fun _ => ⟨by decide, by decide, by decide, fun x8 _ => ⟨vp_in_nI hil (by omega), ⟨fun _ => lx_261 hL hil hd hg x8 hJ, fun _ => ⟨by decide, lx_261 hL hil hd hg _ hJ⟩⟩⟩⟩) (fun _ => ?_) rfl rfl (by omega) (by omega))
    refine pk_eq q 0 (fun _ => ⟨by decide, ?_⟩) (fun _ => pk_eq q 1 (fun _ => ⟨by decide, wk_link hd hu _ hg (fun _ _ hg' => lx_265 hL hil hd hg' hJ)⟩) (fun _ => pk_eq q 2 (fun _ => ⟨by decide, ?_⟩) (fun _ => pk_eq q 3 (fun _ => lx_169 hL hil hd hg x4 hJ) (fun _ => pk_eq q 4 (fun _ => lx_169 hL hil hd hg x4 hJ) (fun _ => trivial) rfl rfl (by omega) (by omega)) rfl rfl (by omega) (by omega)) rfl rfl (by omega) (by omega)) rfl rfl (by omega) (by omega)) rfl rfl (by omega) (by omega)
    · obtain ⟨o, ho, eo⟩ := lx_rem x4 3 (by omega) (by omega)
      have eo' : (x4 &&& 255) - (x4 &&& 255) / 3 * 3 = nI o := eo
      rw [eo']
      exact wk_applyG (by omega) (by omega) hu hv hg (fun _ _ hg' => lx_265 hL hil hd hg' hJ)
    · obtain ⟨o, ho, eo⟩ := lx_rem x4 4 (by omega) (by omega)
      have eo' : (x4 &&& 255) - (x4 &&& 255) / 4 * 4 = nI o := eo
      rw [eo']
      exact wk_skel hd hu (by omega) hg (fun _ _ hg' => lx_265 hL hil hd hg' hJ)
theorem lx_gd0 : mt_gd (fun _ => 0) := fun r _ s t _ hx _ _ => by
  rw [bs_0] at hx
  exact Bool.noConfusion hx
end
section
theorem i_vc (xs : Nat → Int32) (L : Nat) (hL : L ≤ 260) : wpL_law (fun r => r = 1) L xs :=
  ⟨6, 484, by omega, by omega, by omega, by omega, by omega, by omega, by omega, by omega, by omega, by omega, by omega, by omega, by omega, by omega, lx_loop xs L _ _ hL _ _ _ _ _ _ _ _ _ _ lx_gd0⟩
end
