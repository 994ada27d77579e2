section
/-- coefficients of a polynomial (or of a series) over the integers -/
abbrev po_P : Type := Nat → Int
def po_add (f g : po_P) : po_P := fun i => f i + g i
def po_neg (f : po_P) : po_P := fun i => - f i
def po_sub (f g : po_P) : po_P := fun i => f i - g i
def po_C (c : Int) : po_P := fun i => if i = 0 then c else 0
def po_sh (f : po_P) : po_P := fun i => f (i + 1)
def po_mulC : Nat → po_P → po_P → Int
  | 0, f, g => f 0 * g 0
  | n + 1, f, g => f 0 * g (n + 1) + po_mulC n (po_sh f) g
def po_mul (f g : po_P) : po_P := fun n => po_mulC n f g
def po_pow (f : po_P) : Nat → po_P
  | 0 => po_C 1
  | n + 1 => po_mul (po_pow f n) f
theorem po_mul_0 (f g : po_P) : po_mul f g 0 = f 0 * g 0 := rfl
theorem po_mul_s (f g : po_P) (n : Nat) : po_mul f g (n + 1) = f 0 * g (n + 1) + po_mul (po_sh f) g n := rfl
theorem po_mul_addR (f g h : po_P) (n : Nat) : po_mul f (po_add g h) n = po_mul f g n + po_mul f h n := by
  induction n generalizing f with
  | zero => simp only [po_mul_0, po_add]; grind
  | succ n ih => simp only [po_mul_s, ih]; simp only [po_add]; grind
theorem po_mul_addL (f g h : po_P) (n : Nat) : po_mul (po_add f g) h n = po_mul f h n + po_mul g h n := by
  induction n generalizing f g with
  | zero => simp only [po_mul_0, po_add]; grind
  | succ n ih =>
    have e : po_sh (po_add f g) = po_add (po_sh f) (po_sh g) := rfl
    simp only [po_mul_s, e, ih]
    simp only [po_add]; grind
theorem po_mul_scL (c : Int) (f g : po_P) (n : Nat) : po_mul (fun i => c * f i) g n = c * po_mul f g n := by
  induction n generalizing f with
  | zero => simp only [po_mul_0]; grind
  | succ n ih =>
    have e : po_sh (fun i => c * f i) = fun i => c * (po_sh f) i := rfl
    simp only [po_mul_s, e, ih]; grind
theorem po_mul_s' (f g : po_P) (n : Nat) : po_mul f g (n + 1) = po_mul f (po_sh g) n + f (n + 1) * g 0 := by
  induction n generalizing f with
  | zero => simp only [po_mul_s, po_mul_0, po_sh]
  | succ n ih =>
    rw [po_mul_s, ih, po_mul_s f (po_sh g)]
    simp only [po_sh]; grind
theorem po_mul_comm (f g : po_P) (n : Nat) : po_mul f g n = po_mul g f n := by
  induction n generalizing f with
  | zero => simp only [po_mul_0]; grind
  | succ n ih => rw [po_mul_s, po_mul_s', ih]; grind
theorem po_mul_assoc (f g h : po_P) (n : Nat) : po_mul (po_mul f g) h n = po_mul f (po_mul g h) n := by
  induction n generalizing f with
  | zero => simp only [po_mul_0]; grind
  | succ n ih =>
    have e : po_sh (po_mul f g) = po_add (fun i => f 0 * (po_sh g) i) (po_mul (po_sh f) g) := rfl
    rw [po_mul_s, e, po_mul_addL, po_mul_scL, ih, po_mul_s f, po_mul_s g, po_mul_0]; grind
theorem po_mul_zL (g : po_P) (n : Nat) : po_mul (fun _ => 0) g n = 0 := by
  induction n with
  | zero => simp only [po_mul_0]; grind
  | succ n ih =>
    have e : po_sh (fun _ => (0 : Int)) = fun _ => 0 := rfl
    rw [po_mul_s, e, ih]; grind
theorem po_mul_C (c : Int) (g : po_P) (n : Nat) : po_mul (po_C c) g n = c * g n := by
  cases n with
  | zero => simp [po_mul_0, po_C]
  | succ n =>
    have e : po_sh (po_C c) = fun _ => 0 := by funext i; simp [po_sh, po_C]
    rw [po_mul_s, e, po_mul_zL]; simp [po_C]
theorem po_C0 : po_C 0 = fun _ => 0 := by funext i; simp [po_C]
theorem po_C_add (a b : Int) : po_C (a + b) = po_add (po_C a) (po_C b) := by
  funext i; simp only [po_C, po_add]; split <;> simp
theorem po_C_neg (a : Int) : po_C (-a) = po_neg (po_C a) := by
  funext i; simp only [po_C, po_neg]; split <;> simp
theorem po_C_mul (a b : Int) : po_C (a * b) = po_mul (po_C a) (po_C b) := by
  funext i; rw [po_mul_C]; simp only [po_C]; split <;> simp
noncomputable def po_ring : Lean.Grind.CommRing po_P where
  add := po_add
  mul := po_mul
  neg := po_neg
  sub := po_sub
  natCast := ⟨fun n => po_C n⟩
  ofNat := fun n => ⟨po_C n⟩
  nsmul := ⟨fun n f => po_mul (po_C n) f⟩
  npow := ⟨po_pow⟩
  intCast := ⟨fun n => po_C n⟩
  zsmul := ⟨fun n f => po_mul (po_C n) f⟩
  add_zero := fun f => by funext i; show f i + po_C _ i = f i; simp [po_C]
  add_comm := fun f g => by funext i; show f i + g i = g i + f i; omega
  add_assoc := fun f g h => by funext i; show f i + g i + h i = f i + (g i + h i); omega
  mul_assoc := fun f g h => by funext n; exact po_mul_assoc f g h n
  mul_one := fun f => by funext n; show po_mul f (po_C _) n = f n; rw [po_mul_comm, po_mul_C]; simp
  one_mul := fun f => by funext n; show po_mul (po_C _) f n = f n; rw [po_mul_C]; simp
  left_distrib := fun f g h => by funext n; exact po_mul_addR f g h n
  right_distrib := fun f g h => by funext n; exact po_mul_addL f g h n
  zero_mul := fun f => by funext n; show po_mul (po_C _) f n = po_C _ n; rw [po_mul_C]; simp [po_C]
  mul_zero := fun f => by funext n; show po_mul f (po_C _) n = po_C _ n; rw [po_mul_comm, po_mul_C]; simp [po_C]
  mul_comm := fun f g => by funext n; exact po_mul_comm f g n
  pow_zero := fun _ => rfl
  pow_succ := fun _ _ => rfl
  ofNat_succ := fun n => by show po_C ((n + 1 : Nat) : Int) = po_add (po_C n) (po_C 1); rw [← po_C_add]; rfl
  ofNat_eq_natCast := fun _ => rfl
  nsmul_eq_natCast_mul := fun _ _ => rfl
  neg_add_cancel := fun f => by funext i; show - f i + f i = po_C _ i; simp [po_C]; omega
  sub_eq_add_neg := fun f g => by funext i; show f i - g i = f i + - g i; omega
  neg_zsmul := fun k f => by funext n; show po_mul (po_C (-k)) f n = - po_mul (po_C k) f n; rw [po_mul_C, po_mul_C]; grind
  zsmul_natCast_eq_nsmul := fun _ _ => rfl
  intCast_ofNat := fun _ => rfl
  intCast_neg := fun k => po_C_neg k
end
section
/-! congruence, degree, division of polynomials modulo m (m = 0: over the integers) -/
def po_eq (m : Int) (f g : po_P) : Prop := ∀ i, m ∣ f i - g i
def po_dl (m : Int) (d : Nat) (f : po_P) : Prop := ∀ i, d ≤ i → m ∣ f i
def po_fin (m : Int) (f : po_P) : Prop := ∃ d, po_dl m d f
def po_X (k : Nat) (c : Int) : po_P := fun i => if i = k then c else 0
def po_dv (m : Int) (T f : po_P) : Prop := ∃ q, po_fin m q ∧ po_eq m f (po_mul T q)
/-- g is a combination of A and B -/
def po_cb (m : Int) (A B g : po_P) : Prop := ∃ U V, po_fin m U ∧ po_fin m V ∧ po_eq m g (po_add (po_mul U A) (po_mul V B))
def po_dom (m : Int) : Prop := (¬ m ∣ 1) ∧ ∀ a b, m ∣ a * b → m ∣ a ∨ m ∣ b
theorem po_eq_r (m : Int) (f : po_P) : po_eq m f f := fun i => by rw [Int.sub_self]; exact Int.dvd_zero m
theorem po_eq_e {m : Int} {f g : po_P} (h : f = g) : po_eq m f g := h ▸ po_eq_r m f
theorem po_eq_ex {m : Int} {f g : po_P} (h : po_eq m f g) : ∃ c : po_P, f = po_add g (po_mul (po_C m) c) := by
  refine ⟨fun i => (f i - g i) / m, ?_⟩
  funext i
  have e : m * ((f i - g i) / m) = f i - g i := Int.mul_ediv_cancel' (h i)
  show f i = g i + po_mul (po_C m) _ i
  rw [po_mul_C]
  show f i = g i + m * ((f i - g i) / m)
  omega
theorem po_ex_eq {m : Int} {f g c : po_P} (h : f = po_add g (po_mul (po_C m) c)) : po_eq m f g := by
  intro i
  have e : f i = g i + po_mul (po_C m) c i := by rw [h]; rfl
  rw [po_mul_C] at e
  exact ⟨c i, by omega⟩
theorem po_eq_s {m : Int} {f g : po_P} (h : po_eq m f g) : po_eq m g f := fun i => by
  have := h i
  rw [← Int.dvd_neg, Int.neg_sub]; exact this
theorem po_eq_t {m : Int} {f g h : po_P} (a : po_eq m f g) (b : po_eq m g h) : po_eq m f h := fun i => by
  have := Int.dvd_add (a i) (b i)
  rwa [show f i - g i + (g i - h i) = f i - h i by omega] at this
theorem po_eq_add {m : Int} {f g f' g' : po_P} (a : po_eq m f f') (b : po_eq m g g') : po_eq m (po_add f g) (po_add f' g') := fun i => by
  have := Int.dvd_add (a i) (b i)
  rwa [show f i - f' i + (g i - g' i) = po_add f g i - po_add f' g' i by simp only [po_add]; omega] at this
theorem ga_eqm {R : Type} [Lean.Grind.CommRing R] {m f g f' g' x y : R} (h : f = f' + m * x) (k : g = g' + m * y) : f * g = f' * g' + m * (x * g' + f' * y + m * x * y) := by grind
theorem po_eq_mul {m : Int} {f g f' g' : po_P} (a : po_eq m f f') (b : po_eq m g g') : po_eq m (po_mul f g) (po_mul f' g') := by
  obtain ⟨x, hx⟩ := po_eq_ex a
  obtain ⟨y, hy⟩ := po_eq_ex b
  exact po_ex_eq (@ga_eqm po_P po_ring _ _ _ _ _ _ _ hx hy)
theorem po_eq_0 {f g : po_P} (h : po_eq 0 f g) : f = g := by
  funext i
  have := Int.zero_dvd.mp (h i)
  omega
theorem po_eq_dvd {m k : Int} {f g : po_P} (hk : k ∣ m) (h : po_eq m f g) : po_eq k f g := fun i => Int.dvd_trans hk (h i)
theorem po_eq_i {m : Int} {f g : po_P} (h : po_eq m f g) (i : Nat) : m ∣ f i ↔ m ∣ g i := by
  have a := h i
  constructor
  · intro b
    have := Int.dvd_sub b a
    rwa [show f i - (f i - g i) = g i by omega] at this
  · intro b
    have := Int.dvd_add a b
    rwa [show f i - g i + g i = f i by omega] at this
theorem po_dl_eq {m : Int} {d : Nat} {f g : po_P} (h : po_eq m f g) (k : po_dl m d f) : po_dl m d g := fun i hi => (po_eq_i h i).mp (k i hi)
theorem po_dl_le {m : Int} {d e : Nat} {f : po_P} (h : d ≤ e) (k : po_dl m d f) : po_dl m e f := fun i hi => k i (by omega)
theorem po_dl_add {m : Int} {d : Nat} {f g : po_P} (a : po_dl m d f) (b : po_dl m d g) : po_dl m d (po_add f g) := fun i hi => Int.dvd_add (a i hi) (b i hi)
theorem po_mul_dv {m : Int} {g : po_P} : ∀ (n : Nat) (f : po_P), (∀ i, m ∣ f i) → m ∣ po_mul f g n
  | 0, f, h => by rw [po_mul_0]; exact Int.dvd_mul_of_dvd_left (h 0)
  | n + 1, f, h => by rw [po_mul_s]; exact Int.dvd_add (Int.dvd_mul_of_dvd_left (h 0)) (po_mul_dv n (po_sh f) (fun i => h (i + 1)))
theorem po_mul_top0 {m : Int} {f g : po_P} (h : ∀ i, 1 ≤ i → m ∣ f i) (n : Nat) : m ∣ po_mul f g n - f 0 * g n := by
  cases n with
  | zero => rw [po_mul_0, Int.sub_self]; exact Int.dvd_zero m
  | succ n =>
    rw [po_mul_s, show f 0 * g (n + 1) + po_mul (po_sh f) g n - f 0 * g (n + 1) = po_mul (po_sh f) g n by omega]
    exact po_mul_dv n (po_sh f) (fun i => h (i + 1) (by omega))
theorem po_dl_mul {m : Int} {g : po_P} {e : Nat} (hg : po_dl m (e + 1) g) : ∀ (d : Nat) (f : po_P), po_dl m (d + 1) f → po_dl m (d + e + 1) (po_mul f g) ∧ m ∣ po_mul f g (d + e) - f d * g e
  | 0, f, hf => by
    have t := po_mul_top0 (g := g) hf
    refine ⟨fun i hi => ?_, by have := t e; rwa [Nat.zero_add]⟩
    have a := Int.dvd_add (t i) (Int.dvd_mul_of_dvd_right (b := f 0) (hg i (by omega)))
    rwa [show po_mul f g i - f 0 * g i + f 0 * g i = po_mul f g i by omega] at a
  | d + 1, f, hf => by
    obtain ⟨i1, i2⟩ := po_dl_mul hg d (po_sh f) (fun i hi => hf (i + 1) (by omega))
    constructor
    · intro i hi
      obtain ⟨j, rfl⟩ : ∃ j, i = j + 1 := ⟨i - 1, by omega⟩
      rw [po_mul_s]
      exact Int.dvd_add (Int.dvd_mul_of_dvd_right (hg _ (by omega))) (i1 j (by omega))
    · rw [show d + 1 + e = (d + e) + 1 by omega, po_mul_s]
      have a := Int.dvd_add (Int.dvd_mul_of_dvd_right (b := f 0) (hg (d + e + 1) (by omega))) i2
      rwa [show f 0 * g (d + e + 1) + (po_mul (po_sh f) g (d + e) - po_sh f d * g e) = f 0 * g (d + e + 1) + po_mul (po_sh f) g (d + e) - f (d + 1) * g e by simp only [po_sh]; omega] at a
theorem po_low1 {m : Int} {g : po_P} : ∀ (j : Nat) (f : po_P), (∀ k, k ≤ j → m ∣ g k) → m ∣ po_mul f g j
  | 0, f, h => by rw [po_mul_0]; exact Int.dvd_mul_of_dvd_right (h 0 (by omega))
  | j + 1, f, h => by rw [po_mul_s]; exact Int.dvd_add (Int.dvd_mul_of_dvd_right (h _ (by omega))) (po_low1 j (po_sh f) (fun k hk => h k (by omega)))
theorem po_low {m : Int} {g : po_P} {j : Nat} (hg : ∀ k, k < j → m ∣ g k) : ∀ (i : Nat) (f : po_P), (∀ k, k < i → m ∣ f k) → m ∣ po_mul f g (i + j) - f i * g j
  | 0, f, hf => by
    cases j with
    | zero => rw [Nat.zero_add, po_mul_0, Int.sub_self]; exact Int.dvd_zero m
    | succ j =>
      rw [Nat.zero_add, po_mul_s, show f 0 * g (j + 1) + po_mul (po_sh f) g j - f 0 * g (j + 1) = po_mul (po_sh f) g j by omega]
      exact po_low1 j (po_sh f) (fun k hk => hg k (by omega))
  | i + 1, f, hf => by
    have a := po_low hg i (po_sh f) (fun k hk => hf (k + 1) (by omega))
    rw [show i + 1 + j = (i + j) + 1 by omega, po_mul_s]
    have b := Int.dvd_add (Int.dvd_mul_of_dvd_left (c := g (i + j + 1)) (hf 0 (by omega))) a
    rwa [show f 0 * g (i + j + 1) + (po_mul (po_sh f) g (i + j) - po_sh f i * g j) = f 0 * g (i + j + 1) + po_mul (po_sh f) g (i + j) - f (i + 1) * g j by simp only [po_sh]; omega] at b
theorem po_can0 {m : Int} (hm : po_dom m) {t x : po_P} (ht : ∃ i, ¬ m ∣ t i) (h : ∀ i, m ∣ po_mul t x i) : ∀ i, m ∣ x i := by
  obtain ⟨i, hi, hl⟩ := pk_least (fun i => ¬ m ∣ t i) ht
  have hl' : ∀ k, k < i → m ∣ t k := fun k hk => Classical.byContradiction (fun z => hl k hk z)
  intro j
  induction j using Nat.strongRecOn with
  | _ j ih =>
    have a := po_low ih i t hl'
    have b := Int.dvd_sub (h (i + j)) a
    rw [show po_mul t x (i + j) - (po_mul t x (i + j) - t i * x j) = t i * x j by omega] at b
    rcases hm.2 _ _ b with z | z
    · exact absurd z hi
    · exact z
theorem ga_can {R : Type} [Lean.Grind.CommRing R] {m t x y c : R} (h : t * x = t * y + m * c) : t * (x - y) = 0 + m * c := by grind
theorem po_cancel {m : Int} (hm : po_dom m) {t x y : po_P} (ht : ∃ i, ¬ m ∣ t i) (h : po_eq m (po_mul t x) (po_mul t y)) : po_eq m x y := by
  obtain ⟨c, hc⟩ := po_eq_ex h
  have e := po_ex_eq (@ga_can po_P po_ring _ _ _ _ _ hc)
  exact po_can0 hm ht (fun i => (po_eq_i e i).mpr (by show m ∣ po_C 0 i; simp [po_C]))
theorem po_mul_X (c : Int) (g : po_P) : ∀ (k n : Nat), po_mul (po_X k c) g n = if k ≤ n then c * g (n - k) else 0
  | 0, n => by
    have e : po_X 0 c = po_C c := rfl
    rw [e, po_mul_C]; simp
  | k + 1, 0 => by rw [po_mul_0]; simp [po_X]
  | k + 1, n + 1 => by
    have e : po_sh (po_X (k + 1) c) = po_X k c := by funext i; simp [po_sh, po_X]
    rw [po_mul_s, e, po_mul_X c g k n]
    have e0 : po_X (k + 1) c 0 = 0 := by simp [po_X]
    rw [e0, Int.zero_mul, Int.zero_add, show n + 1 - (k + 1) = n - k by omega]
    by_cases h : k ≤ n
    · rw [if_pos h, if_pos (by omega)]
    · rw [if_neg h, if_neg (by omega)]
theorem po_fin_add {m : Int} {f g : po_P} (a : po_fin m f) (b : po_fin m g) : po_fin m (po_add f g) := by
  obtain ⟨d, hd⟩ := a
  obtain ⟨e, he⟩ := b
  exact ⟨max d e, po_dl_add (po_dl_le (by omega) hd) (po_dl_le (by omega) he)⟩
theorem po_fin_mul {m : Int} {f g : po_P} (a : po_fin m f) (b : po_fin m g) : po_fin m (po_mul f g) := by
  obtain ⟨d, hd⟩ := a
  obtain ⟨e, he⟩ := b
  exact ⟨d + e + 1, (po_dl_mul (po_dl_le (by omega) he) d f (po_dl_le (by omega) hd)).1⟩
theorem po_fin_sub {m : Int} {f g : po_P} (a : po_fin m f) (b : po_fin m g) : po_fin m (po_sub f g) := by
  obtain ⟨d, hd⟩ := a
  obtain ⟨e, he⟩ := b
  exact ⟨max d e, fun i hi => Int.dvd_sub (hd i (by omega)) (he i (by omega))⟩
theorem po_fin_eq {m : Int} {f g : po_P} (h : po_eq m f g) (a : po_fin m f) : po_fin m g := by
  obtain ⟨d, hd⟩ := a
  exact ⟨d, po_dl_eq h hd⟩
theorem po_fin_C (m c : Int) : po_fin m (po_C c) := ⟨1, fun i hi => by rw [show po_C c i = 0 by simp [po_C]; omega]; exact Int.dvd_zero m⟩
theorem po_fin_X (m : Int) (k : Nat) (c : Int) : po_fin m (po_X k c) := ⟨k + 1, fun i hi => by rw [show po_X k c i = 0 by simp [po_X]; omega]; exact Int.dvd_zero m⟩
theorem ga_pdiv {R : Type} [Lean.Grind.CommRing R] {m a b q r x k be y a' : R} (h1 : be * a = a' + x * b) (h2 : k * a' = q * b + r + m * y) : (k * be) * a = (q + k * x) * b + r + m * y := by grind
theorem po_pdiv {m : Int} (hm : po_dom m) {b : po_P} {e : Nat} (hb : po_dl m (e + 1) b) (hbe : ¬ m ∣ b e) : ∀ (D : Nat) (a : po_P), po_dl m D a → ∃ (k : Int) (q r : po_P), ¬ m ∣ k ∧ po_eq m (po_mul (po_C k) a) (po_add (po_mul q b) r) ∧ po_dl m e r ∧ po_fin m q
  | 0, a, ha => ⟨1, po_C 0, a, hm.1, po_eq_e (by funext i; show po_mul _ _ i = po_mul _ _ i + a i; rw [po_mul_C, po_mul_C]; omega), po_dl_le (by omega) ha, po_fin_C _ _⟩
  | D + 1, a, ha => by
    by_cases hD : D < e
    · exact ⟨1, po_C 0, a, hm.1, po_eq_e (by funext i; show po_mul _ _ i = po_mul _ _ i + a i; rw [po_mul_C, po_mul_C]; omega), po_dl_le (by omega) ha, po_fin_C _ _⟩
    · have ha' : po_dl m D (po_sub (po_mul (po_C (b e)) a) (po_mul (po_X (D - e) (a D)) b)) := by
        intro i hi
        show m ∣ po_mul _ _ i - po_mul _ _ i
        rw [po_mul_C, po_mul_X, if_pos (by omega)]
        by_cases hi' : i = D
        · rw [hi', show D - (D - e) = e by omega, Int.mul_comm, Int.sub_self]; exact Int.dvd_zero m
        · exact Int.dvd_sub (Int.dvd_mul_of_dvd_right (ha i (by omega))) (Int.dvd_mul_of_dvd_right (hb _ (by omega)))
      obtain ⟨k, q, r, hk, he, hr, hq⟩ := po_pdiv hm hb hbe D _ ha'
      obtain ⟨y, hy⟩ := po_eq_ex he
      refine ⟨k * b e, po_add q (po_mul (po_C k) (po_X (D - e) (a D))), r, fun z => (hm.2 _ _ z).elim hk hbe, ?_, hr, po_fin_add hq (po_fin_mul (po_fin_C _ _) (po_fin_X _ _ _))⟩
      rw [po_C_mul]
      refine po_ex_eq (c := y) (@ga_pdiv po_P po_ring _ _ _ _ _ (po_X (D - e) (a D)) _ _ _ _ ?_ hy)
      funext i
      show po_mul _ a i = (po_mul _ a i - po_mul _ b i) + po_mul _ b i
      omega
theorem ga_eu {R : Type} [Lean.Grind.CommRing R] {m a b q r t b1 r1 al be c d k x y z w : R} (h1 : k * a = q * b + r + m * x) (h2 : c * b = t * b1 + m * y) (h3 : c * r = t * r1 + m * z) (h4 : al * b + be * r = d * t + m * w) :
    (c * k) * a = t * (q * b1 + r1) + m * (c * x + q * y + z) ∧ (c * k) * b = t * (k * b1) + m * (k * y) ∧ (be * k) * a + (al - be * q) * b = d * t + m * (w + be * x) := by
  refine ⟨?_, ?_, ?_⟩ <;> grind
/-- Euclid: a common divisor t of a and b that is a combination of them -/
theorem po_eu {m : Int} (hm : po_dom m) : ∀ (N : Nat) (a b : po_P), po_dl m N b → po_fin m a → ∃ (t a1 b1 al be : po_P) (c d : Int), ¬ m ∣ c ∧ ¬ m ∣ d ∧ po_eq m (po_mul (po_C c) a) (po_mul t a1) ∧ po_eq m (po_mul (po_C c) b) (po_mul t b1) ∧ po_eq m (po_add (po_mul al a) (po_mul be b)) (po_mul (po_C d) t) ∧ po_fin m t ∧ po_fin m a1 ∧ po_fin m b1 ∧ po_fin m al ∧ po_fin m be
  | 0, a, b, hb, ha => ⟨a, po_C 1, po_C 0, po_C 1, po_C 0, 1, 1, hm.1, hm.1, po_eq_e (by funext i; rw [po_mul_comm a]), fun i => by
      rw [po_mul_C, po_mul_comm, po_mul_C]
      have := hb i (by omega)
      rwa [show 1 * b i - 0 * a i = b i by omega], po_eq_e (by funext i; show po_mul _ _ i + po_mul _ _ i = _; rw [po_mul_C, po_mul_C]; omega), ha, po_fin_C _ _, po_fin_C _ _, po_fin_C _ _, po_fin_C _ _⟩
  | N + 1, a, b, hb, ha => by
    by_cases hN : m ∣ b N
    · exact po_eu hm N a b (fun i hi => by
        by_cases e : i = N
        · rw [e]; exact hN
        · exact hb i (by omega)) ha
    · obtain ⟨D, hD⟩ := ha
      obtain ⟨k, q, r, hk, e1, hr, hq⟩ := po_pdiv hm hb hN D a hD
      obtain ⟨t, b1, r1, al, be, c, d, hc, hd, e2, e3, e4, f1, f2, f3, f4, f5⟩ := po_eu hm N b r hr ⟨_, hb⟩
      obtain ⟨x, e1⟩ := po_eq_ex e1
      obtain ⟨y, e2⟩ := po_eq_ex e2
      obtain ⟨z, e3⟩ := po_eq_ex e3
      obtain ⟨w, e4⟩ := po_eq_ex e4
      obtain ⟨g1, g2, g3⟩ := @ga_eu po_P po_ring _ _ _ _ _ _ _ _ _ _ _ _ _ _ _ _ _ e1 e2 e3 e4
      refine ⟨t, po_add (po_mul q b1) r1, po_mul (po_C k) b1, po_mul be (po_C k), po_sub al (po_mul be q), c * k, d, fun u => (hm.2 _ _ u).elim hc hk, hd, ?_, ?_, po_ex_eq g3, f1, po_fin_add (po_fin_mul hq f2) f3, po_fin_mul (po_fin_C _ _) f2, po_fin_mul f5 (po_fin_C _ _), po_fin_sub f4 (po_fin_mul f5 hq)⟩
      · rw [po_C_mul]; exact po_ex_eq g1
      · rw [po_C_mul]; exact po_ex_eq g2
end
section
/-! longs, rows of twelve, the bank of rows -/
theorem li_in {x : Int} (h1 : -9223372036854775808 ≤ x) (h2 : x < 9223372036854775808) : x.bmod (2 ^ 64) = x := by
  rw [Int.bmod_def]; omega
theorem li_add {a b : Int64} (h1 : -9223372036854775808 ≤ a.toInt + b.toInt) (h2 : a.toInt + b.toInt < 9223372036854775808) : (a + b).toInt = a.toInt + b.toInt := by
  rw [Int64.toInt_add, li_in h1 h2]
theorem li_sub {a b : Int64} (h1 : -9223372036854775808 ≤ a.toInt - b.toInt) (h2 : a.toInt - b.toInt < 9223372036854775808) : (a - b).toInt = a.toInt - b.toInt := by
  rw [Int64.toInt_sub, li_in h1 h2]
theorem li_mul {a b : Int64} (h1 : -9223372036854775808 ≤ a.toInt * b.toInt) (h2 : a.toInt * b.toInt < 9223372036854775808) : (a * b).toInt = a.toInt * b.toInt := by
  rw [Int64.toInt_mul, li_in h1 h2]
theorem li_neg {a : Int64} (h1 : -9223372036854775808 < a.toInt) : (-a).toInt = -a.toInt := by
  have := Int64.toInt_lt a
  rw [Int64.toInt_neg, li_in (by omega) (by omega)]
theorem li_lo (a : Int64) : -9223372036854775808 ≤ a.toInt := Int64.le_toInt a
theorem li_hi (a : Int64) : a.toInt < 9223372036854775808 := Int64.toInt_lt a
theorem li_eq {a b : Int64} : a = b ↔ a.toInt = b.toInt := Int64.toInt_inj.symm
theorem li_0 : (0 : Int64).toInt = 0 := rfl
theorem li_1 : (1 : Int64).toInt = 1 := rfl
theorem li_le {a b : Int64} : a ≤ b ↔ a.toInt ≤ b.toInt := Int64.le_iff_toInt_le
theorem li_lt {a b : Int64} : a < b ↔ a.toInt < b.toInt := Int64.lt_iff_toInt_lt
theorem li_ne0 {a : Int64} : ¬ a = 0 ↔ a.toInt ≠ 0 := by rw [li_eq]; exact Iff.rfl
theorem li_rem (x y : Int64) : (x - x / y * y).toInt = x.toInt.tmod y.toInt := by
  have e : x.toInt.tmod y.toInt = x.toInt - x.toInt.tdiv y.toInt * y.toInt := by
    have := Int.tdiv_mul_add_tmod x.toInt y.toInt
    omega
  rw [Int64.toInt_sub, Int64.toInt_mul, Int64.toInt_div, Int.bmod_mul_bmod, Int.sub_bmod_bmod, ← e]
  have h1 := li_lo x
  have h2 := li_hi x
  have a : (x.toInt.tmod y.toInt).natAbs ≤ x.toInt.natAbs := by rw [Int.natAbs_tmod]; exact Nat.mod_le _ _
  have b : 0 ≤ x.toInt → 0 ≤ x.toInt.tmod y.toInt := fun h => Int.tmod_nonneg _ h
  have c : x.toInt ≤ 0 → x.toInt.tmod y.toInt ≤ 0 := fun h => by
    have := Int.tmod_nonneg y.toInt (show 0 ≤ -x.toInt by omega)
    rw [Int.neg_tmod] at this
    omega
  apply li_in <;> omega
theorem li_remN {x y : Int64} (hx : 0 ≤ x.toInt) : (x - x / y * y).toInt = x.toInt % y.toInt := by
  rw [li_rem, Int.tmod_eq_emod_of_nonneg hx]
theorem li_div {x y : Int64} (h : x.toInt ≠ -9223372036854775808) : (x / y).toInt = x.toInt.tdiv y.toInt := by
  apply Int64.toInt_div_of_ne_left
  intro e
  exact h (by rw [e]; rfl)
theorem li_emod {a b : Int} (h : 0 < b) : 0 ≤ a % b ∧ a % b < b := ⟨Int.emod_nonneg _ (by omega), Int.emod_lt_of_pos _ h⟩
theorem li_ix (s i : Nat) : (12 * nI s + nI i : Int32) = nI (12 * s + i) := by
  rw [show (12 : Int32) = nI 12 from rfl, pk_mul, nI_add]
/-- the row s of the bank -/
def fd_r (a : Nat → Int64) (s : Nat) : po_P := fun i => if i < 12 then (a (12 * s + i)).toInt else 0
def fd_w (f : po_P) (i : Nat) (v : Int) : po_P := fun j => if j = i then v else f j
def fd_u (B : Nat → po_P) (t : Nat) (r : po_P) : Nat → po_P := fun s => if s = t then r else B s
def fd_mix (i : Nat) (g f : po_P) : po_P := fun j => if j < i then g j else f j
theorem fd_u_s (B : Nat → po_P) (t : Nat) (r : po_P) : fd_u B t r t = r := if_pos rfl
theorem fd_u_n {B : Nat → po_P} {t : Nat} {r : po_P} {s : Nat} (h : s ≠ t) : fd_u B t r s = B s := if_neg h
theorem fd_u_u (B : Nat → po_P) (t : Nat) (r r' : po_P) : fd_u (fd_u B t r) t r' = fd_u B t r' := by
  funext s; simp only [fd_u]; split <;> rfl
theorem fd_u_c {B : Nat → po_P} {t q : Nat} {r r' : po_P} (h : t ≠ q) : fd_u (fd_u B t r) q r' = fd_u (fd_u B q r') t r := by
  funext s; simp only [fd_u]
  by_cases e : s = t
  · rw [if_pos e, if_neg (by omega), if_pos e]
  · rw [if_neg e, if_neg e]
theorem fd_u_id (B : Nat → po_P) (t : Nat) : fd_u B t (B t) = B := by
  funext s; simp only [fd_u]; split
  · next h => rw [h]
  · rfl
theorem fd_r_12 (a : Nat → Int64) (s i : Nat) (h : 12 ≤ i) : fd_r a s i = 0 := if_neg (by omega)
theorem fd_r_i {a : Nat → Int64} {s i : Nat} (h : i < 12) : fd_r a s i = (a (12 * s + i)).toInt := if_pos h
theorem fd_r_lo (a : Nat → Int64) (s i : Nat) : -9223372036854775808 ≤ fd_r a s i := by
  simp only [fd_r]; split
  · exact li_lo _
  · omega
theorem fd_r_hi (a : Nat → Int64) (s i : Nat) : fd_r a s i < 9223372036854775808 := by
  simp only [fd_r]; split
  · exact li_hi _
  · omega
theorem fd_upd {a : Nat → Int64} {t i : Nat} {v : Int64} (hi : i < 12) : fd_r (vp_updL a (12 * t + i) v) = fd_u (fd_r a) t (fd_w (fd_r a t) i v.toInt) := by
  funext s j
  by_cases e : s = t
  · subst e
    rw [fd_u_s]
    simp only [fd_w, fd_r, vp_updL]
    by_cases f : j = i
    · subst f; simp [hi]
    · simp [f]
  · rw [fd_u_n e]
    simp only [fd_r, vp_updL]
    by_cases hj : j < 12
    · rw [if_pos hj, if_pos hj, if_neg (by omega)]
    · rw [if_neg hj, if_neg hj]
theorem fd_mix_0 (g f : po_P) : fd_mix 0 g f = f := by funext j; simp [fd_mix]
theorem fd_mix_s {i : Nat} {g f : po_P} {v : Int} (h : v = g i) : fd_w (fd_mix i g f) i v = fd_mix (i + 1) g f := by
  funext j; simp only [fd_mix, fd_w]
  by_cases e : j = i
  · subst e; simp [h]
  · by_cases k : j < i
    · simp [e, k]; omega
    · simp [e, k]; omega
theorem fd_mix_e {g f : po_P} {n : Nat} (h : ∀ i, n ≤ i → g i = f i) : fd_mix n g f = g := by
  funext j; simp only [fd_mix]; split
  · rfl
  · exact (h j (by omega)).symm
theorem fd_mix_i (i : Nat) (g f : po_P) : fd_mix i g f i = f i := if_neg (by omega)
/-- a store in a loop that fills row t with g -/
theorem fd_fill {s : Nat → Int64} {B : Nat → po_P} {t i : Nat} {g : po_P} {v : Int64} (hi : i < 12) (h : fd_r s = fd_u B t (fd_mix i g (B t))) (hv : v.toInt = g i) : fd_r (vp_updL s (12 * t + i) v) = fd_u B t (fd_mix (i + 1) g (B t)) := by
  rw [fd_upd hi, h, fd_u_s, fd_u_u, fd_mix_s hv]
/-- what such a loop reads at its index -/
theorem fd_get {s : Nat → Int64} {B : Nat → po_P} {t i q : Nat} {g : po_P} (hi : i < 12) (h : fd_r s = fd_u B t (fd_mix i g (B t))) : (s (12 * q + i)).toInt = B q i := by
  rw [← fd_r_i hi, h]
  by_cases e : q = t
  · rw [e, fd_u_s, fd_mix_i]
  · rw [fd_u_n e]
theorem fd_end {s : Nat → Int64} {B : Nat → po_P} {t : Nat} {g : po_P} (hB : ∀ i, 12 ≤ i → B t i = 0) (hg : ∀ i, 12 ≤ i → g i = 0) (h : fd_r s = fd_u B t (fd_mix 12 g (B t))) : fd_r s = fd_u B t g := by
  rw [h, fd_mix_e (fun i hi => by rw [hB i hi, hg i hi])]
end
section
/-! the small methods -/
section
variable {fc lc dc : Int32} {mo pr : Int64} {a : Nat → Int64} {a2 : Nat → Int32} {a3 : Nat → Int64} {a4 a5 a6 : Nat → Int32}
theorem fd_degreeOf {post : Int32 → Prop} {s : Nat} (hs : s < 26) (H0 : (∀ i, fd_r a s i = 0) → post (-1)) (H1 : ∀ d, d < 12 → fd_r a s d ≠ 0 → (∀ i, d < i → fd_r a s i = 0) → post (nI d)) : wpX_degreeOf post (fc, mo, pr, lc, dc, a, a2, a3, a4, a5, a6) (nI s) := by
  have main : ∀ k, k ≤ 12 → (∀ i, k ≤ i → fd_r a s i = 0) → wX_degreeOf_3 post (nI s) fc mo pr lc dc a a2 a3 a4 a5 a6 (k + 1) (nI k + (-1)) := by
    intro k
    induction k with
    | zero => intro _ h; exact br_t (by decide) (H0 (fun i => h i (by omega)))
    | succ k ih =>
      intro hk h
      rw [pk_m1]
      refine br_f (nI_pos (by omega)) ⟨pk_in (12 * s + k) 312 (by omega) (li_ix s k), ?_⟩
      rw [li_ix, nI_clamp (by omega)]
      refine br_c (fun z => nm_e (ih (by omega) (fun i hi => ?_))) (fun z => H1 k (by omega) ?_ (fun i hi => h i (by omega)))
      · by_cases e : i = k
        · rw [e, fd_r_i (by omega), z]; rfl
        · exact h i (by omega)
      · rw [fd_r_i (by omega)]; exact li_ne0.mp z
  have := main 12 (by omega) (fun i hi => fd_r_12 a s i hi)
  rw [pk_m1] at this
  exact ⟨13, this⟩
theorem fd_copy {post : St1 → Prop} {t f : Nat} (ht : t < 26) (hf : f < 26) (H : ∀ a', fd_r a' = fd_u (fd_r a) t (fd_r a f) → post (fc, mo, pr, lc, dc, a', a2, a3, a4, a5, a6)) : wpX_copy post (fc, mo, pr, lc, dc, a, a2, a3, a4, a5, a6) (nI t) (nI f) :=
  pk_loop (fun n i s => wX_copy_2 post (nI t) (nI f) fc mo pr lc dc n (nI i) s a2 a3 a4 a5 a6) (fun i s => fd_r s = fd_u (fd_r a) t (fd_mix i (fd_r a f) (fd_r a t))) 12 0 a (by omega) (by rw [fd_mix_0, fd_u_id])
    (fun n s h => pk_le 12 12 (fun _ => H s (fd_end (fd_r_12 a t) (fd_r_12 a f) h)) (fun z => absurd z (by omega)))
    (fun n i s hi h hw => pk_le 12 i (fun z => absurd z (by omega)) (fun _ => ⟨pk_in (12 * f + i) 312 (by omega) (li_ix f i), pk_in (12 * t + i) 312 (by omega) (li_ix t i), nm_r (by rw [li_ix, li_ix, nI_clamp (by omega), nI_clamp (by omega)]) (nm_r (nI_1 i) (hw _ (fd_fill hi h (fd_get (q := f) hi h))))⟩))
theorem fd_clear {post : St1 → Prop} {t : Nat} (ht : t < 26) (H : ∀ a', fd_r a' = fd_u (fd_r a) t (fun _ => 0) → post (fc, mo, pr, lc, dc, a', a2, a3, a4, a5, a6)) : wpX_clear post (fc, mo, pr, lc, dc, a, a2, a3, a4, a5, a6) (nI t) :=
  pk_loop (fun n i s => wX_clear_2 post (nI t) fc mo pr lc dc n (nI i) s a2 a3 a4 a5 a6) (fun i s => fd_r s = fd_u (fd_r a) t (fd_mix i (fun _ => 0) (fd_r a t))) 12 0 a (by omega) (by rw [fd_mix_0, fd_u_id])
    (fun n s h => pk_le 12 12 (fun _ => H s (fd_end (fd_r_12 a t) (fun _ _ => rfl) h)) (fun z => absurd z (by omega)))
    (fun n i s hi h hw => pk_le 12 i (fun z => absurd z (by omega)) (fun _ => ⟨pk_in (12 * t + i) 312 (by omega) (li_ix t i), nm_r (by rw [li_ix, nI_clamp (by omega)]) (nm_r (nI_1 i) (hw _ (fd_fill (v := 0) hi h rfl)))⟩))
theorem fd_gcdL {post : Int64 → Prop} : ∀ (k : Nat) (x y : Int64), x.toInt = k → ∀ j : Nat, y.toInt = j → (∀ r : Int64, r.toInt = (Nat.gcd k j : Nat) → post r) → ∃ n, wX_commonDivisor_28 post fc mo pr lc dc a a2 a3 a4 a5 a6 n x y := by
  intro k
  induction k using Nat.strongRecOn with
  | _ k ih =>
    intro x y hx j hy H
    by_cases hk : k = 0
    · subst hk
      exact ⟨1, br_t (li_eq.mpr (by rw [hx]; rfl)) (H y (by rw [hy, Nat.gcd_zero_left]))⟩
    · have hx0 : ¬ x = 0 := li_ne0.mpr (by omega)
      have hr : (y - y / x * x).toInt = (j % k : Nat) := by rw [li_remN (by omega), hx, hy]; rfl
      obtain ⟨n, hn⟩ := ih (j % k) (Nat.mod_lt _ (by omega)) _ x hr k hx (fun r h => H r (by rw [h, ← Nat.gcd_rec]))
      exact ⟨n + 1, br_f hx0 ⟨hx0, nm_e hn⟩⟩
theorem fd_commonDivisor {post : Int64 → Prop} {x y : Int64} (hx : -9223372036854775808 < x.toInt) (hy : -9223372036854775808 < y.toInt) (H : ∀ r : Int64, r.toInt = (Nat.gcd x.toInt.natAbs y.toInt.natAbs : Nat) → post r) : wpX_commonDivisor post (fc, mo, pr, lc, dc, a, a2, a3, a4, a5, a6) x y := by
  have st : ∀ z : Int64, z.toInt = (x.toInt.natAbs : Nat) → wX_commonDivisor_12 post y z fc mo pr lc dc a a2 a3 a4 a5 a6 := by
    intro z hz
    refine br_c (fun h => ?_) (fun h => nm_e ?_)
    · rw [li_le, li_0] at h
      exact fd_gcdL _ z y hz y.toInt.natAbs (by omega) H
    · rw [li_le, li_0] at h
      exact fd_gcdL _ z (-y) hz y.toInt.natAbs (by rw [li_neg hy]; omega) H
  refine br_c (fun h => ?_) (fun h => ?_)
  · rw [li_le, li_0] at h
    exact st x (by omega)
  · rw [li_le, li_0] at h
    exact st (-x) (by rw [li_neg hx]; omega)
def fd_cg (f : po_P) : Nat → Nat
  | 0 => 0
  | n + 1 => Nat.gcd (fd_cg f n) (f n).natAbs
def fd_ct (f : po_P) : Nat := fd_cg f 12
theorem fd_cg_dv (f : po_P) : ∀ (n i : Nat), i < n → (fd_cg f n : Int) ∣ f i
  | 0, i, h => absurd h (by omega)
  | n + 1, i, h => by
    by_cases e : i = n
    · subst e; exact Int.ofNat_dvd_left.mpr (Nat.gcd_dvd_right _ _)
    · exact Int.dvd_trans (Int.ofNat_dvd.mpr (Nat.gcd_dvd_left _ _)) (fd_cg_dv f n i (by omega))
theorem fd_cg_gt (f : po_P) (k : Int) : ∀ n : Nat, (∀ i, i < n → k ∣ f i) → k ∣ (fd_cg f n : Int)
  | 0, _ => Int.dvd_zero k
  | n + 1, h => Int.ofNat_dvd_right.mpr (Nat.dvd_gcd (Int.ofNat_dvd_right.mp (fd_cg_gt f k n (fun i hi => h i (by omega)))) (Int.natAbs_dvd_natAbs.mpr (h n (by omega))))
theorem fd_cg_0 (f : po_P) (n : Nat) (h : fd_cg f n = 0) (i : Nat) (hi : i < n) : f i = 0 := by
  have := fd_cg_dv f n i hi
  rw [h] at this
  exact Int.zero_dvd.mp this
theorem fd_cg_le (f : po_P) (n : Nat) (i : Nat) (hi : i < n) (h : f i ≠ 0) : (fd_cg f n : Int) ≤ (f i).natAbs ∧ fd_cg f n ≠ 0 := by
  have d := fd_cg_dv f n i hi
  refine ⟨?_, fun z => h (fd_cg_0 f n z i hi)⟩
  have := Int.ofNat_dvd_left.mp d
  exact Int.ofNat_le.mpr (Nat.le_of_dvd (by omega) this)
theorem fd_contentOf {post : Int64 → Prop} {s : Nat} (hs : s < 26) (hB : ∀ i, -9223372036854775808 < fd_r a s i) (H : ∀ r : Int64, r.toInt = (fd_ct (fd_r a s) : Nat) → post r) : wpX_contentOf post (fc, mo, pr, lc, dc, a, a2, a3, a4, a5, a6) (nI s) :=
  pk_loop (fun n i (x : Int64) => wX_contentOf_5 post (nI s) fc mo pr lc dc a a2 a3 a4 a5 a6 n x (nI i)) (fun i x => x.toInt = (fd_cg (fd_r a s) i : Nat)) 12 0 0 (by omega) rfl
    (fun n x h => pk_le 12 12 (fun _ => H x h) (fun z => absurd z (by omega)))
    (fun n i x hi h hw => pk_le 12 i (fun z => absurd z (by omega)) (fun _ => ⟨pk_in (12 * s + i) 312 (by omega) (li_ix s i), by
      rw [li_ix, nI_clamp (by omega)]
      have hb := hB i
      rw [fd_r_i hi] at hb
      refine fd_commonDivisor (by rw [h]; omega) hb (fun r hr => nm_r (nI_1 i) (hw r ?_))
      rw [hr, h, fd_cg, fd_r_i hi]; rfl⟩))
theorem fd_leadOf {post : Int64 → Prop} {s : Nat} (hs : s < 26) (H0 : (∀ i, fd_r a s i = 0) → post 0) (H1 : ∀ (d : Nat) (x : Int64), d < 12 → x.toInt = fd_r a s d → fd_r a s d ≠ 0 → (∀ i, d < i → fd_r a s i = 0) → post x) : wpX_leadOf post (fc, mo, pr, lc, dc, a, a2, a3, a4, a5, a6) (nI s) := by
  refine fd_degreeOf hs (fun h => br_f (by decide) (H0 h)) (fun d hd h1 h2 => br_t (nI_pos' (by omega)) ⟨pk_in (12 * s + d) 312 (by omega) (li_ix s d), ?_⟩)
  rw [li_ix, nI_clamp (by omega)]
  exact H1 d _ hd (fd_r_i hd).symm h1 h2
theorem fd_mp29 {post : St1 → Prop} {s : Nat} {c : Int64} {g : po_P} (hs : s < 26) (hc : c.toInt ≠ 0) (hB : ∀ i, -9223372036854775808 < fd_r a s i) (hg : ∀ i, fd_r a s i = c.toInt * g i) (H : ∀ a', fd_r a' = fd_u (fd_r a) s g → post (fc, mo, pr, lc, dc, a', a2, a3, a4, a5, a6)) : ∃ n, wX_makePrimitive_29 post (nI s) c fc mo pr lc dc n 0 a a2 a3 a4 a5 a6 :=
  pk_loop (fun n i t => wX_makePrimitive_29 post (nI s) c fc mo pr lc dc n (nI i) t a2 a3 a4 a5 a6) (fun i t => fd_r t = fd_u (fd_r a) s (fd_mix i g (fd_r a s))) 12 0 a (by omega) (by rw [fd_mix_0, fd_u_id])
    (fun n t h => pk_le 12 12 (fun _ => H t (fd_end (fd_r_12 a s) (fun i hi => by
      have := hg i
      rw [fd_r_12 a s i hi] at this
      exact (Int.mul_eq_zero.mp this.symm).resolve_left hc) h)) (fun z => absurd z (by omega)))
    (fun n i t hi h hw => pk_le 12 i (fun z => absurd z (by omega)) (fun _ => ⟨pk_in (12 * s + i) 312 (by omega) (li_ix s i), li_ne0.mpr hc, pk_in (12 * s + i) 312 (by omega) (li_ix s i), nm_r (by rw [li_ix, nI_clamp (by omega)]) (nm_r (nI_1 i) (hw _ (fd_fill (v := t (12 * s + i) / c) hi h (by
      have e := fd_get (q := s) hi h
      have b := hB i
      rw [li_div (by omega), e, hg i, Int.mul_tdiv_cancel_left _ hc]))))⟩))
/-- the primitive part g of the row f, with a leading coefficient above 0 -/
def fd_pp (f g : po_P) : Prop := ∃ c : Int, c ≠ 0 ∧ c.natAbs = fd_ct f ∧ (∀ i, f i = c * g i) ∧ ∃ d, d < 12 ∧ 0 < g d ∧ (∀ i, d < i → g i = 0)
theorem fd_makePrimitive {post : St1 → Prop} {s : Nat} (hs : s < 26) (hB : ∀ i, -9223372036854775808 < fd_r a s i) (H0 : (∀ i, fd_r a s i = 0) → post (fc, mo, pr, lc, dc, a, a2, a3, a4, a5, a6)) (H1 : ∀ a' g, fd_r a' = fd_u (fd_r a) s g → fd_pp (fd_r a s) g → post (fc, mo, pr, lc, dc, a', a2, a3, a4, a5, a6)) : wpX_makePrimitive post (fc, mo, pr, lc, dc, a, a2, a3, a4, a5, a6) (nI s) := by
  refine fd_contentOf hs hB (fun r hr => br_c (fun z => H0 (fun i => ?_)) (fun z => ?_))
  · rw [z] at hr
    by_cases hi : i < 12
    · exact fd_cg_0 _ 12 (by have : (0 : Int) = (fd_ct (fd_r a s) : Nat) := hr; simp only [fd_ct] at this; omega) i hi
    · exact fd_r_12 a s i (by omega)
  · have z' := li_ne0.mp z
    have dv : ∀ i, (fd_ct (fd_r a s) : Int) ∣ fd_r a s i := fun i => by
      by_cases hi : i < 12
      · exact fd_cg_dv _ 12 i hi
      · rw [fd_r_12 a s i (by omega)]; exact Int.dvd_zero _
    refine fd_leadOf hs (fun h0 => ?_) (fun d x hd hx h1 h2 => br_c (fun g => ?_) (fun g => nm_e ?_))
    · exfalso
      apply z'
      rw [hr]
      have : ∀ n, fd_cg (fd_r a s) n = 0 := by
        intro n
        induction n with
        | zero => rfl
        | succ n ih => rw [fd_cg, ih, h0 n]; rfl
      simp only [fd_ct, this 12]; rfl
    · rw [li_le, li_0, hx] at g
      have e : ∀ i, fd_r a s i = r.toInt * (fd_r a s i / r.toInt) := fun i => by rw [hr]; exact (Int.mul_ediv_cancel' (dv i)).symm
      refine fd_mp29 (g := fun i => fd_r a s i / r.toInt) hs z' hB e (fun a' ha' => H1 a' _ ha' ⟨r.toInt, z', by rw [hr]; omega, e, d, hd, ?_, fun i hi => ?_⟩)
      · have e1 := e d
        have : 0 < r.toInt := by omega
        exact Int.pos_of_mul_pos_right (by rw [← e1]; omega) this
      · show fd_r a s i / r.toInt = 0
        rw [h2 i hi]; exact Int.zero_ediv _
    · rw [li_le, li_0, hx] at g
      have hn : (-r).toInt = -r.toInt := li_neg (by omega)
      have e : ∀ i, fd_r a s i = (-r).toInt * (fd_r a s i / (-r).toInt) := fun i => by
        rw [hn, hr]; exact (Int.mul_ediv_cancel' (Int.neg_dvd.mpr (dv i))).symm
      refine fd_mp29 (c := -r) (g := fun i => fd_r a s i / (-r).toInt) hs (by rw [hn]; omega) hB e (fun a' ha' => H1 a' _ ha' ⟨(-r).toInt, by rw [hn]; omega, by rw [hn, hr]; omega, e, d, hd, ?_, fun i hi => ?_⟩)
      · have e1 := e d
        have hlt : (-r).toInt < 0 := by omega
        show 0 < fd_r a s d / (-r).toInt
        rcases Int.lt_trichotomy 0 (fd_r a s d / (-r).toInt) with q | q | q
        · exact q
        · rw [← q, Int.mul_zero] at e1; exact absurd e1 h1
        · have := Int.mul_pos_of_neg_of_neg hlt q
          omega
      · show fd_r a s i / (-r).toInt = 0
        rw [h2 i hi]; exact Int.zero_ediv _
end
end
section
/-! rests modulo a number -/
def po_prime (p : Int) : Prop := 1 < p ∧ ∀ x : Int, ¬ p ∣ x → Nat.gcd p.natAbs x.natAbs = 1
theorem po_prime_dom {p : Int} (h : po_prime p) : po_dom p := by
  refine ⟨fun z => ?_, fun a b hab => ?_⟩
  · have := Int.le_of_dvd (by omega) z
    have := h.1
    omega
  · by_cases ha : p ∣ a
    · exact Or.inl ha
    · right
      have c : Nat.Coprime p.natAbs a.natAbs := h.2 a ha
      have d : p.natAbs ∣ a.natAbs * b.natAbs := by rw [← Int.natAbs_mul]; exact Int.natAbs_dvd_natAbs.mpr hab
      exact Int.natAbs_dvd_natAbs.mp (c.dvd_of_dvd_mul_left d)
/-- all coefficients are rests modulo m -/
def fd_rd (m : Int) (f : po_P) : Prop := ∀ i, 0 ≤ f i ∧ f i < m
def fd_em (m : Int) (f : po_P) : po_P := fun i => f i % m
theorem fd_em_rd {m : Int} (hm : 0 < m) (f : po_P) : fd_rd m (fd_em m f) := fun i => li_emod hm
theorem fd_em_eq (m : Int) (f : po_P) : po_eq m (fd_em m f) f := fun i => by
  show m ∣ f i % m - f i
  have := Int.dvd_self_sub_emod (x := f i) (m := m)
  rw [← Int.dvd_neg, Int.neg_sub]; exact this
theorem fd_rd_0 {m : Int} (f : po_P) (h : fd_rd m f) {i : Nat} (hi : m ∣ f i) : f i = 0 := by
  obtain ⟨h1, h2⟩ := h i
  have e := Int.emod_eq_of_lt h1 h2
  rw [Int.emod_eq_zero_of_dvd hi] at e
  exact e.symm
theorem fd_rd_dl {m : Int} {d : Nat} {f : po_P} (h : fd_rd m f) (k : po_dl m d f) (i : Nat) (hi : d ≤ i) : f i = 0 := fd_rd_0 f h (k i hi)
section
variable {fc lc dc : Int32} {mo pr : Int64} {a : Nat → Int64} {a2 : Nat → Int32} {a3 : Nat → Int64} {a4 a5 a6 : Nat → Int32}
theorem fd_rest {post : Int64 → Prop} {x : Int64} (hm : 0 < mo.toInt) (H : ∀ r : Int64, r.toInt = x.toInt % mo.toInt → post r) : wpX_rest post (fc, mo, pr, lc, dc, a, a2, a3, a4, a5, a6) x := by
  refine ⟨li_ne0.mpr (by omega), nm_e (br_c (fun h => H _ ?_) (fun h => H _ ?_))⟩
  · rw [li_le, li_0, li_rem] at h
    rw [li_rem]
    have e := Int.tmod_eq_emod (a := x.toInt) (b := mo.toInt)
    by_cases c : 0 ≤ x.toInt ∨ mo.toInt ∣ x.toInt
    · rw [if_pos c] at e; omega
    · rw [if_neg c] at e
      have := (li_emod (a := x.toInt) hm).2
      have : (mo.toInt.natAbs : Int) = mo.toInt := by omega
      omega
  · rw [li_le, li_0, li_rem] at h
    have e := Int.tmod_eq_emod (a := x.toInt) (b := mo.toInt)
    have l := li_emod (a := x.toInt) hm
    have hh := li_hi mo
    by_cases c : 0 ≤ x.toInt ∨ mo.toInt ∣ x.toInt
    · rw [if_pos c] at e; omega
    · rw [if_neg c] at e
      have : (mo.toInt.natAbs : Int) = mo.toInt := by omega
      rw [li_add (by rw [li_rem]; omega) (by rw [li_rem]; omega), li_rem]
      omega
theorem fd_reduce {post : St1 → Prop} {t : Nat} (ht : t < 26) (hm : 0 < mo.toInt) (H : ∀ a', fd_r a' = fd_u (fd_r a) t (fd_em mo.toInt (fd_r a t)) → post (fc, mo, pr, lc, dc, a', a2, a3, a4, a5, a6)) : wpX_reduce post (fc, mo, pr, lc, dc, a, a2, a3, a4, a5, a6) (nI t) :=
  pk_loop (fun n i s => wX_reduce_2 post (nI t) fc mo pr lc dc n (nI i) s a2 a3 a4 a5 a6) (fun i s => fd_r s = fd_u (fd_r a) t (fd_mix i (fd_em mo.toInt (fd_r a t)) (fd_r a t))) 12 0 a (by omega) (by rw [fd_mix_0, fd_u_id])
    (fun n s h => pk_le 12 12 (fun _ => H s (fd_end (fd_r_12 a t) (fun i hi => by show fd_r a t i % _ = 0; rw [fd_r_12 a t i hi]; exact Int.zero_emod _) h)) (fun z => absurd z (by omega)))
    (fun n i s hi h hw => pk_le 12 i (fun z => absurd z (by omega)) (fun _ => ⟨pk_in (12 * t + i) 312 (by omega) (li_ix t i), fd_rest hm (fun r hr => ⟨pk_in (12 * t + i) 312 (by omega) (li_ix t i), nm_r (by rw [li_ix, nI_clamp (by omega)]) (nm_r (nI_1 i) (hw _ (fd_fill (v := r) hi h (by
      rw [hr, li_ix, nI_clamp (by omega), fd_get (q := t) hi h]; rfl))))⟩)⟩))
theorem fd_scale {post : St1 → Prop} {t : Nat} {by_ : Int64} (ht : t < 26) (hm : 0 < mo.toInt) (hb : ∀ i, -9223372036854775808 ≤ fd_r a t i * by_.toInt ∧ fd_r a t i * by_.toInt < 9223372036854775808) (H : ∀ a', fd_r a' = fd_u (fd_r a) t (fun i => fd_r a t i * by_.toInt % mo.toInt) → post (fc, mo, pr, lc, dc, a', a2, a3, a4, a5, a6)) : wpX_scale post (fc, mo, pr, lc, dc, a, a2, a3, a4, a5, a6) (nI t) by_ :=
  pk_loop (fun n i s => wX_scale_3 post (nI t) by_ fc mo pr lc dc n (nI i) s a2 a3 a4 a5 a6) (fun i s => fd_r s = fd_u (fd_r a) t (fd_mix i (fun i => fd_r a t i * by_.toInt % mo.toInt) (fd_r a t))) 12 0 a (by omega) (by rw [fd_mix_0, fd_u_id])
    (fun n s h => pk_le 12 12 (fun _ => H s (fd_end (fd_r_12 a t) (fun i hi => by show fd_r a t i * _ % _ = 0; rw [fd_r_12 a t i hi, Int.zero_mul]; exact Int.zero_emod _) h)) (fun z => absurd z (by omega)))
    (fun n i s hi h hw => pk_le 12 i (fun z => absurd z (by omega)) (fun _ => ⟨pk_in (12 * t + i) 312 (by omega) (li_ix t i), fd_rest hm (fun r hr => ⟨pk_in (12 * t + i) 312 (by omega) (li_ix t i), nm_r (by rw [li_ix, nI_clamp (by omega)]) (nm_r (nI_1 i) (hw _ (fd_fill (v := r) hi h (by
      have e := fd_get (q := t) hi h
      have b := hb i
      rw [hr, li_ix, nI_clamp (by omega), li_mul (by rw [e]; exact b.1) (by rw [e]; exact b.2), e]))))⟩)⟩))
def fd_cn (m : Int) (f : po_P) : po_P := fun i => if 2 * f i ≤ m then f i else f i - m
theorem fd_center {post : St1 → Prop} {t : Nat} (ht : t < 26) (hm : 0 < mo.toInt) (hr : fd_rd mo.toInt (fd_r a t)) (hb : mo.toInt < 4611686018427387904) (H : ∀ a', fd_r a' = fd_u (fd_r a) t (fd_cn mo.toInt (fd_r a t)) → post (fc, mo, pr, lc, dc, a', a2, a3, a4, a5, a6)) : wpX_center post (fc, mo, pr, lc, dc, a, a2, a3, a4, a5, a6) (nI t) :=
  pk_loop (fun n i s => wX_center_2 post (nI t) fc mo pr lc dc n (nI i) s a2 a3 a4 a5 a6) (fun i s => fd_r s = fd_u (fd_r a) t (fd_mix i (fd_cn mo.toInt (fd_r a t)) (fd_r a t))) 12 0 a (by omega) (by rw [fd_mix_0, fd_u_id])
    (fun n s h => pk_le 12 12 (fun _ => H s (fd_end (fd_r_12 a t) (fun i hi => by show (if _ then _ else _) = _; rw [fd_r_12 a t i hi, if_pos (by omega)]) h)) (fun z => absurd z (by omega)))
    (fun n i s hi h hw => pk_le 12 i (fun z => absurd z (by omega)) (fun _ => ⟨pk_in (12 * t + i) 312 (by omega) (li_ix t i), by
      have e := fd_get (q := t) hi h
      obtain ⟨r1, r2⟩ := hr i
      have e2 : ((2 : Int64) * s (12 * t + i)).toInt = 2 * fd_r a t i := by
        have z : (2 : Int64).toInt = 2 := rfl
        rw [li_mul (by rw [e, z]; omega) (by rw [e, z]; omega), e, z]
      rw [li_ix, nI_clamp (by omega)]
      refine br_c (fun c => nm_r (nI_1 i) (hw s ?_)) (fun c => ⟨pk_in (12 * t + i) 312 (by omega) rfl, pk_in (12 * t + i) 312 (by omega) rfl, nm_e (nm_r (nI_1 i) (hw _ (fd_fill hi h ?_)))⟩)
      · rw [li_le, e2] at c
        rw [h, ← fd_mix_s (v := fd_r a t i) (by show _ = (if _ then _ else _); rw [if_pos c])]
        congr 1
        funext j
        simp only [fd_w]
        split
        · next z => rw [z, fd_mix_i]
        · rfl
      · rw [li_le, e2] at c
        rw [li_sub (by rw [e]; omega) (by rw [e]; omega), e]
        show _ = (if _ then _ else _)
        rw [if_neg c]⟩))
theorem fd_invL {post : Int64 → Prop} {p x : Int} (hp1 : 1 < p) (hp2 : p < 4611686018427387904) (hpr : pr.toInt = p) (H : ∀ r : Int64, 0 < r.toInt → r.toInt < p → p ∣ r.toInt * x - 1 → post r) :
    ∀ (k : Nat) (A B S T : Int64), B.toInt = k → B.toInt < A.toInt → A.toInt ≤ p → Nat.gcd A.toInt.natAbs k = 1 → p ∣ S.toInt * x - A.toInt → p ∣ T.toInt * x - B.toInt → (S.toInt.natAbs : Int) * A.toInt ≤ p → (T.toInt.natAbs : Int) * A.toInt + (S.toInt.natAbs : Int) * B.toInt ≤ p → ∃ n, wX_inverse_19 post fc mo pr lc dc a a2 a3 a4 a5 a6 n A B S T := by
  intro k
  induction k using Nat.strongRecOn with
  | _ k ih =>
    intro A B S T hB hBA hA hg d1 d2 b1 b2
    by_cases hk : k = 0
    · subst hk
      rw [Nat.gcd_zero_right] at hg
      have hA1 : A.toInt = 1 := by omega
      rw [hA1] at d1 b1
      have nz : ¬ p ∣ S.toInt := fun z => by
        have := Int.dvd_sub (Int.dvd_mul_of_dvd_left (c := x) z) d1
        rw [show S.toInt * x - (S.toInt * x - 1) = 1 by omega] at this
        have := Int.le_of_dvd (by omega) this
        omega
      have n0 : S.toInt ≠ 0 := fun z => nz (by rw [z]; exact Int.dvd_zero p)
      have n1 : S.toInt ≠ p := fun z => nz (by rw [z]; exact Int.dvd_refl p)
      have n2 : S.toInt ≠ -p := fun z => nz (by rw [z]; exact Int.dvd_neg.mpr (Int.dvd_refl p))
      refine ⟨1, br_t (li_eq.mpr (by rw [hB]; rfl)) (br_c (fun z => H S ?_ ?_ d1) (fun z => H _ ?_ ?_ ?_))⟩
      · rw [li_le, li_0] at z; omega
      · rw [li_le, li_0] at z; omega
      · rw [li_le, li_0] at z; rw [li_add (by omega) (by omega)]; omega
      · rw [li_le, li_0] at z; rw [li_add (by omega) (by omega)]; omega
      · rw [li_le, li_0] at z
        rw [li_add (by omega) (by omega), hpr]
        have := Int.dvd_add d1 (Int.dvd_mul_right p x)
        rwa [show S.toInt * x - 1 + p * x = (S.toInt + p) * x - 1 by grind] at this
    · have hB0 : ¬ B = 0 := li_ne0.mpr (by omega)
      have hq : (A / B).toInt = A.toInt / B.toInt := by rw [li_div (by omega), Int.tdiv_eq_ediv_of_nonneg (by omega)]
      have q0 : 0 ≤ A.toInt / B.toInt := Int.ediv_nonneg (by omega) (by omega)
      have dm := Int.mul_ediv_add_emod A.toInt B.toInt
      have rl := li_emod (a := A.toInt) (show 0 < B.toInt by omega)
      generalize hQ : A.toInt / B.toInt = Q at *
      have qA : Q ≤ A.toInt := by
        have : Q * 1 ≤ Q * B.toInt := Int.mul_le_mul_of_nonneg_left (by omega) q0
        have : B.toInt * Q = Q * B.toInt := Int.mul_comm _ _
        omega
      have tq : (T.toInt.natAbs : Int) * Q ≤ p := by
        have h1 : (T.toInt.natAbs : Int) * Q ≤ (T.toInt.natAbs : Int) * A.toInt := Int.mul_le_mul_of_nonneg_left qA (by omega)
        have h2 : 0 ≤ (S.toInt.natAbs : Int) * B.toInt := Int.mul_nonneg (by omega) (by omega)
        omega
      have aq : ((Q * T.toInt).natAbs : Int) = (T.toInt.natAbs : Int) * Q := by
        rw [Int.natAbs_mul, Int.natCast_mul, Int.mul_comm]; congr 1; omega
      have sB : (S.toInt.natAbs : Int) ≤ p := by
        have : (S.toInt.natAbs : Int) * 1 ≤ (S.toInt.natAbs : Int) * A.toInt := Int.mul_le_mul_of_nonneg_left (by omega) (by omega)
        omega
      have e1 : (A / B * B).toInt = Q * B.toInt := by
        rw [Int.mul_comm] at dm
        rw [li_mul (by rw [hq]; omega) (by rw [hq]; omega), hq]
      have e2 : (A - A / B * B).toInt = A.toInt % B.toInt := by
        rw [Int.mul_comm] at dm
        rw [li_sub (by rw [e1]; omega) (by rw [e1]; omega), e1]; omega
      have e3 : (A / B * T).toInt = Q * T.toInt := by
        rw [li_mul (by rw [hq]; omega) (by rw [hq]; omega), hq]
      have e4 : (S - A / B * T).toInt = S.toInt - Q * T.toInt := by
        rw [li_sub (by rw [e3]; omega) (by rw [e3]; omega), e3]
      have hkA : A.toInt % B.toInt = ((A.toInt.natAbs % k : Nat) : Int) := by
        rw [hB, Int.natCast_emod]; congr 1; omega
      obtain ⟨n, hn⟩ := ih (A.toInt.natAbs % k) (Nat.mod_lt _ (by omega)) B (A - A / B * B) T (S - A / B * T) (by rw [e2, hkA]) (by rw [e2]; exact rl.2) (by omega) (by
          have : B.toInt.natAbs = k := by omega
          rw [this, Nat.gcd_comm, ← Nat.gcd_rec, Nat.gcd_comm]; exact hg) d2 (by
          rw [e2, e4]
          have := Int.dvd_sub d1 (Int.dvd_mul_of_dvd_right (b := Q) d2)
          rwa [show S.toInt * x - A.toInt - Q * (T.toInt * x - B.toInt) = (S.toInt - Q * T.toInt) * x - A.toInt % B.toInt by grind] at this) (by
          have h1 : (T.toInt.natAbs : Int) * B.toInt ≤ (T.toInt.natAbs : Int) * A.toInt := Int.mul_le_mul_of_nonneg_left (by omega) (by omega)
          have h2 : 0 ≤ (S.toInt.natAbs : Int) * B.toInt := Int.mul_nonneg (by omega) (by omega)
          omega) (by
          rw [e2, e4]
          have h1 : ((S.toInt - Q * T.toInt).natAbs : Int) ≤ (S.toInt.natAbs : Int) + (T.toInt.natAbs : Int) * Q := by omega
          have h2 : ((S.toInt - Q * T.toInt).natAbs : Int) * B.toInt ≤ ((S.toInt.natAbs : Int) + (T.toInt.natAbs : Int) * Q) * B.toInt := Int.mul_le_mul_of_nonneg_right h1 (by omega)
          have h3 : ((S.toInt.natAbs : Int) + (T.toInt.natAbs : Int) * Q) * B.toInt + (T.toInt.natAbs : Int) * (A.toInt % B.toInt) = (T.toInt.natAbs : Int) * A.toInt + (S.toInt.natAbs : Int) * B.toInt := by grind
          omega)
      exact ⟨n + 1, br_f hB0 ⟨hB0, nm_e (nm_e (nm_e hn))⟩⟩
theorem fd_inverse {post : Int64 → Prop} {x : Int64} {p : Int} (hpr : pr.toInt = p) (hp : po_prime p) (hp2 : p < 4611686018427387904) (hx0 : 0 ≤ x.toInt) (hx : ¬ p ∣ x.toInt) (H : ∀ r : Int64, 0 < r.toInt → r.toInt < p → p ∣ r.toInt * x.toInt - 1 → post r) : wpX_inverse post (fc, mo, pr, lc, dc, a, a2, a3, a4, a5, a6) x := by
  have hp1 := hp.1
  refine ⟨li_ne0.mpr (by omega), nm_e ?_⟩
  have e : (x - x / pr * pr).toInt = x.toInt % p := by rw [li_remN hx0, hpr]
  have rl := li_emod (a := x.toInt) (show 0 < p by omega)
  have ds : p ∣ x.toInt - x.toInt % p := Int.dvd_self_sub_emod
  refine fd_invL hp1 hp2 hpr H (x.toInt % p).natAbs pr _ 0 1 (by rw [e]; omega) (by rw [e, hpr]; exact rl.2) (by omega) ?_ ?_ ?_ ?_ ?_
  · rw [hpr]
    have : ¬ p ∣ x.toInt % p := fun z => hx (by have := Int.dvd_add ds z; rwa [show x.toInt - x.toInt % p + x.toInt % p = x.toInt by omega] at this)
    exact hp.2 _ this
  · rw [li_0, hpr, Int.zero_mul, Int.zero_sub]; exact Int.dvd_neg.mpr (Int.dvd_refl p)
  · rw [li_1, e, Int.one_mul]; exact ds
  · rw [li_0]; simp; omega
  · rw [li_0, li_1, hpr]; simp
end
end
section
/-! divisibility and combinations modulo m -/
theorem po_fin_0 {m : Int} {f : po_P} {n : Nat} (h : ∀ i, n ≤ i → f i = 0) : po_fin m f := ⟨n, fun i hi => by rw [h i hi]; exact Int.dvd_zero m⟩
theorem fd_r_fin (m : Int) (a : Nat → Int64) (s : Nat) : po_fin m (fd_r a s) := po_fin_0 (fd_r_12 a s)
theorem po_dv_r (m : Int) (T : po_P) : po_dv m T T := ⟨po_C 1, po_fin_C _ _, po_eq_e (by funext i; rw [po_mul_comm, po_mul_C]; omega)⟩
theorem po_dv_eq {m : Int} {T f g : po_P} (h : po_dv m T f) (e : po_eq m f g) : po_dv m T g := by
  obtain ⟨q, f1, hq⟩ := h
  exact ⟨q, f1, po_eq_t (po_eq_s e) hq⟩
theorem po_dv_eqL {m : Int} {T T' f : po_P} (h : po_dv m T f) (e : po_eq m T T') : po_dv m T' f := by
  obtain ⟨q, f1, hq⟩ := h
  exact ⟨q, f1, po_eq_t hq (po_eq_mul e (po_eq_r m q))⟩
theorem po_dv_0 (m : Int) (T : po_P) {f : po_P} (h : ∀ i, m ∣ f i) : po_dv m T f := ⟨po_C 0, po_fin_C _ _, fun i => by
  rw [po_mul_comm, po_mul_C, Int.zero_mul, Int.sub_zero]; exact h i⟩
theorem ga_dvt {R : Type} [Lean.Grind.CommRing R] {m T f g q r x y : R} (h : f = T * q + m * x) (k : g = f * r + m * y) : g = T * (q * r) + m * (x * r + y) := by grind
theorem po_dv_t {m : Int} {T f g : po_P} (h : po_dv m T f) (k : po_dv m f g) : po_dv m T g := by
  obtain ⟨q, f1, hq⟩ := h
  obtain ⟨r, f2, hr⟩ := k
  obtain ⟨x, hx⟩ := po_eq_ex hq
  obtain ⟨y, hy⟩ := po_eq_ex hr
  exact ⟨po_mul q r, po_fin_mul f1 f2, po_ex_eq (@ga_dvt po_P po_ring _ _ _ _ _ _ _ _ hx hy)⟩
theorem ga_dvc {R : Type} [Lean.Grind.CommRing R] {m T A B U V g q r x y z : R} (h : A = T * q + m * x) (k : B = T * r + m * y) (l : g = U * A + V * B + m * z) : g = T * (U * q + V * r) + m * (U * x + V * y + z) := by grind
theorem po_dv_cb {m : Int} {T A B g : po_P} (h : po_dv m T A) (k : po_dv m T B) (l : po_cb m A B g) : po_dv m T g := by
  obtain ⟨q, f1, hq⟩ := h
  obtain ⟨r, f2, hr⟩ := k
  obtain ⟨U, V, f3, f4, hl⟩ := l
  obtain ⟨x, hx⟩ := po_eq_ex hq
  obtain ⟨y, hy⟩ := po_eq_ex hr
  obtain ⟨z, hz⟩ := po_eq_ex hl
  exact ⟨po_add (po_mul U q) (po_mul V r), po_fin_add (po_fin_mul f3 f1) (po_fin_mul f4 f2), po_ex_eq (@ga_dvc po_P po_ring _ _ _ _ _ _ _ _ _ _ _ _ hx hy hz)⟩
theorem po_cb_l (m : Int) (A B : po_P) : po_cb m A B A := ⟨po_C 1, po_C 0, po_fin_C _ _, po_fin_C _ _, po_eq_e (by funext i; show _ = po_mul _ _ i + po_mul _ _ i; rw [po_mul_C, po_mul_C]; omega)⟩
theorem po_cb_r (m : Int) (A B : po_P) : po_cb m A B B := ⟨po_C 0, po_C 1, po_fin_C _ _, po_fin_C _ _, po_eq_e (by funext i; show _ = po_mul _ _ i + po_mul _ _ i; rw [po_mul_C, po_mul_C]; omega)⟩
theorem po_cb_eq {m : Int} {A B f g : po_P} (h : po_cb m A B f) (e : po_eq m f g) : po_cb m A B g := by
  obtain ⟨U, V, f1, f2, h⟩ := h
  exact ⟨U, V, f1, f2, po_eq_t (po_eq_s e) h⟩
theorem ga_cbt {R : Type} [Lean.Grind.CommRing R] {m A B f g h U V U' V' U2 V2 x y z : R} (k : f = U * A + V * B + m * x) (l : g = U' * A + V' * B + m * y) (n : h = U2 * f + V2 * g + m * z) : h = (U2 * U + V2 * U') * A + (U2 * V + V2 * V') * B + m * (U2 * x + V2 * y + z) := by grind
theorem po_cb_t {m : Int} {A B f g h : po_P} (k : po_cb m A B f) (l : po_cb m A B g) (n : po_cb m f g h) : po_cb m A B h := by
  obtain ⟨U, V, f1, f2, k⟩ := k
  obtain ⟨U', V', f3, f4, l⟩ := l
  obtain ⟨U2, V2, f5, f6, n⟩ := n
  obtain ⟨x, hx⟩ := po_eq_ex k
  obtain ⟨y, hy⟩ := po_eq_ex l
  obtain ⟨z, hz⟩ := po_eq_ex n
  exact ⟨_, _, po_fin_add (po_fin_mul f5 f1) (po_fin_mul f6 f3), po_fin_add (po_fin_mul f5 f2) (po_fin_mul f6 f4), po_ex_eq (@ga_cbt po_P po_ring _ _ _ _ _ _ _ _ _ _ _ _ _ _ _ hx hy hz)⟩
theorem ga_one {R : Type} [Lean.Grind.CommRing R] {m A B q r x : R} (h : A = q * B + r + m * x) : A = q * B + 1 * r + m * x ∧ r = 1 * A + (0 - q) * B + m * (0 - x) := by
  constructor <;> grind
/-- one step of Euclid: A = q B + r -/
theorem po_cb_s {m : Int} {A B q r : po_P} (fq : po_fin m q) (h : po_eq m A (po_add (po_mul q B) r)) : po_cb m B r A ∧ po_cb m A B r := by
  obtain ⟨x, hx⟩ := po_eq_ex h
  obtain ⟨h1, h2⟩ := @ga_one po_P po_ring _ _ _ _ _ _ hx
  exact ⟨⟨q, po_C 1, fq, po_fin_C _ _, po_ex_eq h1⟩, ⟨po_C 1, po_sub (po_C 0) q, po_fin_C _ _, po_fin_sub (po_fin_C _ _) fq, po_ex_eq h2⟩⟩
theorem po_dv_mulR {m : Int} {T f : po_P} (g : po_P) (hg : po_fin m g) (h : po_dv m T f) : po_dv m T (po_mul f g) := po_dv_t h ⟨g, hg, po_eq_r _ _⟩
theorem po_dv_mulL {m : Int} {T f : po_P} (g : po_P) (hg : po_fin m g) (h : po_dv m T f) : po_dv m T (po_mul g f) := po_dv_eq (po_dv_mulR g hg h) (po_eq_e (by funext i; exact po_mul_comm _ _ i))
/-- the monic greatest common divisor modulo p -/
def fd_gcd (p : Int) (A B g : po_P) : Prop := fd_rd p g ∧ po_cb p A B g ∧ po_dv p g A ∧ po_dv p g B ∧ ((∀ i, g i = 0) ∨ ∃ d, d < 12 ∧ g d = 1 ∧ ∀ i, d < i → g i = 0)
end
section
/-! derivative, monic, division and greatest common divisor modulo a prime -/
def po_der (f : po_P) : po_P := fun i => ((i : Int) + 1) * f (i + 1)
/-- row f with the places from lo up to hi taken from g -/
def fd_rng (lo hi : Nat) (g f : po_P) : po_P := fun j => if lo ≤ j ∧ j < hi then g j else f j
theorem fd_rng_0 (lo : Nat) (g f : po_P) : fd_rng lo lo g f = f := by funext j; simp only [fd_rng]; rw [if_neg (by omega)]
theorem fd_rng_s {lo hi : Nat} {g f : po_P} {v : Int} (h : lo ≤ hi) (hv : v = g hi) : fd_w (fd_rng lo hi g f) hi v = fd_rng lo (hi + 1) g f := by
  funext j; simp only [fd_rng, fd_w]
  by_cases e : j = hi
  · subst e; rw [if_pos rfl, if_pos (by omega), hv]
  · rw [if_neg e]
    by_cases k : lo ≤ j ∧ j < hi
    · rw [if_pos k, if_pos (by omega)]
    · rw [if_neg k, if_neg (by omega)]
theorem fd_rng_hi {lo hi : Nat} {g f : po_P} : fd_rng lo hi g f hi = f hi := by simp only [fd_rng]; rw [if_neg (by omega)]
theorem fd_rfill {s : Nat → Int64} {B : Nat → po_P} {t lo hi : Nat} {g f : po_P} {v : Int64} (hlo : lo ≤ hi) (hi12 : hi < 12) (h : fd_r s = fd_u B t (fd_rng lo hi g f)) (hv : v.toInt = g hi) : fd_r (vp_updL s (12 * t + hi) v) = fd_u B t (fd_rng lo (hi + 1) g f) := by
  rw [fd_upd hi12, h, fd_u_s, fd_u_u, fd_rng_s hlo hv]
theorem fd_rget {s : Nat → Int64} {B : Nat → po_P} {t j : Nat} {f : po_P} (hj : j < 12) (h : fd_r s = fd_u B t f) : (s (12 * t + j)).toInt = f j := by
  rw [← fd_r_i hj, h, fd_u_s]
theorem fd_rgetn {s : Nat → Int64} {B : Nat → po_P} {t q j : Nat} {f : po_P} (hq : q ≠ t) (hj : j < 12) (h : fd_r s = fd_u B t f) : (s (12 * q + j)).toInt = B q j := by
  rw [← fd_r_i hj, h, fd_u_n hq]
theorem li_mm {x y m : Int} (hx : 0 ≤ x) (hy : 0 ≤ y) (hx2 : x < m) (hy2 : y < m) (hm : m ≤ 2147483648) : 0 ≤ x * y ∧ x * y < 9223372036854775808 := by
  refine ⟨Int.mul_nonneg hx hy, ?_⟩
  have h1 : x * y ≤ x * m := Int.mul_le_mul_of_nonneg_left (by omega) hx
  have h2 : x * m ≤ m * m := Int.mul_le_mul_of_nonneg_right (by omega) (by omega)
  have h3 : m * m ≤ m * 2147483648 := Int.mul_le_mul_of_nonneg_left hm (by omega)
  omega
theorem li_sm (x y m : Int) : (x - y % m) % m = (x - y) % m := by rw [Int.sub_emod, Int.emod_emod, ← Int.sub_emod]
section
variable {fc lc dc : Int32} {mo pr : Int64} {a : Nat → Int64} {a2 : Nat → Int32} {a3 : Nat → Int64} {a4 a5 a6 : Nat → Int32}
theorem fd_deriveInto {post : St1 → Prop} {t f : Nat} (ht : t < 26) (hf : f < 26) (htf : f ≠ t) (hb : ∀ i, -500000000000000000 ≤ fd_r a f i ∧ fd_r a f i ≤ 500000000000000000) (H : ∀ a', fd_r a' = fd_u (fd_r a) t (po_der (fd_r a f)) → post (fc, mo, pr, lc, dc, a', a2, a3, a4, a5, a6)) : wpX_deriveInto post (fc, mo, pr, lc, dc, a, a2, a3, a4, a5, a6) (nI t) (nI f) :=
  pk_loop (fun n i s => wX_deriveInto_2 post (nI t) (nI f) fc mo pr lc dc n (nI i) s a2 a3 a4 a5 a6) (fun i s => fd_r s = fd_u (fd_r a) t (fd_mix i (po_der (fd_r a f)) (fd_r a t))) 11 0 a (by omega) (by rw [fd_mix_0, fd_u_id])
    (fun n s h => pk_le 11 11 (fun _ => by
      have e : ((12 * nI t + 12) - 1 : Int32) = nI (12 * t + 11) := by
        rw [show (12 * nI t + 12 : Int32) = nI (12 * t + 12) from li_ix t 12, show (1 : Int32) = nI 1 from rfl, pk_sub (by omega)]; congr 1
      refine ⟨pk_in (12 * t + 11) 312 (by omega) e, nm_r (by rw [e, nI_clamp (by omega)]) (H (vp_updL s (12 * t + 11) 0) ?_)⟩
      refine fd_end (fd_r_12 a t) (fun i hi => ?_) (fd_fill (by omega) h ?_)
      · show _ * _ = _
        rw [fd_r_12 a f (i + 1) (by omega)]; exact Int.mul_zero _
      · show (0 : Int) = _ * _
        rw [fd_r_12 a f 12 (by omega)]; exact (Int.mul_zero _).symm) (fun z => absurd z (by omega)))
    (fun n i s hi h hw => pk_le 11 i (fun z => absurd z (by omega)) (fun _ => by
      have e : ((12 * nI f + nI i) + 1 : Int32) = nI (12 * f + (i + 1)) := by rw [li_ix, nI_1]; congr 1
      refine ⟨pk_in (12 * f + (i + 1)) 312 (by omega) e, pk_in (12 * t + i) 312 (by omega) (li_ix t i), nm_r (by rw [e, li_ix, nI_clamp (by omega), nI_clamp (by omega)]) (nm_r (nI_1 i) (hw _ (fd_fill (v := (nI i + 1).toInt64 * s (12 * f + (i + 1))) (by omega) h ?_)))⟩
      have e1 : ((nI i + 1).toInt64).toInt = (i : Int) + 1 := by rw [nI_1, Int32.toInt_toInt64, nI_toInt (by omega)]; rfl
      have e2 : (s (12 * f + (i + 1))).toInt = fd_r a f (i + 1) := by rw [← fd_r_i (show i + 1 < 12 by omega), h, fd_u_n htf]
      have b := hb (i + 1)
      have l1 : ((i : Int) + 1) * fd_r a f (i + 1) ≤ ((i : Int) + 1) * 500000000000000000 := Int.mul_le_mul_of_nonneg_left b.2 (by omega)
      have l2 : ((i : Int) + 1) * (-500000000000000000) ≤ ((i : Int) + 1) * fd_r a f (i + 1) := Int.mul_le_mul_of_nonneg_left b.1 (by omega)
      rw [li_mul (by rw [e1, e2]; omega) (by rw [e1, e2]; omega), e1, e2]; rfl))
/-- f times the inverse of its leading coefficient -/
def fd_mn (p : Int) (f g : po_P) : Prop := ((∀ i, f i = 0) ∧ g = f) ∨ ∃ (b : Int) (d : Nat), d < 12 ∧ f d ≠ 0 ∧ (∀ i, d < i → f i = 0) ∧ p ∣ b * f d - 1 ∧ 0 < b ∧ b < p ∧ g = fun i => f i * b % p
theorem fd_makeMonic {post : St1 → Prop} {t : Nat} {p : Int} (ht : t < 26) (hmo : mo.toInt = p) (hpr : pr.toInt = p) (hp : po_prime p) (hp2 : p ≤ 2147483648) (hA : fd_rd p (fd_r a t)) (H : ∀ a' g, fd_r a' = fd_u (fd_r a) t g → fd_mn p (fd_r a t) g → post (fc, mo, pr, lc, dc, a', a2, a3, a4, a5, a6)) : wpX_makeMonic post (fc, mo, pr, lc, dc, a, a2, a3, a4, a5, a6) (nI t) := by
  have hp1 := hp.1
  unfold wpX_makeMonic
  dsimp only
  refine fd_leadOf ht (fun h0 => ?_) (fun d x hd hx h1 h2 => br_f (li_ne0.mpr (by rw [hx]; exact h1)) ?_)
  · exact br_t rfl (H a (fd_r a t) (fd_u_id _ _).symm (Or.inl ⟨h0, rfl⟩))
  obtain ⟨r1, r2⟩ := hA d
  refine fd_inverse hpr hp (by omega) (by rw [hx]; exact r1) (fun z => h1 (fd_rd_0 _ hA (by rw [← hx]; exact z))) (fun b b1 b2 b3 => ?_)
  refine fd_scale ht (by omega) (fun i => ?_) (fun a' ha' => H a' _ ha' (Or.inr ⟨b.toInt, d, hd, h1, h2, by rw [← hx]; exact b3, b1, b2, by rw [hmo]⟩))
  obtain ⟨s1, s2⟩ := hA i
  have := li_mm s1 (by omega) s2 b2 hp2
  exact ⟨by omega, this.2⟩
theorem fd_dm88 {post : St1 → Prop} {J : Int32 → (Nat → Int64) → (Nat → Int32) → (Nat → Int64) → (Nat → Int32) → (Nat → Int32) → (Nat → Int32) → Prop} {y e i : Nat} {by_ q : Int64} {m : Int} {B : Nat → po_P} (hy : y < 26) (hy10 : y ≠ 10) (hie : i + e < 12) (hm : 0 < m) (hm2 : m ≤ 2147483648) (hmo : mo.toInt = m) (q1 : 0 ≤ q.toInt) (q2 : q.toInt < m) (hB : fd_rd m (B y)) (hr : fd_rd m (B 10)) (h0 : fd_r a = B)
    (H : ∀ a', fd_r a' = fd_u B 10 (fd_rng i (i + e + 1) (fun j => (B 10 j - q.toInt * B y (j - i)) % m) (B 10)) → J (nI i + (-1)) a' a2 a3 a4 a5 a6) : ∃ n, wX_divideModulo_88 post J (nI y) (nI e) by_ (nI i) q fc mo pr lc dc n 0 a a2 a3 a4 a5 a6 :=
  pk_loop (fun n k s => wX_divideModulo_88 post J (nI y) (nI e) by_ (nI i) q fc mo pr lc dc n (nI k) s a2 a3 a4 a5 a6) (fun k s => fd_r s = fd_u B 10 (fd_rng i (i + k) (fun j => (B 10 j - q.toInt * B y (j - i)) % m) (B 10))) (e + 1) 0 a (by omega) (by rw [Nat.add_zero, fd_rng_0, fd_u_id, h0])
    (fun n s h => pk_lt e (e + 1) (fun _ => nm_e (H s h)) (fun z => absurd z (by omega)))
    (fun n k s hk h hw => pk_lt e k (fun z => absurd z (by omega)) (fun _ => by
      have ei : ((120 + nI i) + nI k : Int32) = nI (12 * 10 + (i + k)) := by
        rw [show (120 : Int32) = nI 120 from rfl, nI_add, nI_add]; congr 1; omega
      have g1 := fd_rgetn (q := y) (j := k) hy10 (by omega) h
      have g2 := fd_rget (j := i + k) (by omega) h
      rw [fd_rng_hi] at g2
      obtain ⟨b1, b2⟩ := hB k
      obtain ⟨c1, c2⟩ := hr (i + k)
      have mm := li_mm q1 b1 q2 b2 hm2
      have em : (q * s (12 * y + k)).toInt = q.toInt * B y k := by rw [li_mul (by rw [g1]; omega) (by rw [g1]; omega), g1]
      have er : (q * s (12 * y + k) - q * s (12 * y + k) / mo * mo).toInt = q.toInt * B y k % m := by rw [li_remN (by omega), em, hmo]
      have rl := li_emod (a := q.toInt * B y k) hm
      refine ⟨pk_in (12 * y + k) 312 (by omega) (li_ix y k), li_ne0.mpr (by omega), ?_⟩
      rw [li_ix, nI_clamp (by omega)]
      refine nm_e ⟨pk_in (12 * 10 + (i + k)) 312 (by omega) ei, fd_rest (by omega) (fun r hr' => ⟨pk_in (12 * 10 + (i + k)) 312 (by omega) ei, nm_r (by rw [ei, nI_clamp (by omega)]) (nm_r (nI_1 k) (hw _ (fd_rfill (hi := i + k) (v := r) (by omega) (by omega) h ?_)))⟩)⟩
      rw [hr', ei, nI_clamp (by omega), li_sub (by rw [er, g2]; omega) (by rw [er, g2]; omega), er, g2, hmo, li_sm, show i + k - i = k by omega]))
theorem ga_dm {R : Type} [Lean.Grind.CommRing R] {m A B q r X x z r' : R} (h : A = q * B + r + m * x) (k : r' = r - X * B + m * z) : A = (q + X) * B + r' + m * (x - z) := by grind
theorem fd_dm46 {post : St1 → Prop} {y e : Nat} {by_ : Int64} {p : Int} {B : Nat → po_P} {A : po_P} (hy : y < 26) (hy9 : y ≠ 9) (hy10 : y ≠ 10) (hmo : mo.toInt = p) (hp1 : 1 < p) (hp2 : p ≤ 2147483648) (hB : fd_rd p (B y)) (he2 : ∀ i, e < i → B y i = 0) (b1 : 0 < by_.toInt) (b2 : by_.toInt < p) (b3 : p ∣ by_.toInt * B y e - 1) {D : Nat}
    (H : ∀ a' q r, fd_r a' = fd_u (fd_u B 10 r) 9 q → fd_rd p q → fd_rd p r → po_eq p A (po_add (po_mul q (B y)) r) → (∀ i, e ≤ i → r i = 0) → (∀ i, D < i + e → q i = 0) → post (fc, mo, pr, lc, dc, a', a2, a3, a4, a5, a6)) :
    ∀ (c : Nat) (s : Nat → Int64) (q r : po_P), c + e ≤ 12 → c + e ≤ D + 1 → fd_r s = fd_u (fd_u B 10 r) 9 q → fd_rd p q → fd_rd p r → po_eq p A (po_add (po_mul q (B y)) r) → (∀ i, c + e ≤ i → r i = 0) → (∀ i, i < c → q i = 0) → (∀ i, D < i + e → q i = 0) → wX_divideModulo_46 post (nI y) (nI e) by_ fc mo pr lc dc (c + 1) (nI c + (-1)) s a2 a3 a4 a5 a6 := by
  intro c
  induction c with
  | zero => intro s q r _ _ hs hq hr hA h1 h2 h3; exact br_t (by decide) (H s q r hs hq hr hA (fun i hi => h1 i (by omega)) h3)
  | succ c ih =>
    intro s q r hc hcD hs hq hr hA h1 h2 h3
    rw [pk_m1]
    have ei : ((120 + nI c) + nI e : Int32) = nI (12 * 10 + (c + e)) := by
      rw [show (120 : Int32) = nI 120 from rfl, nI_add, nI_add]; congr 1; omega
    have ej : (108 + nI c : Int32) = nI (12 * 9 + c) := by
      rw [show (108 : Int32) = nI 108 from rfl, nI_add]
    have g1 : (s (12 * 10 + (c + e))).toInt = r (c + e) := by rw [← fd_r_i (show c + e < 12 by omega), hs, fd_u_n (by omega), fd_u_s]
    obtain ⟨r1, r2⟩ := hr (c + e)
    have mm := li_mm r1 (by omega) r2 b2 hp2
    have em : (s (12 * 10 + (c + e)) * by_).toInt = r (c + e) * by_.toInt := by rw [li_mul (by rw [g1]; omega) (by rw [g1]; omega), g1]
    have er : (s (12 * 10 + (c + e)) * by_ - s (12 * 10 + (c + e)) * by_ / mo * mo).toInt = r (c + e) * by_.toInt % p := by rw [li_remN (by omega), em, hmo]
    have rl := li_emod (a := r (c + e) * by_.toInt) (show 0 < p by omega)
    refine br_f (nI_pos (by omega)) ⟨pk_in (12 * 10 + (c + e)) 312 (by omega) ei, li_ne0.mpr (by omega), ?_⟩
    rw [ei, nI_clamp (by omega)]
    refine nm_e ⟨pk_in (12 * 9 + c) 312 (by omega) ej, ?_⟩
    rw [ej, nI_clamp (by omega)]
    generalize hqv : s (12 * 10 + (c + e)) * by_ - s (12 * 10 + (c + e)) * by_ / mo * mo = qv at *
    have hs' : fd_r (vp_updL s (12 * 9 + c) qv) = fd_u (fd_u B 10 r) 9 (fd_w q c qv.toInt) := by rw [fd_upd (by omega), hs, fd_u_s, fd_u_u]
    have k10 : fd_u (fd_u B 10 r) 9 (fd_w q c qv.toInt) 10 = r := by rw [fd_u_n (by omega), fd_u_s]
    have ky : fd_u (fd_u B 10 r) 9 (fd_w q c qv.toInt) y = B y := by rw [fd_u_n hy9, fd_u_n hy10]
    refine nm_e (fd_dm88 (m := p) hy hy10 (by omega) (by omega) hp2 hmo (by omega) (by omega) (by rw [ky]; exact hB) (by rw [k10]; exact hr) hs' (fun a' ha' => ?_))
    rw [k10, ky] at ha'
    have ht : p ∣ r (c + e) - qv.toInt * B y e := by
      have f1 : p ∣ r (c + e) * by_.toInt - qv.toInt := by rw [er]; exact Int.dvd_self_sub_emod
      have f2 := Int.dvd_sub (Int.dvd_mul_of_dvd_left (c := B y e) f1) (Int.dvd_mul_of_dvd_right (b := r (c + e)) b3)
      rwa [show (r (c + e) * by_.toInt - qv.toInt) * B y e - r (c + e) * (by_.toInt * B y e - 1) = r (c + e) - qv.toInt * B y e by grind] at f2
    have qX : fd_w q c qv.toInt = po_add q (po_X c qv.toInt) := by
      funext j; simp only [fd_w, po_add, po_X]
      by_cases z : j = c
      · rw [if_pos z, if_pos z, z, h2 c (by omega)]; omega
      · rw [if_neg z, if_neg z]; omega
    have hr'' : fd_rd p (fd_rng c (c + e + 1) (fun j => (r j - qv.toInt * B y (j - c)) % p) r) := by
      intro j; simp only [fd_rng]; split
      · exact li_emod (by omega)
      · exact hr j
    have er'' : po_eq p (fd_rng c (c + e + 1) (fun j => (r j - qv.toInt * B y (j - c)) % p) r) (po_sub r (po_mul (po_X c qv.toInt) (B y))) := by
      intro j
      show p ∣ fd_rng _ _ _ r j - (r j - po_mul _ _ j)
      rw [po_mul_X]; simp only [fd_rng]
      by_cases z : c ≤ j ∧ j < c + e + 1
      · rw [if_pos z, if_pos z.1]
        exact fd_em_eq p (fun j => r j - qv.toInt * B y (j - c)) j
      · rw [if_neg z]
        by_cases z1 : c ≤ j
        · rw [if_pos z1, he2 (j - c) (by omega)]; simp
        · rw [if_neg z1]; simp
    obtain ⟨x, hx⟩ := po_eq_ex hA
    obtain ⟨z, hz⟩ := po_eq_ex er''
    refine ih a' (fd_w q c qv.toInt) _ (by omega) (by omega) (ha'.trans ?_) ?_ hr'' ?_ ?_ ?_ ?_
    · rw [fd_u_c (by omega), fd_u_u]
    · intro j; simp only [fd_w]; split
      · omega
      · exact hq j
    · rw [qX]; exact po_ex_eq (@ga_dm po_P po_ring _ _ _ _ _ _ _ _ _ hx hz)
    · intro j hj
      simp only [fd_rng]
      by_cases z : j = c + e
      · rw [if_pos (by omega), z, show c + e - c = e by omega]; exact Int.emod_eq_zero_of_dvd ht
      · rw [if_neg (by omega)]; exact h1 j (by omega)
    · intro j hj; simp only [fd_w]; rw [if_neg (by omega)]; exact h2 j (by omega)
    · intro j hj; simp only [fd_w]; rw [if_neg (by omega)]; exact h3 j hj
theorem fd_divideModulo {post : St1 → Prop} {x y e : Nat} {p : Int} (hx : x < 26) (hy : y < 26) (hy9 : y ≠ 9) (hy10 : y ≠ 10) (hmo : mo.toInt = p) (hpr : pr.toInt = p) (hp : po_prime p) (hp2 : p ≤ 2147483648) (hA : fd_rd p (fd_r a x)) (hB : fd_rd p (fd_r a y)) (he : fd_r a y e ≠ 0) (he2 : ∀ i, e < i → fd_r a y i = 0)
    (H : ∀ a' q r, fd_r a' = fd_u (fd_u (fd_r a) 10 r) 9 q → fd_rd p q → fd_rd p r → po_eq p (fd_r a x) (po_add (po_mul q (fd_r a y)) r) → (∀ i, e ≤ i → r i = 0) → (∀ D, (∀ i, D < i → fd_r a x i = 0) → ∀ i, D < i + e → q i = 0) → post (fc, mo, pr, lc, dc, a', a2, a3, a4, a5, a6)) :
    wpX_divideModulo post (fc, mo, pr, lc, dc, a, a2, a3, a4, a5, a6) (nI x) (nI y) := by
  have hp1 := hp.1
  have e12 : e < 12 := Classical.byContradiction (fun z => he (fd_r_12 a y e (by omega)))
  unfold wpX_divideModulo
  dsimp only
  refine fd_copy (t := 10) (by omega) hx (fun a' ha => ?_)
  dsimp only
  refine fd_clear (t := 9) (by omega) (fun a'' ha' => ?_)
  dsimp only
  rw [ha] at ha'
  have ry : fd_r a'' y = fd_r a y := by rw [ha', fd_u_n hy9, fd_u_n hy10]
  have r10 : fd_r a'' 10 = fd_r a x := by rw [ha', fd_u_n (by omega), fd_u_s]
  refine fd_degreeOf hy (fun h0 => absurd (by rw [← ry]; exact h0 e) he) (fun d hd h1 h2 => ?_)
  have hde : d = e := by
    rw [ry] at h1 h2
    rcases Nat.lt_trichotomy d e with z | z | z
    · exact absurd (h2 e z) he
    · exact z
    · exact absurd (he2 d z) h1
  subst hde
  refine ⟨pk_in (12 * y + d) 312 (by omega) (li_ix y d), ?_⟩
  rw [li_ix, nI_clamp (by omega)]
  have gl : (a'' (12 * y + d)).toInt = fd_r a y d := by rw [← fd_r_i hd, ry]
  obtain ⟨l1, l2⟩ := hB d
  refine fd_inverse hpr hp (by omega) (by rw [gl]; exact l1) (fun z => he (fd_rd_0 _ hB (by rw [← gl]; exact z))) (fun b b1 b2 b3 => ?_)
  rw [gl] at b3
  have eq0 : po_eq p (fd_r a x) (po_add (po_mul (fun _ => 0) (fd_r a y)) (fd_r a x)) := po_eq_e (by funext i; show _ = po_mul _ _ i + _; rw [po_mul_zL]; omega)
  have rd0 : fd_rd p (fun _ => 0) := fun i => ⟨Int.le_refl 0, by show (0 : Int) < p; omega⟩
  refine fd_degreeOf (s := 10) (by omega) (fun h0 => nm_e ⟨1, ?_⟩) (fun D hD hD1 hD2 => nm_e ?_)
  · rw [r10] at h0
    have neg : (-1 : Int32) - nI d < 0 := by
      have : ∀ d, d < 12 → (-1 : Int32) - nI d < 0 := by decide
      exact this d hd
    exact br_t neg (H a'' (fun _ => 0) (fd_r a x) ha' rd0 hA eq0 (fun i _ => h0 i) (fun _ _ _ _ => rfl))
  · rw [r10] at hD1 hD2
    have key := fd_dm46 (post := post) (fc := fc) (pr := pr) (lc := lc) (dc := dc) (a2 := a2) (a3 := a3) (a4 := a4) (a5 := a5) (a6 := a6) (A := fd_r a x) (D := D) hy hy9 hy10 hmo hp1 hp2 hB he2 b1 b2 b3 (fun a' q r h h1' h2' h3 h4 h5 => H a' q r h h1' h2' h3 h4 (fun D' hD' i hi => h5 i (by
      have : D ≤ D' := Classical.byContradiction (fun z => hD1 (hD' D (by omega)))
      omega)))
    by_cases z : D < d
    · exact ⟨1, br_t (pk_sneg (by omega) z) (H a'' (fun _ => 0) (fd_r a x) ha' rd0 hA eq0 (fun i hi => hD2 i (by omega)) (fun _ _ _ _ => rfl))⟩
    · have k2 := key (D - d + 1) a'' (fun _ => 0) (fd_r a x) (by omega) (by omega) ha' rd0 hA eq0 (fun i hi => hD2 i (by omega)) (fun _ _ => rfl) (fun _ _ => rfl)
      rw [pk_m1, ← pk_sub (show d ≤ D by omega)] at k2
      exact ⟨_, k2⟩
end
end
section
/-! the greatest common divisor modulo the prime -/
theorem fd_mn_eq {p : Int} {f g : po_P} (hp1 : 1 < p) (h : fd_mn p f g) : (fd_rd p f → fd_rd p g) ∧ po_dv p f g ∧ po_dv p g f ∧ ((∀ i, g i = 0) ∨ ∃ d, d < 12 ∧ g d = 1 ∧ ∀ i, d < i → g i = 0) := by
  rcases h with ⟨h0, rfl⟩ | ⟨b, d, hd, h1, h2, h3, h4, h5, rfl⟩
  · exact ⟨id, po_dv_r _ _, po_dv_r _ _, Or.inl h0⟩
  · have e1 : po_eq p (fun i => f i * b % p) (po_mul f (po_C b)) := fun i => by
      rw [po_mul_comm, po_mul_C, Int.mul_comm b]
      exact fd_em_eq p (fun i => f i * b) i
    have e2 : po_eq p f (po_mul (fun i => f i * b % p) (po_C (f d))) := fun i => by
      have a := e1 i
      rw [po_mul_comm, po_mul_C] at a
      rw [po_mul_comm, po_mul_C]
      have c := Int.dvd_sub (Int.dvd_mul_of_dvd_right (b := f d) a) (Int.dvd_mul_of_dvd_right (b := f i) (Int.dvd_neg.mpr h3))
      have e := Int.dvd_neg.mpr c
      rwa [show -(f d * ((fun i => f i * b % p) i - b * f i) - f i * -(b * f d - 1)) = f i - f d * (fun i => f i * b % p) i by grind] at e
    refine ⟨fun _ i => li_emod (by omega), ⟨_, po_fin_C _ _, e1⟩, ⟨_, po_fin_C _ _, e2⟩, Or.inr ⟨d, hd, ?_, fun i hi => ?_⟩⟩
    · show f d * b % p = 1
      have : (f d * b) % p = 1 % p := Int.emod_eq_emod_iff_emod_sub_eq_zero.mpr (Int.emod_eq_zero_of_dvd (by rw [Int.mul_comm]; exact h3))
      rw [this, Int.emod_eq_of_lt (by omega) hp1]
    · show f i * b % p = 0
      rw [h2 i hi, Int.zero_mul, Int.zero_emod]
theorem po_cb_c {m : Int} {A B f g : po_P} (h : po_cb m A B f) (k : po_dv m f g) : po_cb m A B g := by
  obtain ⟨q, fq, hq⟩ := k
  refine po_cb_t h (po_cb_l m A B) ⟨q, po_C 0, fq, po_fin_C _ _, po_eq_t hq (po_eq_e ?_)⟩
  funext i
  show _ = po_mul _ _ i + po_mul _ _ i
  rw [po_mul_C, po_mul_comm]; omega
section
variable {fc lc dc : Int32} {mo pr : Int64} {a2 : Nat → Int32} {a3 : Nat → Int64} {a4 a5 a6 : Nat → Int32}
/-- the bank after a common divisor: g in t, the work rows 8, 9, 10 changed -/
def fd_b4 (B : Nat → po_P) (t : Nat) (g u8 u9 u10 : po_P) : Nat → po_P := fd_u (fd_u (fd_u (fd_u B 8 u8) 9 u9) 10 u10) t g
theorem fd_b4_t {B : Nat → po_P} {t : Nat} {g u8 u9 u10 : po_P} : fd_b4 B t g u8 u9 u10 t = g := fd_u_s _ _ _
theorem fd_b4_8 {B : Nat → po_P} {t : Nat} {g u8 u9 u10 : po_P} (h : t ≠ 8) : fd_b4 B t g u8 u9 u10 8 = u8 := by
  simp only [fd_b4]; rw [fd_u_n (by omega), fd_u_n (by omega), fd_u_n (by omega), fd_u_s]
theorem fd_b4_10 {B : Nat → po_P} {t : Nat} {g u8 u9 u10 : po_P} (h : t ≠ 10) : fd_b4 B t g u8 u9 u10 10 = u10 := by
  simp only [fd_b4]; rw [fd_u_n (by omega), fd_u_s]
theorem fd_b4_n {B : Nat → po_P} {t s : Nat} {g u8 u9 u10 : po_P} (h : s ≠ t) (h8 : s ≠ 8) (h9 : s ≠ 9) (h10 : s ≠ 10) : fd_b4 B t g u8 u9 u10 s = B s := by
  simp only [fd_b4]; rw [fd_u_n h, fd_u_n h10, fd_u_n h9, fd_u_n h8]
theorem fd_cm24 {post : St1 → Prop} {t : Nat} {p : Int} {A Bq : po_P} {B : Nat → po_P} (ht : t < 26) (t8 : t ≠ 8) (t9 : t ≠ 9) (t10 : t ≠ 10) (hmo : mo.toInt = p) (hpr : pr.toInt = p) (hp : po_prime p) (hp2 : p ≤ 2147483648)
    (H : ∀ a' g u8 u9 u10, fd_r a' = fd_b4 B t g u8 u9 u10 → fd_gcd p A Bq g → post (fc, mo, pr, lc, dc, a', a2, a3, a4, a5, a6)) :
    ∀ (N : Nat) (a : Nat → Int64) (T Z u9 u10 : po_P), fd_r a = fd_b4 B t T Z u9 u10 → fd_rd p T → fd_rd p Z → (∀ i, N ≤ i → Z i = 0) → po_cb p A Bq T → po_cb p A Bq Z → po_cb p T Z A → po_cb p T Z Bq → wX_commonModulo_24 post (nI t) (N + 1) fc mo pr lc dc a a2 a3 a4 a5 a6 := by
  intro N
  have hp1 := hp.1
  induction N with
  | zero =>
    intro a T Z u9 u10 ha hT hZ hN c1 c2 c3 c4
    have eT : fd_r a t = T := by rw [ha, fd_b4_t]
    have eZ : fd_r a 8 = Z := by rw [ha, fd_b4_8 t8]
    unfold wX_commonModulo_24
    refine fd_degreeOf (s := 8) (by omega) (fun h0 => br_t (by decide) ?_) (fun d hd h1 h2 => absurd (by rw [eZ]; exact hN d (by omega)) h1)
    refine fd_makeMonic ht hmo hpr hp hp2 (by rw [eT]; exact hT) (fun a' g ha' hg => ?_)
    rw [eT] at hg
    obtain ⟨g1, g2, g3, g4⟩ := fd_mn_eq hp1 hg
    have z0 : ∀ U : po_P, po_fin p U → po_dv p g (po_mul U Z) := fun U hU => po_dv_0 p g (fun i => by
      rw [po_mul_comm]; exact po_mul_dv i Z (fun j => by rw [hN j (by omega)]; exact Int.dvd_zero p))
    have dz : po_dv p g Z := po_dv_0 p g (fun j => by rw [hN j (by omega)]; exact Int.dvd_zero p)
    exact H a' g Z u9 u10 (by rw [ha', ha]; simp only [fd_b4]; rw [fd_u_u]) ⟨g1 hT, po_cb_c c1 g2, po_dv_cb g3 dz c3, po_dv_cb g3 dz c4, g4⟩
  | succ N ih =>
    intro a T Z u9 u10 ha hT hZ hN c1 c2 c3 c4
    have eT : fd_r a t = T := by rw [ha, fd_b4_t]
    have eZ : fd_r a 8 = Z := by rw [ha, fd_b4_8 t8]
    unfold wX_commonModulo_24
    refine fd_degreeOf (s := 8) (by omega) (fun h0 => br_t (by decide) ?_) (fun d hd h1 h2 => br_f (nI_pos (by omega)) ?_)
    · rw [eZ] at h0
      refine fd_makeMonic ht hmo hpr hp hp2 (by rw [eT]; exact hT) (fun a' g ha' hg => ?_)
      rw [eT] at hg
      obtain ⟨g1, g2, g3, g4⟩ := fd_mn_eq hp1 hg
      have dz : po_dv p g Z := po_dv_0 p g (fun j => by rw [h0 j]; exact Int.dvd_zero p)
      exact H a' g Z u9 u10 (by rw [ha', ha]; simp only [fd_b4]; rw [fd_u_u]) ⟨g1 hT, po_cb_c c1 g2, po_dv_cb g3 dz c3, po_dv_cb g3 dz c4, g4⟩
    · refine fd_divideModulo (y := 8) ht (by omega) (by omega) (by omega) hmo hpr hp hp2 (by rw [eT]; exact hT) (by rw [eZ]; exact hZ) h1 h2 (fun a1 q r ha1 hq hr heq hr0 hq0 => ?_)
      dsimp only
      rw [eT, eZ] at heq
      rw [eZ] at h1 h2
      refine fd_copy (f := 8) ht (by omega) (fun a7 ha7 => ?_)
      dsimp only
      refine fd_copy (t := 8) (f := 10) (by omega) (by omega) (fun a8 ha8 => ?_)
      dsimp only
      have q8 : fd_r a1 8 = Z := by rw [ha1, fd_u_n (by omega), fd_u_n (by omega), eZ]
      have q10 : fd_r a7 10 = r := by rw [ha7, fd_u_n (by omega), ha1, fd_u_n (by omega), fd_u_s]
      have fq : po_fin p q := by
        refine po_fin_0 (n := 12) (fun i hi => ?_)
        have := hq0 11 (fun i hi => fd_r_12 a t i (by omega)) i (by omega)
        exact this
      obtain ⟨s1, s2⟩ := po_cb_s fq heq
      refine ih a8 Z r q r ?_ hZ hr (fun i hi => hr0 i (by
        have : d ≤ N := Classical.byContradiction (fun z => h1 (hN d (by omega)))
        omega)) c2 (po_cb_t c1 c2 s2) (po_cb_t s1 (po_cb_l _ _ _) c3) (po_cb_t s1 (po_cb_l _ _ _) c4)
      rw [ha8, q10, ha7, q8, ha1, ha]
      simp only [fd_b4]
      funext s
      simp only [fd_u]
      by_cases e1 : s = t
      · subst e1; simp [t8, t9, t10]
      · by_cases e2 : s = 8
        · subst e2; simp [e1]
        · by_cases e3 : s = 9
          · subst e3; simp [e1]
          · by_cases e4 : s = 10
            · subst e4; simp [e1]
            · simp [e1, e2, e3, e4]
theorem fd_commonModulo {post : St1 → Prop} {a : Nat → Int64} {t x y : Nat} {p : Int} (ht : t < 26) (t8 : t ≠ 8) (t9 : t ≠ 9) (t10 : t ≠ 10) (hx : x < 26) (hy : y < 26) (hyt : y ≠ t) (hmo : mo.toInt = p) (hpr : pr.toInt = p) (hp : po_prime p) (hp2 : p ≤ 2147483648)
    (H : ∀ a' g u8 u9 u10, fd_r a' = fd_b4 (fd_r a) t g u8 u9 u10 → fd_gcd p (fd_r a x) (fd_r a y) g → post (fc, mo, pr, lc, dc, a', a2, a3, a4, a5, a6)) :
    wpX_commonModulo post (fc, mo, pr, lc, dc, a, a2, a3, a4, a5, a6) (nI t) (nI x) (nI y) := by
  have hp1 := hp.1
  unfold wpX_commonModulo
  dsimp only
  refine fd_copy ht hx (fun b1 h1 => ?_)
  dsimp only
  refine fd_copy (t := 8) (by omega) hy (fun b2 h2 => ?_)
  dsimp only
  refine fd_reduce ht (by omega) (fun b3 h3 => ?_)
  dsimp only
  refine fd_reduce (t := 8) (by omega) (by omega) (fun b4 h4 => ?_)
  dsimp only
  rw [hmo] at h3 h4
  have e2y : fd_r b1 y = fd_r a y := by rw [h1, fd_u_n hyt]
  have e2t : fd_r b2 t = fd_r a x := by rw [h2, fd_u_n t8, h1, fd_u_s]
  have e38 : fd_r b3 8 = fd_r a y := by rw [h3, fd_u_n (by omega), h2, fd_u_s, e2y]
  have key := fd_cm24 (post := post) (fc := fc) (lc := lc) (dc := dc) (a2 := a2) (a3 := a3) (a4 := a4) (a5 := a5) (a6 := a6) (A := fd_r a x) (Bq := fd_r a y) (B := fd_r a) ht t8 t9 t10 hmo hpr hp hp2 H
  have em : ∀ f, po_eq p f (fd_em p f) := fun f => po_eq_s (fd_em_eq p f)
  refine ⟨13, key 12 b4 (fd_em p (fd_r a x)) (fd_em p (fd_r a y)) (fd_r a 9) (fd_r a 10) ?_ (fd_em_rd (by omega) _) (fd_em_rd (by omega) _) (fun i hi => ?_) (po_cb_eq (po_cb_l _ _ _) (em _)) (po_cb_eq (po_cb_r _ _ _) (em _)) (po_cb_eq (po_cb_l _ _ _) (fd_em_eq p _)) (po_cb_eq (po_cb_r _ _ _) (fd_em_eq p _))⟩
  · rw [h4, e38, h3, e2t, h2, e2y, h1]
    simp only [fd_b4]
    funext s
    simp only [fd_u]
    by_cases e1 : s = t
    · subst e1; simp [t8]
    · by_cases e2 : s = 8
      · subst e2; simp [e1]
      · by_cases e3 : s = 9
        · subst e3; simp [e1]
        · by_cases e4 : s = 10
          · subst e4; simp [e1]
          · simp [e1, e2, e3, e4]
  · show fd_r a y i % p = 0
    rw [fd_r_12 a y i hi, Int.zero_emod]
end
end
section
/-! division with whole (wrapping) coefficients -/
theorem po_quot {m : Int} {A B : po_P} {e D : Nat} (hB : po_dl m (e + 1) B) (hl : ∀ x, m ∣ x * B e → m ∣ x) (hA : po_dl m (D + 1) A) : ∀ (d : Nat) (Q : po_P), po_dl m d Q → po_eq m A (po_mul Q B) → ∀ j, D < j + e → m ∣ Q j
  | 0, Q, hQ, _, j, _ => hQ j (by omega)
  | d + 1, Q, hQ, h, j, hj => by
    by_cases z : d + e ≤ D
    · exact hQ j (by omega)
    · refine po_quot hB hl hA d Q (fun i hi => ?_) h j hj
      by_cases y : i = d
      · subst y
        have c := (po_dl_mul hB i Q hQ).2
        have b := (po_eq_i h (i + e)).mp (hA (i + e) (by omega))
        have := Int.dvd_sub b c
        rw [show po_mul Q B (i + e) - (po_mul Q B (i + e) - Q i * B e) = Q i * B e by omega] at this
        exact hl _ this
      · exact hQ i (by omega)
theorem li_bm (x : Int) : (18446744073709551616 : Int) ∣ x.bmod (2 ^ 64) - x := Int.dvd_bmod_sub_self (m := 2 ^ 64)
theorem li_cong {x y : Int} (h : (18446744073709551616 : Int) ∣ x - y) (h1 : -9223372036854775808 ≤ x) (h2 : x < 9223372036854775808) (h3 : -9223372036854775808 ≤ y) (h4 : y < 9223372036854775808) : x = y := by omega
section
variable {fc lc dc : Int32} {mo pr : Int64} {a : Nat → Int64} {a2 : Nat → Int32} {a3 : Nat → Int64} {a4 a5 a6 : Nat → Int32}
theorem fd_dv95 {post : Int32 → St1 → Prop} {J : Int32 → (Nat → Int64) → (Nat → Int32) → (Nat → Int64) → (Nat → Int32) → (Nat → Int32) → (Nat → Int32) → Prop} {y e i : Nat} {l q : Int64} {B : Nat → po_P} (hy : y < 26) (hy10 : y ≠ 10) (hie : i + e < 12) (h0 : fd_r a = B)
    (H : ∀ a', fd_r a' = fd_u B 10 (fd_rng i (i + e + 1) (fun j => (B 10 j - q.toInt * B y (j - i)).bmod (2 ^ 64)) (B 10)) → J (nI i + (-1)) a' a2 a3 a4 a5 a6) : ∃ n, wX_divide_95 post J (nI y) (nI e) l (nI i) q fc mo pr lc dc n 0 a a2 a3 a4 a5 a6 :=
  pk_loop (fun n k s => wX_divide_95 post J (nI y) (nI e) l (nI i) q fc mo pr lc dc n (nI k) s a2 a3 a4 a5 a6) (fun k s => fd_r s = fd_u B 10 (fd_rng i (i + k) (fun j => (B 10 j - q.toInt * B y (j - i)).bmod (2 ^ 64)) (B 10))) (e + 1) 0 a (by omega) (by rw [Nat.add_zero, fd_rng_0, fd_u_id, h0])
    (fun n s h => pk_lt e (e + 1) (fun _ => nm_e (H s h)) (fun z => absurd z (by omega)))
    (fun n k s hk h hw => pk_lt e k (fun z => absurd z (by omega)) (fun _ => by
      have ei : ((120 + nI i) + nI k : Int32) = nI (12 * 10 + (i + k)) := by
        rw [show (120 : Int32) = nI 120 from rfl, nI_add, nI_add]; congr 1; omega
      have g1 := fd_rgetn (q := y) (j := k) hy10 (by omega) h
      have g2 := fd_rget (j := i + k) (by omega) h
      rw [fd_rng_hi] at g2
      refine ⟨pk_in (12 * 10 + (i + k)) 312 (by omega) ei, pk_in (12 * y + k) 312 (by omega) (li_ix y k), pk_in (12 * 10 + (i + k)) 312 (by omega) ei, nm_r (by rw [ei, li_ix, nI_clamp (by omega), nI_clamp (by omega)]) (nm_r (nI_1 k) (hw _ (fd_rfill (hi := i + k) (v := s (12 * 10 + (i + k)) - q * s (12 * y + k)) (by omega) (by omega) h ?_)))⟩
      rw [Int64.toInt_sub, Int64.toInt_mul, g1, g2, Int.sub_bmod_bmod, show i + k - i = k by omega]))
/-- the row after one step of the division -/
def fd_ds (c e : Nat) (q : Int) (b r : po_P) : po_P := fd_rng c (c + e + 1) (fun j => (r j - q * b (j - c)).bmod (2 ^ 64)) r
theorem fd_ds_eq {c e : Nat} {q : Int} {b r : po_P} (he2 : ∀ i, e < i → b i = 0) : po_eq 18446744073709551616 (fd_ds c e q b r) (po_sub r (po_mul (po_X c q) b)) := by
  intro j
  show _ ∣ fd_rng _ _ _ r j - (r j - po_mul _ _ j)
  rw [po_mul_X]; simp only [fd_rng]
  by_cases z : c ≤ j ∧ j < c + e + 1
  · rw [if_pos z, if_pos z.1]; exact li_bm _
  · rw [if_neg z]
    by_cases z1 : c ≤ j
    · rw [if_pos z1, he2 (j - c) (by omega)]; simp
    · rw [if_neg z1]; simp
theorem fd_wX {q : po_P} {c : Nat} {v : Int} (h : q c = 0) : fd_w q c v = po_add q (po_X c v) := by
  funext j; simp only [fd_w, po_add, po_X]
  by_cases z : j = c
  · rw [if_pos z, if_pos z, z, h]; omega
  · rw [if_neg z, if_neg z]; omega
/-- one step of the loop of divide, up to the choice by the rest -/
theorem fd_dvS {post : Int32 → St1 → Prop} {y e c n : Nat} {l : Int64} {B : Nat → po_P} {q r : po_P} {s : Nat → Int64} (hy : y < 26) (hy9 : y ≠ 9) (hy10 : y ≠ 10) (hl : l.toInt = B y e) (hl0 : B y e ≠ 0) (hc : c + 1 + e ≤ 12) (hs : fd_r s = fd_u (fd_u B 10 r) 9 q) (h2 : ∀ i, i < c + 1 → q i = 0)
    (H0 : (r (c + e)).tmod (B y e) ≠ 0 → post 0 (fc, mo, pr, lc, dc, s, a2, a3, a4, a5, a6))
    (H1 : (r (c + e)).tmod (B y e) = 0 → ∀ (v : Int64) (a' : Nat → Int64), v.toInt = ((r (c + e)).tdiv (B y e)).bmod (2 ^ 64) → fd_r a' = fd_u (fd_u B 10 (fd_ds c e v.toInt (B y) r)) 9 (fd_w q c v.toInt) → wX_divide_42 post (nI y) (nI e) l fc mo pr lc dc n (nI c + (-1)) a' a2 a3 a4 a5 a6) :
    wX_divide_42 post (nI y) (nI e) l fc mo pr lc dc (n + 1) (nI c) s a2 a3 a4 a5 a6 := by
  have ei : ((120 + nI c) + nI e : Int32) = nI (12 * 10 + (c + e)) := by
    rw [show (120 : Int32) = nI 120 from rfl, nI_add, nI_add]; congr 1; omega
  have ej : (108 + nI c : Int32) = nI (12 * 9 + c) := by
    rw [show (108 : Int32) = nI 108 from rfl, nI_add]
  have g1 : (s (12 * 10 + (c + e))).toInt = r (c + e) := by rw [← fd_r_i (show c + e < 12 by omega), hs, fd_u_n (by omega), fd_u_s]
  have lz : ¬ l = 0 := li_ne0.mpr (by rw [hl]; exact hl0)
  refine br_f (nI_pos (by omega)) ⟨pk_in (12 * 10 + (c + e)) 312 (by omega) ei, ?_⟩
  rw [ei, nI_clamp (by omega)]
  refine nm_e ⟨lz, br_c (fun z => ⟨lz, nm_e ⟨pk_in (12 * 9 + c) 312 (by omega) ej, ?_⟩⟩) (fun z => H0 (fun w => z ?_))⟩
  · rw [ej, nI_clamp (by omega)]
    have z' : (r (c + e)).tmod (B y e) = 0 := by
      have := congrArg Int64.toInt z
      rw [li_rem, g1, hl] at this
      exact this
    generalize hv : s (12 * 10 + (c + e)) / l = v at *
    have hv' : v.toInt = ((r (c + e)).tdiv (B y e)).bmod (2 ^ 64) := by rw [← hv, Int64.toInt_div, g1, hl]
    have hs' : fd_r (vp_updL s (12 * 9 + c) v) = fd_u (fd_u B 10 r) 9 (fd_w q c v.toInt) := by rw [fd_upd (by omega), hs, fd_u_s, fd_u_u]
    have k10 : fd_u (fd_u B 10 r) 9 (fd_w q c v.toInt) 10 = r := by rw [fd_u_n (by omega), fd_u_s]
    have ky : fd_u (fd_u B 10 r) 9 (fd_w q c v.toInt) y = B y := by rw [fd_u_n hy9, fd_u_n hy10]
    refine nm_e (fd_dv95 hy hy10 (by omega) hs' (fun a' ha' => H1 z' v a' hv' ?_))
    rw [ha', k10, ky, fd_u_c (by omega), fd_u_u]; rfl
  · apply li_eq.mpr
    rw [li_rem, g1, hl, w]; rfl
theorem fd_ds_top {c e : Nat} {b r : po_P} (hb : b e ≠ 0) (hr : -9223372036854775808 ≤ r (c + e) ∧ r (c + e) < 9223372036854775808) (ht : (r (c + e)).tmod (b e) = 0) : fd_ds c e (((r (c + e)).tdiv (b e)).bmod (2 ^ 64)) b r (c + e) = 0 := by
  simp only [fd_ds, fd_rng]
  rw [if_pos (by omega), show c + e - c = e by omega, ← Int.sub_bmod_bmod, Int.bmod_mul_bmod, Int.sub_bmod_bmod, Int.tdiv_mul_cancel_of_tmod_eq_zero ht, Int.sub_self]; rfl
theorem fd_ds_n {c e j : Nat} {q : Int} {b r : po_P} (h : c + e < j) : fd_ds c e q b r j = r j := by
  simp only [fd_ds, fd_rng]; rw [if_neg (by omega)]
theorem fd_ds_in {c e : Nat} {q : Int} {b r : po_P} (hr : ∀ j, -9223372036854775808 ≤ r j ∧ r j < 9223372036854775808) (j : Nat) : -9223372036854775808 ≤ fd_ds c e q b r j ∧ fd_ds c e q b r j < 9223372036854775808 := by
  simp only [fd_ds, fd_rng]; split
  · have h1 := Int.le_bmod (x := r j - q * b (j - c)) (m := 2 ^ 64) (by decide)
    have h2 := Int.bmod_lt (x := r j - q * b (j - c)) (m := 2 ^ 64) (by decide)
    constructor <;> omega
  · exact hr j
end
end
section
/-! divide, as a whole -/
theorem ga_dvT {R : Type} [Lean.Grind.CommRing R] {m B Q q r X x z r' : R} (h : r = (Q - q) * B + m * x) (k : r' = r - X * B + m * z) : r' = (Q - (q + X)) * B + m * (x + z) := by grind
theorem li_sc {l x : Int} (hl : 0 < l) (h : -9223372036854775808 ≤ l * x ∧ l * x < 9223372036854775808) : -9223372036854775808 ≤ x ∧ x < 9223372036854775808 := by
  by_cases z : 0 ≤ x
  · have : 1 * x ≤ l * x := Int.mul_le_mul_of_nonneg_right (by omega) z
    omega
  · have : 1 * (-x) ≤ l * (-x) := Int.mul_le_mul_of_nonneg_right (by omega) (by omega)
    have e : l * (-x) = -(l * x) := Int.mul_neg _ _
    omega
section
variable {fc lc dc : Int32} {mo pr : Int64} {a2 : Nat → Int32} {a3 : Nat → Int64} {a4 a5 a6 : Nat → Int32}
theorem fd_dv42 {post : Int32 → St1 → Prop} {y e D : Nat} {l : Int64} {B : Nat → po_P} {A : po_P} (hy : y < 26) (hy9 : y ≠ 9) (hy10 : y ≠ 10) (hl : l.toInt = B y e) (hl0 : B y e ≠ 0) (he2 : ∀ i, e < i → B y i = 0)
    (H0 : ∀ a' q r, fd_r a' = fd_u (fd_u B 10 r) 9 q → post 0 (fc, mo, pr, lc, dc, a', a2, a3, a4, a5, a6))
    (H1 : ∀ a' q, fd_r a' = fd_u (fd_u B 10 (fun _ => 0)) 9 q → po_eq 18446744073709551616 A (po_mul q (B y)) → (0 < B y e → ∀ j, -9223372036854775808 ≤ B y e * q j ∧ B y e * q j < 9223372036854775808) → (∀ i, D < i + e → q i = 0) → post 1 (fc, mo, pr, lc, dc, a', a2, a3, a4, a5, a6)) :
    ∀ (c : Nat) (s : Nat → Int64) (q r : po_P), c + e ≤ 12 → c + e ≤ D + 1 → fd_r s = fd_u (fd_u B 10 r) 9 q → po_eq 18446744073709551616 A (po_add (po_mul q (B y)) r) → (∀ j, -9223372036854775808 ≤ r j ∧ r j < 9223372036854775808) → (0 < B y e → ∀ j, -9223372036854775808 ≤ B y e * q j ∧ B y e * q j < 9223372036854775808) → (∀ i, c + e ≤ i → r i = 0) → (∀ i, i < c → q i = 0) → (∀ i, D < i + e → q i = 0) → wX_divide_42 post (nI y) (nI e) l fc mo pr lc dc (c + 1) (nI c + (-1)) s a2 a3 a4 a5 a6 := by
  intro c
  induction c with
  | zero =>
    intro s q r _ _ hs hA hr hq h1 h2 h3
    have r10 : fd_r s 10 = r := by rw [hs, fd_u_n (by omega), fd_u_s]
    refine br_t (by decide) (fd_degreeOf (s := 10) (by omega) (fun h0 => br_f (by decide) ?_) (fun d hd _ _ => br_t (nI_pos' (by omega)) (H0 s q r hs)))
    rw [r10] at h0
    have e0 : r = fun _ => 0 := funext h0
    subst e0
    refine H1 s q hs (po_eq_t hA (po_eq_e ?_)) hq h3
    funext i
    show po_mul _ _ i + 0 = _
    omega
  | succ c ih =>
    intro s q r hc hcD hs hA hr hq h1 h2 h3
    rw [pk_m1]
    refine fd_dvS hy hy9 hy10 hl hl0 hc hs h2 (fun _ => H0 s q r hs) (fun ht v a' hv ha' => ?_)
    obtain ⟨x, hx⟩ := po_eq_ex hA
    obtain ⟨z, hz⟩ := po_eq_ex (fd_ds_eq (c := c) (q := v.toInt) (r := r) he2)
    refine ih a' _ _ (by omega) (by omega) ha' ?_ (fd_ds_in hr) (fun lp j => ?_) (fun i hi => ?_) (fun i hi => ?_) (fun i hi => ?_)
    · rw [fd_wX (h2 c (by omega))]; exact po_ex_eq (@ga_dm po_P po_ring _ _ _ _ _ _ _ _ _ hx hz)
    · simp only [fd_w]; split
      · have rr := hr (c + e)
        have t := Int.tdiv_mul_cancel_of_tmod_eq_zero ht
        rw [Int.mul_comm] at t
        have s1 : -9223372036854775808 ≤ B y e * (r (c + e)).tdiv (B y e) ∧ B y e * (r (c + e)).tdiv (B y e) < 9223372036854775808 := by rw [t]; exact rr
        have s2 := li_sc lp s1
        rw [hv, li_in s2.1 s2.2]; exact s1
      · exact hq lp j
    · by_cases g : i = c + e
      · rw [g, hv]; exact fd_ds_top hl0 (hr _) ht
      · rw [fd_ds_n (by omega)]; exact h1 i (by omega)
    · simp only [fd_w]; rw [if_neg (by omega)]; exact h2 i (by omega)
    · simp only [fd_w]; rw [if_neg (by omega)]; exact h3 i hi
/-- the same where the division is a true one -/
theorem fd_dv42T {post : Int32 → St1 → Prop} {y e : Nat} {l : Int64} {B : Nat → po_P} {Q : po_P} (hy : y < 26) (hy9 : y ≠ 9) (hy10 : y ≠ 10) (hl : l.toInt = B y e) (hl0 : 0 < B y e) (he2 : ∀ i, e < i → B y i = 0) (hQ : ∀ j, -9223372036854775808 ≤ B y e * Q j ∧ B y e * Q j < 9223372036854775808)
    (H1 : ∀ a', fd_r a' = fd_u (fd_u B 10 (fun _ => 0)) 9 Q → post 1 (fc, mo, pr, lc, dc, a', a2, a3, a4, a5, a6)) :
    ∀ (c : Nat) (s : Nat → Int64) (q r : po_P), c + e ≤ 12 → fd_r s = fd_u (fd_u B 10 r) 9 q → po_eq 18446744073709551616 r (po_mul (po_sub Q q) (B y)) → (∀ j, -9223372036854775808 ≤ r j ∧ r j < 9223372036854775808) → (∀ i, c + e ≤ i → r i = 0) → (∀ i, i < c → q i = 0) → (∀ i, c ≤ i → q i = Q i) → wX_divide_42 post (nI y) (nI e) l fc mo pr lc dc (c + 1) (nI c + (-1)) s a2 a3 a4 a5 a6 := by
  intro c
  induction c with
  | zero =>
    intro s q r _ hs hA hr h1 h2 h3
    have r10 : fd_r s 10 = r := by rw [hs, fd_u_n (by omega), fd_u_s]
    have eq : q = Q := funext (fun i => h3 i (by omega))
    subst eq
    have e0 : ∀ i, r i = 0 := fun i => by
      have hh := hA i
      have : po_sub q q = fun _ => 0 := by funext j; show q j - q j = 0; omega
      rw [this, po_mul_zL] at hh
      have := hr i
      exact li_cong hh this.1 this.2 (by omega) (by omega)
    refine br_t (by decide) (fd_degreeOf (s := 10) (by omega) (fun h0 => br_f (by decide) ?_) (fun d hd z _ => absurd (by rw [r10]; exact e0 d) z))
    have : r = fun _ => 0 := funext e0
    subst this
    exact H1 s hs
  | succ c ih =>
    intro s q r hc hs hA hr h1 h2 h3
    rw [pk_m1]
    have top : r (c + e) = Q c * B y e := by
      have d := (po_dl_mul (m := 0) (e := e) (g := B y) (fun i hi => by rw [he2 i (by omega)]; exact Int.dvd_zero _) c (po_sub Q q) (fun i hi => by show (0 : Int) ∣ Q i - q i; rw [h3 i (by omega)]; simp)).2
      have d' := Int.zero_dvd.mp d
      have qc : po_sub Q q c = Q c := by show Q c - q c = Q c; rw [h2 c (by omega)]; omega
      rw [qc] at d'
      have hh := hA (c + e)
      rw [show po_mul (po_sub Q q) (B y) (c + e) = Q c * B y e by omega] at hh
      have r1 := hr (c + e)
      have r2 := hQ c
      rw [Int.mul_comm] at r2
      exact li_cong hh r1.1 r1.2 r2.1 r2.2
    have tm : (r (c + e)).tmod (B y e) = 0 := by rw [top]; exact Int.mul_tmod_left _ _
    have td : (r (c + e)).tdiv (B y e) = Q c := by rw [top]; exact Int.mul_tdiv_cancel _ (by omega)
    refine fd_dvS hy hy9 hy10 hl (by omega) hc hs h2 (fun z => absurd tm z) (fun ht v a' hv ha' => ?_)
    have s2 := li_sc hl0 (hQ c)
    have vQ : v.toInt = Q c := by rw [hv, td, li_in s2.1 s2.2]
    obtain ⟨x, hx⟩ := po_eq_ex hA
    obtain ⟨z, hz⟩ := po_eq_ex (fd_ds_eq (c := c) (q := v.toInt) (r := r) he2)
    refine ih a' _ _ (by omega) ha' ?_ (fd_ds_in hr) (fun i hi => ?_) (fun i hi => ?_) (fun i hi => ?_)
    · rw [fd_wX (h2 c (by omega))]; exact po_ex_eq (@ga_dvT po_P po_ring _ _ _ _ _ _ _ _ _ hx hz)
    · by_cases g : i = c + e
      · rw [g, hv]; exact fd_ds_top (by omega) (hr _) ht
      · rw [fd_ds_n (by omega)]; exact h1 i (by omega)
    · simp only [fd_w]; rw [if_neg (by omega)]; exact h2 i (by omega)
    · simp only [fd_w]
      by_cases g : i = c
      · rw [if_pos g, vQ, g]
      · rw [if_neg g]; exact h3 i (by omega)
theorem fd_divide0 {post : Int32 → St1 → Prop} {a : Nat → Int64} {x y e : Nat} (hx : x < 26) (hy : y < 26) (hy9 : y ≠ 9) (hy10 : y ≠ 10) (he : fd_r a y e ≠ 0) (he2 : ∀ i, e < i → fd_r a y i = 0)
    (H : ∀ (s : Nat → Int64) (l : Int64), fd_r s = fd_u (fd_u (fd_r a) 10 (fd_r a x)) 9 (fun _ => 0) → l.toInt = fd_r a y e →
      ((∀ i, fd_r a x i = 0) → ∃ n, wX_divide_42 post (nI y) (nI e) l fc mo pr lc dc n (-1 - nI e) s a2 a3 a4 a5 a6) ∧
      (∀ D, D < 12 → fd_r a x D ≠ 0 → (∀ i, D < i → fd_r a x i = 0) → ∃ n, wX_divide_42 post (nI y) (nI e) l fc mo pr lc dc n (nI D - nI e) s a2 a3 a4 a5 a6)) :
    wpX_divide post (fc, mo, pr, lc, dc, a, a2, a3, a4, a5, a6) (nI x) (nI y) := by
  have e12 : e < 12 := Classical.byContradiction (fun z => he (fd_r_12 a y e (by omega)))
  unfold wpX_divide
  dsimp only
  refine fd_copy (t := 10) (by omega) hx (fun a' ha => ?_)
  dsimp only
  refine fd_clear (t := 9) (by omega) (fun s ha' => ?_)
  dsimp only
  rw [ha] at ha'
  have ry : fd_r s y = fd_r a y := by rw [ha', fd_u_n hy9, fd_u_n hy10]
  have r10 : fd_r s 10 = fd_r a x := by rw [ha', fd_u_n (by omega), fd_u_s]
  refine fd_degreeOf hy (fun h0 => absurd (by rw [← ry]; exact h0 e) he) (fun d hd h1 h2 => ?_)
  have hde : d = e := by
    rw [ry] at h1 h2
    rcases Nat.lt_trichotomy d e with z | z | z
    · exact absurd (h2 e z) he
    · exact z
    · exact absurd (he2 d z) h1
  subst hde
  refine ⟨pk_in (12 * y + d) 312 (by omega) (li_ix y d), ?_⟩
  rw [li_ix, nI_clamp (by omega)]
  have gl : (s (12 * y + d)).toInt = fd_r a y d := by rw [← fd_r_i hd, ry]
  obtain ⟨k1, k2⟩ := H s _ ha' gl
  refine nm_e (fd_degreeOf (s := 10) (by omega) (fun h0 => nm_e (k1 ?_)) (fun D hD hD1 hD2 => nm_e (k2 D hD ?_ ?_)))
  · rw [r10] at h0; exact h0
  · rw [r10] at hD1; exact hD1
  · rw [r10] at hD2; exact hD2
theorem fd_divide {post : Int32 → St1 → Prop} {a : Nat → Int64} {x y e : Nat} (hx : x < 26) (hy : y < 26) (hy9 : y ≠ 9) (hy10 : y ≠ 10) (he : fd_r a y e ≠ 0) (he2 : ∀ i, e < i → fd_r a y i = 0)
    (H0 : ∀ a' q r, fd_r a' = fd_u (fd_u (fd_r a) 10 r) 9 q → post 0 (fc, mo, pr, lc, dc, a', a2, a3, a4, a5, a6))
    (H1 : ∀ a' q, fd_r a' = fd_u (fd_u (fd_r a) 10 (fun _ => 0)) 9 q → po_eq 18446744073709551616 (fd_r a x) (po_mul q (fd_r a y)) → (0 < fd_r a y e → ∀ j, -9223372036854775808 ≤ fd_r a y e * q j ∧ fd_r a y e * q j < 9223372036854775808) → (∀ D, (∀ i, D < i → fd_r a x i = 0) → ∀ i, D < i + e → q i = 0) → post 1 (fc, mo, pr, lc, dc, a', a2, a3, a4, a5, a6)) :
    wpX_divide post (fc, mo, pr, lc, dc, a, a2, a3, a4, a5, a6) (nI x) (nI y) := by
  have e12 : e < 12 := Classical.byContradiction (fun z => he (fd_r_12 a y e (by omega)))
  refine fd_divide0 hx hy hy9 hy10 he he2 (fun s l hs hl => ?_)
  have r10 : fd_r s 10 = fd_r a x := by rw [hs, fd_u_n (by omega), fd_u_s]
  have eq0 : po_eq 18446744073709551616 (fd_r a x) (po_add (po_mul (fun _ => 0) (fd_r a y)) (fd_r a x)) := po_eq_e (by funext i; show _ = po_mul _ _ i + _; rw [po_mul_zL]; omega)
  have z1 : 0 < fd_r a y e → ∀ j : Nat, -9223372036854775808 ≤ fd_r a y e * (fun _ => (0 : Int)) j ∧ fd_r a y e * (fun _ => (0 : Int)) j < 9223372036854775808 := fun _ j => by
    show _ ≤ fd_r a y e * 0 ∧ fd_r a y e * 0 < _
    omega
  constructor
  · intro h0
    have neg : (-1 : Int32) - nI e < 0 := by
      have : ∀ d, d < 12 → (-1 : Int32) - nI d < 0 := by decide
      exact this e e12
    refine ⟨1, br_t neg (fd_degreeOf (s := 10) (by omega) (fun _ => br_f (by decide) (H1 s (fun _ => 0) ?_ ?_ z1 (fun _ _ _ _ => rfl))) (fun d hd z _ => absurd (by rw [r10]; exact h0 d) z))⟩
    · have z0 : fd_r a x = fun _ => 0 := funext h0
      rw [hs, z0]
    · intro i; rw [h0 i, po_mul_zL]; simp
  · intro D hD hD1 hD2
    by_cases z : D < e
    · exact ⟨1, br_t (pk_sneg (by omega) z) (fd_degreeOf (s := 10) (by omega) (fun h0 => absurd (by rw [r10] at h0; exact h0 D) hD1) (fun d hd _ _ => br_t (nI_pos' (by omega)) (H0 s _ _ hs)))⟩
    · have k2 := fd_dv42 (post := post) (fc := fc) (pr := pr) (mo := mo) (lc := lc) (dc := dc) (a2 := a2) (a3 := a3) (a4 := a4) (a5 := a5) (a6 := a6) (A := fd_r a x) (B := fd_r a) (D := D) hy hy9 hy10 hl he he2 H0 (fun a' q h1 h2 h3 h4 => H1 a' q h1 h2 h3 (fun D' hD' i hi => h4 i (by
        have : D ≤ D' := Classical.byContradiction (fun w => hD1 (hD' D (by omega)))
        omega))) (D - e + 1) s (fun _ => 0) (fd_r a x) (by omega) (by omega) hs eq0 (fun j => ⟨fd_r_lo a x j, fd_r_hi a x j⟩) z1 (fun i hi => hD2 i (by omega)) (fun _ _ => rfl) (fun _ _ => rfl)
      rw [pk_m1, ← pk_sub (show e ≤ D by omega)] at k2
      exact ⟨_, k2⟩
theorem fd_divideT {post : Int32 → St1 → Prop} {a : Nat → Int64} {x y e : Nat} {Q : po_P} (hx : x < 26) (hy : y < 26) (hy9 : y ≠ 9) (hy10 : y ≠ 10) (he : 0 < fd_r a y e) (he2 : ∀ i, e < i → fd_r a y i = 0) (fQ : po_fin 0 Q) (hQ : fd_r a x = po_mul Q (fd_r a y)) (hR : ∀ j, -9223372036854775808 ≤ fd_r a y e * Q j ∧ fd_r a y e * Q j < 9223372036854775808)
    (H1 : ∀ a', fd_r a' = fd_u (fd_u (fd_r a) 10 (fun _ => 0)) 9 Q → post 1 (fc, mo, pr, lc, dc, a', a2, a3, a4, a5, a6)) :
    wpX_divide post (fc, mo, pr, lc, dc, a, a2, a3, a4, a5, a6) (nI x) (nI y) := by
  have e12 : e < 12 := Classical.byContradiction (fun z => absurd (fd_r_12 a y e (by omega)) (by omega))
  refine fd_divide0 hx hy hy9 hy10 (by omega) he2 (fun s l hs hl => ?_)
  have r10 : fd_r s 10 = fd_r a x := by rw [hs, fd_u_n (by omega), fd_u_s]
  obtain ⟨dq, hdq⟩ := fQ
  have sup : ∀ D, (∀ i, D < i → fd_r a x i = 0) → ∀ j, D < j + e → Q j = 0 := fun D hD j hj => Int.zero_dvd.mp (po_quot (m := 0) (A := fd_r a x) (B := fd_r a y) (e := e) (D := D) (fun i hi => by rw [he2 i (by omega)]; exact Int.dvd_zero _) (fun x hx => by
    have := Int.zero_dvd.mp hx
    rw [(Int.mul_eq_zero.mp this).resolve_right (by omega)]; exact Int.dvd_zero _) (fun i hi => by rw [hD i (by omega)]; exact Int.dvd_zero _) dq Q hdq (po_eq_e hQ) j hj)
  constructor
  · intro h0
    have Q0 : Q = fun _ => 0 := by
      funext j
      refine Int.zero_dvd.mp (po_can0 (m := 0) (t := fd_r a y) ⟨fun z => absurd (Int.zero_dvd.mp z) (by omega), fun a b hab => ?_⟩ ⟨e, fun z => absurd (Int.zero_dvd.mp z) (by omega)⟩ (fun i => ?_) j)
      · rcases Int.mul_eq_zero.mp (Int.zero_dvd.mp hab) with z | z
        · left; rw [z]; exact Int.dvd_zero _
        · right; rw [z]; exact Int.dvd_zero _
      · rw [po_mul_comm, ← hQ, h0 i]; exact Int.dvd_zero _
    have neg : (-1 : Int32) - nI e < 0 := by
      have : ∀ d, d < 12 → (-1 : Int32) - nI d < 0 := by decide
      exact this e e12
    refine ⟨1, br_t neg (fd_degreeOf (s := 10) (by omega) (fun _ => br_f (by decide) (H1 s ?_)) (fun d hd z _ => absurd (by rw [r10]; exact h0 d) z))⟩
    have z0 : fd_r a x = fun _ => 0 := funext h0
    rw [hs, Q0, z0]
  · intro D hD hD1 hD2
    have hDe : ¬ D < e := fun z => hD1 (by
      have : Q = fun _ => 0 := funext (fun j => sup D hD2 j (by omega))
      rw [hQ, this, po_mul_zL])
    have k2 := fd_dv42T (post := post) (fc := fc) (pr := pr) (mo := mo) (lc := lc) (dc := dc) (a2 := a2) (a3 := a3) (a4 := a4) (a5 := a5) (a6 := a6) (B := fd_r a) hy hy9 hy10 hl he he2 hR H1 (D - e + 1) s (fun _ => 0) (fd_r a x) (by omega) hs (po_eq_e (by
      have : po_sub Q (fun _ => 0) = Q := by funext j; show Q j - 0 = Q j; omega
      rw [this, hQ])) (fun j => ⟨fd_r_lo a x j, fd_r_hi a x j⟩) (fun i hi => hD2 i (by omega)) (fun _ _ => rfl) (fun i hi => (sup D hD2 i (by omega)).symm)
    rw [pk_m1, ← pk_sub (show e ≤ D by omega)] at k2
    exact ⟨_, k2⟩
end
end
section
/-! primes; the greatest common divisor by way of two great primes -/
def pm_ck (p : Nat) : Nat → Nat → Bool
  | 0, _ => true
  | n + 1, d => (p % d != 0) && pm_ck p n (d + 1)
theorem pm_ck_ok (p : Nat) : ∀ (n d : Nat), pm_ck p n d = true → ∀ k, d ≤ k → k < d + n → p % k ≠ 0
  | 0, d, _, k, h1, h2 => absurd h1 (by omega)
  | n + 1, d, h, k, h1, h2 => by
    simp only [pm_ck, Bool.and_eq_true, bne_iff_ne] at h
    by_cases e : k = d
    · rw [e]; exact h.1
    · exact pm_ck_ok p n (d + 1) h.2 k (by omega) (by omega)
theorem pm_prime {p : Nat} (hp : 1 < p) (s : Nat) (hs : p < (s + 2) * (s + 2)) (h : pm_ck p s 2 = true) : po_prime p := by
  have ck := pm_ck_ok p s 2 h
  have dv : ∀ g, g ∣ p → g = 1 ∨ g = p := by
    intro g hg
    obtain ⟨k, hk⟩ := hg
    by_cases g1 : g = 1
    · exact Or.inl g1
    · by_cases k1 : k = 1
      · right; rw [hk, k1]; omega
      · exfalso
        have g0 : g ≠ 0 := fun z => by rw [z] at hk; omega
        have k0 : k ≠ 0 := fun z => by rw [z] at hk; omega
        by_cases gs : g < 2 + s
        · exact ck g (by omega) gs (by rw [hk]; exact Nat.mul_mod_right g k)
        · by_cases ks : k < 2 + s
          · exact ck k (by omega) ks (by rw [hk]; exact Nat.mul_mod_left g k)
          · have : (s + 2) * (s + 2) ≤ g * k := Nat.mul_le_mul (by omega) (by omega)
            omega
  refine ⟨by omega, fun x hx => ?_⟩
  rcases dv _ (Nat.gcd_dvd_left p x.natAbs) with z | z
  · exact z
  · exfalso
    apply hx
    have := Nat.gcd_dvd_right p x.natAbs
    rw [z] at this
    exact Int.ofNat_dvd_left.mpr this
theorem pm_1 : po_prime 2147483647 := pm_prime (p := 2147483647) (by decide) 46340 (by decide) (by decide +kernel)
theorem pm_2 : po_prime 2147483629 := pm_prime (p := 2147483629) (by decide) 46340 (by decide) (by decide +kernel)
/-- the row A is (as wrapping numbers) a multiple of T -/
def fd_D (A T : po_P) : Prop := ∃ (q : po_P) (e : Nat), 0 < T e ∧ (∀ i, e < i → T i = 0) ∧ po_eq 18446744073709551616 A (po_mul q T) ∧ (∀ j, -9223372036854775808 ≤ T e * q j ∧ T e * q j < 9223372036854775808) ∧ (∀ D, (∀ i, D < i → A i = 0) → ∀ i, D < i + e → q i = 0)
/-- Q is a true quotient of A by T, not too great -/
def fd_TQ (A T Q : po_P) : Prop := po_fin 0 Q ∧ A = po_mul Q T ∧ ∀ e, 0 < T e → (∀ i, e < i → T i = 0) → ∀ j, -9223372036854775808 ≤ T e * Q j ∧ T e * Q j < 9223372036854775808
def fd_TD (A T : po_P) : Prop := ∃ Q, fd_TQ A T Q
section
variable {fc lc dc : Int32} {mo pr : Int64} {a2 : Nat → Int32} {a3 : Nat → Int64} {a4 a5 a6 : Nat → Int32}
theorem fd_divideC {post : Int32 → St1 → Prop} {a : Nat → Int64} {x y e : Nat} (hx : x < 26) (hy : y < 26) (hy9 : y ≠ 9) (hy10 : y ≠ 10) (he : 0 < fd_r a y e) (he2 : ∀ i, e < i → fd_r a y i = 0)
    (H0 : ¬ fd_TD (fd_r a x) (fd_r a y) → ∀ a' q r, fd_r a' = fd_u (fd_u (fd_r a) 10 r) 9 q → post 0 (fc, mo, pr, lc, dc, a', a2, a3, a4, a5, a6))
    (H1 : ∀ a' q, fd_r a' = fd_u (fd_u (fd_r a) 10 (fun _ => 0)) 9 q → po_eq 18446744073709551616 (fd_r a x) (po_mul q (fd_r a y)) → (∀ j, -9223372036854775808 ≤ fd_r a y e * q j ∧ fd_r a y e * q j < 9223372036854775808) → (∀ D, (∀ i, D < i → fd_r a x i = 0) → ∀ i, D < i + e → q i = 0) → post 1 (fc, mo, pr, lc, dc, a', a2, a3, a4, a5, a6)) :
    wpX_divide post (fc, mo, pr, lc, dc, a, a2, a3, a4, a5, a6) (nI x) (nI y) := by
  by_cases h : fd_TD (fd_r a x) (fd_r a y)
  · obtain ⟨Q, fQ, hQ, hR⟩ := h
    refine fd_divideT hx hy hy9 hy10 he he2 fQ hQ (hR e he he2) (fun a' ha' => H1 a' Q ha' (po_eq_e hQ) (hR e he he2) (fun D hD j hj => ?_))
    obtain ⟨dq, hdq⟩ := fQ
    exact Int.zero_dvd.mp (po_quot (m := 0) (A := fd_r a x) (B := fd_r a y) (e := e) (D := D) (fun i hi => by rw [he2 i (by omega)]; exact Int.dvd_zero _) (fun x hx => by
      have := Int.zero_dvd.mp hx
      rw [(Int.mul_eq_zero.mp this).resolve_right (by omega)]; exact Int.dvd_zero _) (fun i hi => by rw [hD i (by omega)]; exact Int.dvd_zero _) dq Q hdq (po_eq_e hQ) j hj)
  · exact fd_divide hx hy hy9 hy10 (by omega) he2 (H0 h) (fun a' q h1 h2 h3 h4 => H1 a' q h1 h2 (h3 he) h4)
/-- what one try with the prime p leaves in row 22 -/
def fd_try (p : Int) (A B T : po_P) : Prop := ∃ (γ : po_P) (la : Int), fd_gcd p A B γ ∧ (∃ d1 d2, A d1 ≠ 0 ∧ (∀ i, d1 < i → A i = 0) ∧ B d2 ≠ 0 ∧ (∀ i, d2 < i → B i = 0) ∧ la = (Nat.gcd (A d1).natAbs (B d2).natAbs : Nat)) ∧ fd_pp (fd_cn p (fun i => γ i * la % p)) T
theorem fd_b4_u9 {B : Nat → po_P} {t : Nat} {g u8 u9 u10 x : po_P} (h : t ≠ 9) : fd_u (fd_b4 B t g u8 u9 u10) 9 x = fd_b4 B t g u8 x u10 := by
  simp only [fd_b4]
  rw [fd_u_c h, fd_u_c (show (10 : Nat) ≠ 9 by omega), fd_u_u]
theorem fd_b4_u10 {B : Nat → po_P} {t : Nat} {g u8 u9 u10 x : po_P} (h : t ≠ 10) : fd_u (fd_b4 B t g u8 u9 u10) 10 x = fd_b4 B t g u8 u9 x := by
  simp only [fd_b4]
  rw [fd_u_c h, fd_u_u]
theorem fd_b4_ut {B : Nat → po_P} {t : Nat} {g u8 u9 u10 x : po_P} : fd_u (fd_b4 B t g u8 u9 u10) t x = fd_b4 B t x u8 u9 u10 := by
  simp only [fd_b4]; rw [fd_u_u]
theorem fd_tryPrime {post : Int32 → St1 → Prop} {a : Nat → Int64} {P : Int64} {p : Int} (hP : P.toInt = p) (hp : po_prime p) (hp2 : p ≤ 2147483648) (hp3 : 1000000 ≤ p) (hA0 : ∃ i, fd_r a 6 i ≠ 0) (hB0 : ∃ i, fd_r a 7 i ≠ 0) (hA : ∀ i, -1000 ≤ fd_r a 6 i ∧ fd_r a 6 i ≤ 1000) (hB : ∀ i, -1000 ≤ fd_r a 7 i ∧ fd_r a 7 i ≤ 1000)
    (H : ∀ r a' T u8 u9 u10, fd_r a' = fd_b4 (fd_r a) 22 T u8 u9 u10 → fd_try p (fd_r a 6) (fd_r a 7) T → ((r = 1 ∧ fd_D (fd_r a 6) T ∧ fd_D (fd_r a 7) T) ∨ (r = 0 ∧ ¬ (fd_TD (fd_r a 6) T ∧ fd_TD (fd_r a 7) T))) → post r (fc, P, P, lc, dc, a', a2, a3, a4, a5, a6)) :
    wpX_tryPrime post (fc, mo, pr, lc, dc, a, a2, a3, a4, a5, a6) P := by
  obtain ⟨iA, hiA⟩ := hA0
  obtain ⟨iB, hiB⟩ := hB0
  have hp1 := hp.1
  unfold wpX_tryPrime
  dsimp only
  refine fd_leadOf (s := 6) (by omega) (fun h0 => absurd (h0 iA) hiA) (fun d1 x1 hd1 hx1 hA1 hA2 => ?_)
  refine fd_leadOf (s := 7) (by omega) (fun h0 => absurd (h0 iB) hiB) (fun d2 x2 hd2 hx2 hB1 hB2 => ?_)
  have bA := hA d1
  have bB := hB d2
  refine fd_commonDivisor (by omega) (by omega) (fun la hla => ?_)
  rw [hx1, hx2] at hla
  have gpos : 0 < Nat.gcd (fd_r a 6 d1).natAbs (fd_r a 7 d2).natAbs := Nat.gcd_pos_of_pos_left _ (by omega)
  have gle : Nat.gcd (fd_r a 6 d1).natAbs (fd_r a 7 d2).natAbs ≤ (fd_r a 6 d1).natAbs := Nat.le_of_dvd (by omega) (Nat.gcd_dvd_left _ _)
  refine fd_commonModulo (t := 22) (x := 6) (y := 7) (by omega) (by omega) (by omega) (by omega) (by omega) (by omega) (by omega) hP hP hp hp2 (fun b1 γ u8 u9 u10 h1 hγ => ?_)
  dsimp only
  have e22 : fd_r b1 22 = γ := by rw [h1, fd_b4_t]
  obtain ⟨g1, g2, g3, g4, g5⟩ := hγ
  refine fd_scale (t := 22) (by omega) (by omega) (fun i => ?_) (fun b2 h2 => ?_)
  · rw [e22]
    obtain ⟨z1, z2⟩ := g1 i
    have := li_mm z1 (show 0 ≤ la.toInt by omega) z2 (show la.toInt < p by omega) hp2
    exact ⟨by omega, this.2⟩
  dsimp only
  rw [hP, e22, h1, fd_b4_ut] at h2
  have e22' : fd_r b2 22 = fun i => γ i * la.toInt % p := by rw [h2, fd_b4_t]
  refine fd_center (t := 22) (by omega) (by omega) (by rw [e22', hP]; exact fun i => li_emod (by omega)) (by omega) (fun b3 h3 => ?_)
  dsimp only
  rw [hP, e22', h2, fd_b4_ut] at h3
  have e22'' : fd_r b3 22 = fd_cn p (fun i => γ i * la.toInt % p) := by rw [h3, fd_b4_t]
  have cnb : ∀ i, -p ≤ fd_cn p (fun i => γ i * la.toInt % p) i ∧ fd_cn p (fun i => γ i * la.toInt % p) i < p := fun i => by
    have := li_emod (a := γ i * la.toInt) (show 0 < p by omega)
    simp only [fd_cn]; split <;> constructor <;> omega
  -- the monic divisor is not zero
  have gd : ∃ d, d < 12 ∧ γ d = 1 ∧ ∀ i, d < i → γ i = 0 := by
    rcases g5 with z | z
    · exfalso
      obtain ⟨w, _, hw⟩ := g3
      have : p ∣ fd_r a 6 d1 := (po_eq_i hw d1).mpr (po_mul_dv d1 γ (fun i => by rw [z i]; exact Int.dvd_zero p))
      have := Int.natAbs_dvd_natAbs.mpr this
      have := Nat.le_of_dvd (by omega) this
      omega
    · exact z
  obtain ⟨d, hd, hd1, hd2⟩ := gd
  have cd : fd_cn p (fun i => γ i * la.toInt % p) d ≠ 0 := by
    have : γ d * la.toInt % p = la.toInt := by rw [hd1, Int.one_mul]; exact Int.emod_eq_of_lt (by omega) (by omega)
    simp only [fd_cn]; rw [this]; split <;> omega
  refine fd_makePrimitive (s := 22) (by omega) (fun i => by rw [e22'']; have := cnb i; omega) (fun h0 => absurd (by rw [← e22'']; exact h0 d) cd) (fun b4 T h4 hT => ?_)
  dsimp only
  rw [h3, fd_b4_ut] at h4
  rw [e22''] at hT
  have t22 : fd_r b4 22 = T := by rw [h4, fd_b4_t]
  have t6 : fd_r b4 6 = fd_r a 6 := by rw [h4, fd_b4_n (by omega) (by omega) (by omega) (by omega)]
  have t7 : fd_r b4 7 = fd_r a 7 := by rw [h4, fd_b4_n (by omega) (by omega) (by omega) (by omega)]
  have tr : fd_try p (fd_r a 6) (fd_r a 7) T := ⟨γ, la.toInt, ⟨g1, g2, g3, g4, g5⟩, ⟨d1, d2, hA1, hA2, hB1, hB2, hla⟩, hT⟩
  obtain ⟨c, c0, c1, c2, e, he12, he1, he2⟩ := hT
  refine fd_divideC (x := 6) (y := 22) (e := e) (by omega) (by omega) (by omega) (by omega) (by rw [t22]; exact he1) (by rw [t22]; exact he2) (fun hn b5 q r h5 => ?_) (fun b5 q h5 k1 k2 k3 => ?_)
  · dsimp only
    rw [h4, fd_b4_u10 (by omega), fd_b4_u9 (by omega)] at h5
    rw [t6, t22] at hn
    exact br_t rfl (H 0 b5 T _ _ _ h5 tr (Or.inr ⟨rfl, fun z => hn z.1⟩))
  · dsimp only
    rw [h4, fd_b4_u10 (by omega), fd_b4_u9 (by omega)] at h5
    rw [t6, t22] at k1 
    rw [t22] at k2
    rw [t6] at k3
    have D6 : fd_D (fd_r a 6) T := ⟨q, e, he1, he2, k1, k2, k3⟩
    have s22 : fd_r b5 22 = T := by rw [h5, fd_b4_t]
    have s7 : fd_r b5 7 = fd_r a 7 := by rw [h5, fd_b4_n (by omega) (by omega) (by omega) (by omega)]
    refine br_f (by decide) (fd_divideC (x := 7) (y := 22) (e := e) (by omega) (by omega) (by omega) (by omega) (by rw [s22]; exact he1) (by rw [s22]; exact he2) (fun hn b6 q' r h6 => ?_) (fun b6 q' h6 l1 l2 l3 => ?_))
    · dsimp only
      rw [h5, fd_b4_u10 (by omega), fd_b4_u9 (by omega)] at h6
      rw [s7, s22] at hn
      exact br_t rfl (H 0 b6 T _ _ _ h6 tr (Or.inr ⟨rfl, fun z => hn z.2⟩))
    · dsimp only
      rw [h5, fd_b4_u10 (by omega), fd_b4_u9 (by omega)] at h6
      rw [s7, s22] at l1
      rw [s22] at l2
      rw [s7] at l3
      exact br_f (by decide) (H 1 b6 T _ _ _ h6 tr (Or.inl ⟨rfl, D6, ⟨q', e, he1, he2, l1, l2, l3⟩⟩))
end
end
section
/-! greatestCommon, splitOffMultiple -/
def fd_gT (A B T : po_P) : Prop := (fd_try 2147483647 A B T ∧ fd_D A T ∧ fd_D B T) ∨ ((∃ T1, fd_try 2147483647 A B T1 ∧ ¬ (fd_TD A T1 ∧ fd_TD B T1)) ∧ fd_try 2147483629 A B T)
/-- g is the primitive part of f, or both are zero -/
def fd_pz (f g : po_P) : Prop := ((∀ i, f i = 0) ∧ g = f) ∨ fd_pp f g
theorem fd_pz_b {f g : po_P} (h : fd_pz f g) {n : Int} (hf : ∀ i, -n ≤ f i ∧ f i ≤ n) (i : Nat) : -n ≤ g i ∧ g i ≤ n := by
  rcases h with ⟨_, rfl⟩ | ⟨c, c0, _, c2, _⟩
  · exact hf i
  · have h1 := hf i
    rw [c2 i] at h1
    have h2 : (g i).natAbs ≤ (c * g i).natAbs := by rw [Int.natAbs_mul]; exact Nat.le_mul_of_pos_left _ (by omega)
    omega
theorem fd_pz_0 {f g : po_P} (h : fd_pz f g) (i : Nat) (hi : f i = 0) : g i = 0 := by
  rcases h with ⟨h0, rfl⟩ | ⟨c, c0, _, c2, _⟩
  · exact hi
  · rw [c2 i] at hi
    exact (Int.mul_eq_zero.mp hi).resolve_left c0
def fd_gc (A B T : po_P) : Prop := ((∀ i, A i = 0) ∧ T = B) ∨ ((∃ i, A i ≠ 0) ∧ (∀ i, B i = 0) ∧ T = A) ∨ ((∃ i, A i ≠ 0) ∧ (∃ i, B i ≠ 0) ∧ fd_gT A B T)
/-- the bank after greatestCommon -/
def fd_b7 (B : Nat → po_P) (t : Nat) (T A' B' u22 u8 u9 u10 : po_P) : Nat → po_P := fd_u (fd_b4 (fd_u (fd_u B 6 A') 7 B') 22 u22 u8 u9 u10) t T
theorem fd_b7_t {B : Nat → po_P} {t : Nat} {T A' B' u22 u8 u9 u10 : po_P} : fd_b7 B t T A' B' u22 u8 u9 u10 t = T := fd_u_s _ _ _
theorem fd_b7_n {B : Nat → po_P} {t s : Nat} {T A' B' u22 u8 u9 u10 : po_P} (h : s ≠ t) (h6 : s ≠ 6) (h7 : s ≠ 7) (h8 : s ≠ 8) (h9 : s ≠ 9) (h10 : s ≠ 10) (h22 : s ≠ 22) : fd_b7 B t T A' B' u22 u8 u9 u10 s = B s := by
  simp only [fd_b7]; rw [fd_u_n h, fd_b4_n h22 h8 h9 h10, fd_u_n h7, fd_u_n h6]
section
variable {fc lc dc : Int32} {mo pr : Int64} {a2 : Nat → Int32} {a3 : Nat → Int64} {a4 a5 a6 : Nat → Int32}
theorem fd_mpz {post : St1 → Prop} {a : Nat → Int64} {s : Nat} (hs : s < 26) (hB : ∀ i, -9223372036854775808 < fd_r a s i) (H : ∀ a' g, fd_r a' = fd_u (fd_r a) s g → fd_pz (fd_r a s) g → post (fc, mo, pr, lc, dc, a', a2, a3, a4, a5, a6)) : wpX_makePrimitive post (fc, mo, pr, lc, dc, a, a2, a3, a4, a5, a6) (nI s) :=
  fd_makePrimitive hs hB (fun h0 => H a (fd_r a s) (fd_u_id _ _).symm (Or.inl ⟨h0, rfl⟩)) (fun a' g h1 h2 => H a' g h1 (Or.inr h2))
theorem fd_gc44 {post : St1 → Prop} {a : Nat → Int64} {t : Nat} (ht : t < 26) (H6 : (∃ i, fd_r a 6 i ≠ 0) → ∀ a', fd_r a' = fd_u (fd_r a) t (fd_r a 6) → post (fc, mo, pr, lc, dc, a', a2, a3, a4, a5, a6)) (H7 : (∀ i, fd_r a 6 i = 0) → ∀ a', fd_r a' = fd_u (fd_r a) t (fd_r a 7) → post (fc, mo, pr, lc, dc, a', a2, a3, a4, a5, a6)) : wX_greatestCommon_44 post (nI t) fc mo pr lc dc a a2 a3 a4 a5 a6 := by
  unfold wX_greatestCommon_44
  refine fd_degreeOf (s := 6) (by omega) (fun h0 => br_f (by decide) ?_) (fun d hd h1 h2 => br_t (nI_pos' (by omega)) ?_)
  · exact fd_copy (f := 7) ht (by omega) (fun a' h => H7 h0 a' h)
  · exact fd_copy (f := 6) ht (by omega) (fun a' h => H6 ⟨d, h1⟩ a' h)
theorem fd_greatestCommon {post : St1 → Prop} {a : Nat → Int64} {t x y : Nat} (ht : t < 26) (hx : x < 26) (hy : y < 26) (hy6 : y ≠ 6) (hA : ∀ i, -1000 ≤ fd_r a x i ∧ fd_r a x i ≤ 1000) (hB : ∀ i, -1000 ≤ fd_r a y i ∧ fd_r a y i ≤ 1000)
    (H : ∀ a' mo' pr' T A' B' u22 u8 u9 u10, fd_r a' = fd_b7 (fd_r a) t T A' B' u22 u8 u9 u10 → fd_pz (fd_r a x) A' → fd_pz (fd_r a y) B' → fd_gc A' B' T → post (fc, mo', pr', lc, dc, a', a2, a3, a4, a5, a6)) :
    wpX_greatestCommon post (fc, mo, pr, lc, dc, a, a2, a3, a4, a5, a6) (nI t) (nI x) (nI y) := by
  unfold wpX_greatestCommon
  dsimp only
  refine fd_copy (t := 6) (by omega) hx (fun b1 h1 => ?_)
  dsimp only
  refine fd_copy (t := 7) (by omega) hy (fun b2 h2 => ?_)
  dsimp only
  have e1y : fd_r b1 y = fd_r a y := by rw [h1, fd_u_n hy6]
  have e26 : fd_r b2 6 = fd_r a x := by rw [h2, fd_u_n (by omega), h1, fd_u_s]
  refine fd_mpz (s := 6) (by omega) (fun i => by rw [e26]; have := hA i; omega) (fun b3 A' h3 hA' => ?_)
  dsimp only
  rw [e26] at hA'
  have e37 : fd_r b3 7 = fd_r a y := by rw [h3, fd_u_n (by omega), h2, fd_u_s, e1y]
  refine fd_mpz (s := 7) (by omega) (fun i => by rw [e37]; have := hB i; omega) (fun b4 B' h4 hB' => ?_)
  dsimp only
  rw [e37] at hB'
  have hb4 : fd_r b4 = fd_u (fd_u (fd_r a) 6 A') 7 B' := by
    rw [h4, h3, h2, e1y, h1, fd_u_c (show (7 : Nat) ≠ 6 by omega), fd_u_u, fd_u_u]
  have e46 : fd_r b4 6 = A' := by rw [hb4, fd_u_n (by omega), fd_u_s]
  have e47 : fd_r b4 7 = B' := by rw [hb4, fd_u_s]
  have same : ∀ (s : Nat → Int64) (g : po_P), fd_r s = fd_u (fd_r b4) t g → fd_r s = fd_b7 (fd_r a) t g A' B' (fd_r b4 22) (fd_r b4 8) (fd_r b4 9) (fd_r b4 10) := by
    intro s g hs
    rw [hs]
    simp only [fd_b7, fd_b4]
    rw [← hb4, fd_u_id, fd_u_id, fd_u_id, fd_u_id]
  have G44 : (∀ i, A' i = 0) ∨ (∀ i, B' i = 0) → wX_greatestCommon_44 post (nI t) fc mo pr lc dc b4 a2 a3 a4 a5 a6 := by
    intro hz
    refine fd_gc44 ht (fun h6 a' h => ?_) (fun h6 a' h => ?_)
    · rw [e46] at h6 h
      refine H a' _ _ _ _ _ _ _ _ _ (same a' _ h) hA' hB' (Or.inr (Or.inl ⟨h6, ?_, rfl⟩))
      rcases hz with z | z
      · obtain ⟨i, hi⟩ := h6
        exact absurd (z i) hi
      · exact z
    · rw [e46] at h6
      rw [e47] at h
      exact H a' _ _ _ _ _ _ _ _ _ (same a' _ h) hA' hB' (Or.inl ⟨h6, rfl⟩)
  refine fd_degreeOf (s := 6) (by omega) (fun h0 => br_t (by decide) ?_) (fun d hd h1' h2' => br_f (nI_pos (by omega)) ?_)
  · exact G44 (Or.inl (by rw [e46] at h0; exact h0))
  · refine fd_degreeOf (s := 7) (by omega) (fun h0 => br_f (by decide) ?_) (fun d' hd' h1'' h2'' => br_t (nI_pos' (by omega)) ?_)
    · exact G44 (Or.inr (by rw [e47] at h0; exact h0))
    · have bA : ∀ i, -1000 ≤ fd_r b4 6 i ∧ fd_r b4 6 i ≤ 1000 := by rw [e46]; exact fd_pz_b hA' hA
      have bB : ∀ i, -1000 ≤ fd_r b4 7 i ∧ fd_r b4 7 i ≤ 1000 := by rw [e47]; exact fd_pz_b hB' hB
      refine fd_tryPrime (p := 2147483647) rfl pm_1 (by omega) (by omega) ⟨d, h1'⟩ ⟨d', h1''⟩ bA bB (fun r b5 T u8 u9 u10 h5 hT hr => ?_)
      rw [e46] at h1'
      rw [e47] at h1''
      dsimp only
      rw [e46, e47] at hT hr
      rw [hb4] at h5
      have f5 : ∀ (s : Nat → Int64), fd_r s = fd_u (fd_r b5) t (fd_r b5 22) → fd_r s = fd_b7 (fd_r a) t T A' B' T u8 u9 u10 := by
        intro s hs
        rw [hs, h5, fd_b4_t]; rfl
      rcases hr with ⟨rfl, D1, D2⟩ | ⟨rfl, hn⟩
      · refine br_f (by decide) (fd_copy (f := 22) ht (by omega) (fun a' h => ?_))
        exact H a' _ _ _ _ _ _ _ _ _ (f5 a' h) hA' hB' (Or.inr (Or.inr ⟨⟨d, h1'⟩, ⟨d', h1''⟩, Or.inl ⟨hT, D1, D2⟩⟩))
      · have e56 : fd_r b5 6 = A' := by rw [h5, fd_b4_n (by omega) (by omega) (by omega) (by omega), fd_u_n (by omega), fd_u_s]
        have e57 : fd_r b5 7 = B' := by rw [h5, fd_b4_n (by omega) (by omega) (by omega) (by omega), fd_u_s]
        rw [e46] at bA
        rw [e47] at bB
        refine br_t rfl (fd_tryPrime (p := 2147483629) rfl pm_2 (by omega) (by omega) (by rw [e56]; exact ⟨d, h1'⟩) (by rw [e57]; exact ⟨d', h1''⟩) (by rw [e56]; exact bA) (by rw [e57]; exact bB) (fun r b6 T' v8 v9 v10 h6 hT' _ => ?_))
        dsimp only
        rw [e56, e57] at hT'
        refine fd_copy (f := 22) ht (by omega) (fun a' h => ?_)
        refine H a' _ _ T' A' B' T' v8 v9 v10 ?_ hA' hB' (Or.inr (Or.inr ⟨⟨d, h1'⟩, ⟨d', h1''⟩, Or.inr ⟨⟨T, hT, hn⟩, hT'⟩⟩))
        rw [h, h6, fd_b4_t, h5]
        simp only [fd_b7, fd_b4]
        funext s
        simp only [fd_u]
        by_cases c1 : s = t
        · simp [c1]
        · by_cases c2 : s = 22
          · subst c2; simp [c1]
          · by_cases c3 : s = 10
            · subst c3; simp [c1]
            · by_cases c4 : s = 9
              · subst c4; simp [c1]
              · by_cases c5 : s = 8
                · subst c5; simp [c1]
                · simp [c1, c2, c3, c4, c5]
theorem fd_splitOffMultiple {post : St1 → Prop} {a : Nat → Int64} {G : po_P → Prop} (hA : ∀ i, -20 ≤ fd_r a 4 i ∧ fd_r a 4 i ≤ 20) (h5 : ∀ i, 5 < i → fd_r a 4 i = 0)
    (M : ∀ A' B' T, fd_pz (fd_r a 4) A' → fd_pz (po_der (fd_r a 4)) B' → fd_gc A' B' T → ∃ Q, fd_TQ (fd_r a 4) T Q ∧ (∃ e, 0 < T e ∧ ∀ i, e < i → T i = 0) ∧ G Q)
    (H : ∀ a' mo' pr' T Q A' B' u22 u8 u10 u24, fd_r a' = fd_u (fd_u (fd_u (fd_b7 (fd_u (fd_r a) 24 u24) 23 T A' B' u22 u8 Q u10) 10 u10) 9 Q) 5 Q → G Q → post (fc, mo', pr', lc, dc, a', a2, a3, a4, a5, a6)) :
    wpX_splitOffMultiple post (fc, mo, pr, lc, dc, a, a2, a3, a4, a5, a6) := by
  unfold wpX_splitOffMultiple
  dsimp only
  refine fd_deriveInto (t := 24) (f := 4) (by omega) (by omega) (by omega) (fun i => by have := hA i; omega) (fun b1 h1 => ?_)
  dsimp only
  have e4 : fd_r b1 4 = fd_r a 4 := by rw [h1, fd_u_n (by omega)]
  have e24 : fd_r b1 24 = po_der (fd_r a 4) := by rw [h1, fd_u_s]
  refine fd_greatestCommon (t := 23) (x := 4) (y := 24) (by omega) (by omega) (by omega) (by omega) (fun i => by rw [e4]; have := hA i; omega) (fun i => ?_) (fun b2 mo' pr' T A' B' u22 u8 u9 u10 h2 hA' hB' hT => ?_)
  · rw [e24]
    show -1000 ≤ ((i : Int) + 1) * fd_r a 4 (i + 1) ∧ ((i : Int) + 1) * fd_r a 4 (i + 1) ≤ 1000
    by_cases hi : i < 5
    · have b := hA (i + 1)
      have l1 : ((i : Int) + 1) * fd_r a 4 (i + 1) ≤ ((i : Int) + 1) * 20 := Int.mul_le_mul_of_nonneg_left b.2 (by omega)
      have l2 : ((i : Int) + 1) * (-20) ≤ ((i : Int) + 1) * fd_r a 4 (i + 1) := Int.mul_le_mul_of_nonneg_left b.1 (by omega)
      omega
    · rw [h5 (i + 1) (by omega)]; omega
  dsimp only
  rw [e4] at hA'
  rw [e24] at hB'
  obtain ⟨Q, hQ, ⟨e, te, te2⟩, hG⟩ := M A' B' T hA' hB' hT
  have q4 : fd_r b2 4 = fd_r a 4 := by rw [h2, fd_b7_n (by omega) (by omega) (by omega) (by omega) (by omega) (by omega) (by omega), e4]
  have q23 : fd_r b2 23 = T := by rw [h2, fd_b7_t]
  obtain ⟨f1, f2, f3⟩ := hQ
  refine fd_divideT (x := 4) (y := 23) (e := e) (Q := Q) (by omega) (by omega) (by omega) (by omega) (by rw [q23]; exact te) (by rw [q23]; exact te2) f1 (by rw [q4, q23]; exact f2) (by rw [q23]; exact f3 e te te2) (fun b3 h3 => ?_)
  dsimp only
  have q9 : fd_r b3 9 = Q := by rw [h3, fd_u_s]
  refine fd_copy (t := 5) (f := 9) (by omega) (by omega) (fun b4 h4 => H b4 mo' pr' T Q A' B' u22 u8 (fun _ => 0) (po_der (fd_r a 4)) ?_ hG)
  rw [h4, q9, h3, h2, h1]
  congr 1
  funext s
  simp only [fd_u, fd_b7, fd_b4]
  by_cases c1 : s = 9
  · subst c1; simp
  · by_cases c2 : s = 10
    · subst c2; simp
    · simp [c1, c2]
end
end
section
/-! isGoodPrime, choosePrime -/
def fd_bad (p : Int) (L : po_P) : Prop := (∃ d, L d ≠ 0 ∧ (∀ i, d < i → L i = 0) ∧ p ∣ L d) ∨ ∃ g k, fd_gcd p L (po_der L) g ∧ 1 ≤ k ∧ k < 12 ∧ g k = 1 ∧ ∀ i, k < i → g i = 0
def fd_good (p : Int) (L : po_P) : Prop := (∀ d, L d ≠ 0 → (∀ i, d < i → L i = 0) → ¬ p ∣ L d) ∧ po_cb p L (po_der L) (po_C 1)
def pm_L : List Nat := [3, 5, 7, 11, 13, 17, 19, 23, 29, 31, 37, 41, 43, 47, 53, 59, 61, 67, 71, 73, 79, 83, 89, 97, 101, 103, 107, 109, 113]
def pm_sv (n : Nat) : Bool := (n % 3 == 0 && decide (3 < n)) || (n % 5 == 0 && decide (5 < n)) || (n % 7 == 0 && decide (7 < n))
def pm_nx : Nat → Nat → Nat
  | 0, n => n
  | k + 1, n => if pm_sv n then pm_nx k (n + 2) else n
theorem pm_L_nx : ∀ k, k < 28 → pm_nx 8 (pm_L.getD k 0 + 2) = pm_L.getD (k + 1) 0 ∧ pm_sv (pm_L.getD (k + 1) 0) = false := by decide
theorem pm_L_pr : ∀ k, k < 29 → pm_ck (pm_L.getD k 0) 20 2 = true ∨ (pm_L.getD k 0 < 22 ∧ pm_ck (pm_L.getD k 0) (pm_L.getD k 0 - 2) 2 = true) := by decide
theorem pm_L_b : ∀ k, k < 29 → 3 ≤ pm_L.getD k 0 ∧ pm_L.getD k 0 ≤ 113 := by decide
theorem pm_L_prime {k : Nat} (hk : k < 29) : po_prime (pm_L.getD k 0 : Nat) := by
  have b := pm_L_b k hk
  rcases pm_L_pr k hk with h | ⟨h0, h⟩
  · exact pm_prime (by omega) 20 (by omega) h
  · refine pm_prime (by omega) (pm_L.getD k 0 - 2) ?_ h
    rw [show pm_L.getD k 0 - 2 + 2 = pm_L.getD k 0 by omega]
    have : pm_L.getD k 0 * 1 < pm_L.getD k 0 * pm_L.getD k 0 := Nat.mul_lt_mul_of_pos_left (by omega) (by omega)
    omega
section
variable {fc lc dc : Int32} {mo pr : Int64} {a2 : Nat → Int32} {a3 : Nat → Int64} {a4 a5 a6 : Nat → Int32}
theorem fd_isGoodPrime {post : Int32 → St1 → Prop} {a : Nat → Int64} {P : Int64} {p : Int} (hP : P.toInt = p) (hp : po_prime p) (hp2 : p ≤ 2147483648) {d : Nat} (hd : fd_r a 5 d ≠ 0) (hd2 : ∀ i, d < i → fd_r a 5 i = 0) (hb : ∀ i, -500000000000000000 ≤ fd_r a 5 i ∧ fd_r a 5 i ≤ 500000000000000000)
    (H0 : ∀ a', (∀ s, s ≠ 8 → s ≠ 9 → s ≠ 10 → s ≠ 23 → s ≠ 24 → fd_r a' s = fd_r a s) → fd_bad p (fd_r a 5) → post 0 (fc, P, P, lc, dc, a', a2, a3, a4, a5, a6))
    (H1 : ∀ a', (∀ s, s ≠ 8 → s ≠ 9 → s ≠ 10 → s ≠ 23 → s ≠ 24 → fd_r a' s = fd_r a s) → fd_good p (fd_r a 5) → post 1 (fc, P, P, lc, dc, a', a2, a3, a4, a5, a6)) :
    wpX_isGoodPrime post (fc, mo, pr, lc, dc, a, a2, a3, a4, a5, a6) P := by
  have hp1 := hp.1
  unfold wpX_isGoodPrime
  dsimp only
  refine fd_leadOf (s := 5) (by omega) (fun h0 => absurd (h0 d) hd) (fun d' x hd' hx h1 h2 => ⟨li_ne0.mpr (by omega), br_c (fun z => ?_) (fun z => ?_)⟩)
  · have z' := congrArg Int64.toInt z
    rw [li_rem, hP, hx] at z'
    exact H0 a (fun _ _ _ _ _ _ => rfl) (Or.inl ⟨d', h1, h2, Int.dvd_of_tmod_eq_zero z'⟩)
  · have z' : ¬ p ∣ fd_r a 5 d' := fun w => z (li_eq.mpr (by rw [li_rem, hP, hx, Int.tmod_eq_zero_of_dvd w]; rfl))
    refine fd_deriveInto (t := 24) (f := 5) (by omega) (by omega) (by omega) hb (fun b1 k1 => ?_)
    dsimp only
    have e5 : fd_r b1 5 = fd_r a 5 := by rw [k1, fd_u_n (by omega)]
    have e24 : fd_r b1 24 = po_der (fd_r a 5) := by rw [k1, fd_u_s]
    refine fd_commonModulo (t := 23) (x := 5) (y := 24) (by omega) (by omega) (by omega) (by omega) (by omega) (by omega) (by omega) hP hP hp hp2 (fun b2 g u8 u9 u10 k2 hg => ?_)
    dsimp only
    rw [e5, e24] at hg
    have e23 : fd_r b2 23 = g := by rw [k2, fd_b4_t]
    have fr : ∀ s, s ≠ 8 → s ≠ 9 → s ≠ 10 → s ≠ 23 → s ≠ 24 → fd_r b2 s = fd_r a s := fun s s8 s9 s10 s23 s24 => by rw [k2, fd_b4_n s23 s8 s9 s10, k1, fd_u_n s24]
    refine fd_degreeOf (s := 23) (by omega) (fun h0 => ?_) (fun k hk q1 q2 => br_c (fun w => ?_) (fun w => ?_))
    · exfalso
      obtain ⟨g1, g2, g3, g4, g5⟩ := hg
      obtain ⟨w, _, hw⟩ := g3
      exact z' ((po_eq_i hw d').mpr (po_mul_dv d' g (fun i => by rw [← e23, h0 i]; exact Int.dvd_zero p)))
    · have k0 : k = 0 := (nI_eq (by omega) (by omega)).mp (w.trans nI_0.symm)
      subst k0
      rw [e23] at q1 q2
      obtain ⟨g1, g2, g3, g4, g5⟩ := hg
      have gC : g = po_C 1 := by
        rcases g5 with y | ⟨e, he, y1, y2⟩
        · exact absurd (y 0) q1
        · have e0 : e = 0 := Classical.byContradiction (fun v => by rw [q2 e (by omega)] at y1; omega)
          subst e0
          funext i
          by_cases hi : i = 0
          · rw [hi, y1]; rfl
          · rw [y2 i (by omega)]; simp [po_C, hi]
      rw [gC] at g2
      exact H1 b2 fr ⟨fun e he1 he2 => by
        have : e = d' := by
          rcases Nat.lt_trichotomy e d' with v | v | v
          · exact absurd (he2 d' v) h1
          · exact v
          · exact absurd (h2 e v) he1
        rw [this]; exact z', g2⟩
    · have k0 : k ≠ 0 := fun v => w (by rw [v]; rfl)
      rw [e23] at q1 q2
      refine H0 b2 fr (Or.inr ⟨g, k, hg, by omega, hk, ?_, q2⟩)
      obtain ⟨g1, g2, g3, g4, g5⟩ := hg
      rcases g5 with y | ⟨e, he, y1, y2⟩
      · exact absurd (y k) q1
      · have : e = k := by
          rcases Nat.lt_trichotomy e k with v | v | v
          · exact absurd (y2 k v) q1
          · exact v
          · rw [q2 e v] at y1; omega
        rw [← this]; exact y1
theorem pm_sv_step {post : St1 → Prop} {J4 : Int64 → Int32 → Int64 → Int64 → Int32 → Int32 → (Nat → Int64) → (Nat → Int32) → (Nat → Int64) → (Nat → Int32) → (Nat → Int32) → (Nat → Int32) → Prop} {a : Nat → Int64} {n k : Nat} (hn : n < 1000) (H1 : pm_sv n = true → wX_choosePrime_18 post J4 fc mo pr lc dc a a2 a3 a4 a5 a6 k (lN (n + 2))) (H0 : pm_sv n = false → J4 (lN n) fc mo pr lc dc a a2 a3 a4 a5 a6) : wX_choosePrime_18 post J4 fc mo pr lc dc a a2 a3 a4 a5 a6 (k + 1) (lN n) := by
  have rm : ∀ q, 0 < q → q < 10 → (lN n - lN n / lN q * lN q = 0 ↔ n % q = 0) := fun q h1 h2 => by
    rw [pk_lRem (by omega) h1 (by omega), show (0 : Int64) = lN 0 from rfl, pk_lEQ (Nat.lt_of_le_of_lt (Nat.mod_le _ _) (by omega)) (by omega)]
  have lt : ∀ q, q < 10 → (lN q < lN n ↔ q < n) := fun q h => pk_lLT (by omega) (by omega)
  have le : ∀ q, q < 10 → (lN n ≤ lN q ↔ n ≤ q) := fun q h => pk_lLE (by omega) (by omega)
  have ad : lN n + 2 = lN (n + 2) := lN_add n 2
  have r3 := rm 3 (by omega) (by omega)
  have r5 := rm 5 (by omega) (by omega)
  have r7 := rm 7 (by omega) (by omega)
  have H1' : pm_sv n = true → wX_choosePrime_18 post J4 fc mo pr lc dc a a2 a3 a4 a5 a6 k (lN n + 2) := fun z => by rw [ad]; exact H1 z
  have s54 : ¬ (n % 3 = 0 ∧ 3 < n) → ¬ (n % 5 = 0 ∧ 5 < n) → wX_choosePrime_54 post J4 (wX_choosePrime_18 post J4 fc mo pr lc dc a a2 a3 a4 a5 a6 k) (lN n) fc mo pr lc dc a a2 a3 a4 a5 a6 := by
    intro n3 n5
    refine ⟨by decide, br_c (fun z => br_c (fun w => H0 ?_) (fun w => nm_e (H1' ?_))) (fun z => H0 ?_)⟩
    · have := (le 7 (by omega)).mp w
      simp only [pm_sv, Bool.or_eq_false_iff, Bool.and_eq_false_iff, decide_eq_false_iff_not, beq_eq_false_iff_ne]
      omega
    · have := r7.mp z
      have : ¬ n ≤ 7 := fun v => w ((le 7 (by omega)).mpr v)
      simp only [pm_sv, Bool.or_eq_true, Bool.and_eq_true, decide_eq_true_eq, beq_iff_eq]
      omega
    · have : ¬ n % 7 = 0 := fun v => z (r7.mpr v)
      simp only [pm_sv, Bool.or_eq_false_iff, Bool.and_eq_false_iff, decide_eq_false_iff_not, beq_eq_false_iff_ne]
      omega
  have s36 : ¬ (n % 3 = 0 ∧ 3 < n) → wX_choosePrime_36 post J4 (wX_choosePrime_18 post J4 fc mo pr lc dc a a2 a3 a4 a5 a6 k) (lN n) fc mo pr lc dc a a2 a3 a4 a5 a6 := by
    intro n3
    refine ⟨by decide, br_c (fun z => br_c (fun w => nm_e (H1' ?_)) (fun w => s54 n3 (fun v => w ((lt 5 (by omega)).mpr v.2)))) (fun z => s54 n3 (fun v => z (r5.mpr v.1)))⟩
    have h1 := r5.mp z
    have h2 := (lt 5 (by omega)).mp w
    simp only [pm_sv, Bool.or_eq_true, Bool.and_eq_true, decide_eq_true_eq, beq_iff_eq]
    omega
  refine ⟨by decide, br_c (fun z => br_c (fun w => nm_e (H1' ?_)) (fun w => s36 (fun v => w ((lt 3 (by omega)).mpr v.2)))) (fun z => s36 (fun v => z (r3.mpr v.1)))⟩
  have h1 := r3.mp z
  have h2 := (lt 3 (by omega)).mp w
  simp only [pm_sv, Bool.or_eq_true, Bool.and_eq_true, decide_eq_true_eq, beq_iff_eq]
  omega
theorem pm_sv_loop {post : St1 → Prop} {J4 : Int64 → Int32 → Int64 → Int64 → Int32 → Int32 → (Nat → Int64) → (Nat → Int32) → (Nat → Int64) → (Nat → Int32) → (Nat → Int32) → (Nat → Int32) → Prop} {a : Nat → Int64} : ∀ (k n m : Nat), n + 2 * k < 1000 → pm_nx k n = m → pm_sv m = false → J4 (lN m) fc mo pr lc dc a a2 a3 a4 a5 a6 → wX_choosePrime_18 post J4 fc mo pr lc dc a a2 a3 a4 a5 a6 (k + 1) (lN n)
  | 0, n, m, hn, hm, hs, H => pm_sv_step (by omega) (fun z => by
      have : n = m := hm
      rw [this, hs] at z; exact absurd z (by decide)) (fun _ => by
      have : n = m := hm
      rw [this]; exact H)
  | k + 1, n, m, hn, hm, hs, H => pm_sv_step (by omega) (fun z => pm_sv_loop k (n + 2) m (by omega) (by rw [pm_nx, if_pos z] at hm; exact hm) hs H) (fun z => by
      rw [pm_nx, if_neg (by rw [z]; decide)] at hm
      rw [hm]; exact H)
theorem fd_choosePrime {post : St1 → Prop} {a : Nat → Int64} {d : Nat} (hd : fd_r a 5 d ≠ 0) (hd2 : ∀ i, d < i → fd_r a 5 i = 0) (hb : ∀ i, -500000000000000000 ≤ fd_r a 5 i ∧ fd_r a 5 i ≤ 500000000000000000)
    (M : (∀ k, k < 29 → fd_bad (pm_L.getD k 0 : Nat) (fd_r a 5)) → False)
    (H : ∀ a' k, k < 29 → (∀ s, s ≠ 8 → s ≠ 9 → s ≠ 10 → s ≠ 23 → s ≠ 24 → fd_r a' s = fd_r a s) → fd_good (pm_L.getD k 0 : Nat) (fd_r a 5) → (∀ j, j < k → fd_bad (pm_L.getD j 0 : Nat) (fd_r a 5)) → post (fc, lN (pm_L.getD k 0), lN (pm_L.getD k 0), lc, dc, a', a2, a3, a4, a5, a6)) :
    wpX_choosePrime post (fc, mo, pr, lc, dc, a, a2, a3, a4, a5, a6) := by
  have main : ∀ (n k : Nat), n + k = 29 → k < 29 → (∀ j, j < k → fd_bad (pm_L.getD j 0 : Nat) (fd_r a 5)) → ∀ (mo pr : Int64) (b : Nat → Int64), (∀ s, s ≠ 8 → s ≠ 9 → s ≠ 10 → s ≠ 23 → s ≠ 24 → fd_r b s = fd_r a s) → wX_choosePrime_4 post n (lN (pm_L.getD k 0)) fc mo pr lc dc b a2 a3 a4 a5 a6 := by
    intro n
    induction n with
    | zero => intro k h1 h2; omega
    | succ n ih =>
      intro k hnk hk hbad mo pr b hfr
      have bd := pm_L_b k hk
      have b5 : fd_r b 5 = fd_r a 5 := hfr 5 (by omega) (by omega) (by omega) (by omega) (by omega)
      unfold wX_choosePrime_4
      refine fd_isGoodPrime (d := d) (pk_lT (by omega)) (pm_L_prime hk) (by omega) (by rw [b5]; exact hd) (by rw [b5]; exact hd2) (by rw [b5]; exact hb) (fun a' fr hbd => ?_) (fun a' fr hgd => ?_)
      · dsimp only
        rw [b5] at hbd
        have fr' : ∀ s, s ≠ 8 → s ≠ 9 → s ≠ 10 → s ≠ 23 → s ≠ 24 → fd_r a' s = fd_r a s := fun s h1 h2 h3 h4 h5 => by rw [fr s h1 h2 h3 h4 h5, hfr s h1 h2 h3 h4 h5]
        have hb' : ∀ j, j < k + 1 → fd_bad (pm_L.getD j 0 : Nat) (fd_r a 5) := fun j hj => by
          by_cases e : j = k
          · rw [e]; exact hbd
          · exact hbad j (by omega)
        by_cases e : k = 28
        · exact (M (fun j hj => hb' j (by omega))).elim
        · have nx := pm_L_nx k (by omega)
          refine br_t rfl (nm_r (lN_add _ 2) ⟨9, ?_⟩)
          exact pm_sv_loop 8 _ _ (by omega) nx.1 nx.2 (ih (k + 1) (by omega) (by omega) hb' _ _ a' fr')
      · dsimp only
        rw [b5] at hgd
        exact br_f (by decide) (H a' k hk (fun s h1 h2 h3 h4 h5 => by rw [fr s h1 h2 h3 h4 h5, hfr s h1 h2 h3 h4 h5]) hgd hbad)
  exact ⟨29, main 29 0 (by omega) (by omega) (fun j hj => absurd hj (by omega)) mo pr a (fun _ _ _ _ _ _ => rfl)⟩
end
end
section
/-! timesUnknown, fillMatrix -/
/-- W is x^e modulo F (a row of degree below n) -/
def fd_xr (p : Int) (F : po_P) (n e : Nat) (W : po_P) : Prop := fd_rd p W ∧ (∀ i, n ≤ i → W i = 0) ∧ ∃ q, po_fin p q ∧ po_eq p (po_X e 1) (po_add W (po_mul q F))
theorem po_XX (a b : Nat) (x y : Int) : po_mul (po_X a x) (po_X b y) = po_X (a + b) (x * y) := by
  funext n
  rw [po_mul_X]
  simp only [po_X]
  by_cases h : a ≤ n
  · rw [if_pos h]
    by_cases k : n - a = b
    · rw [if_pos k, if_pos (by omega)]
    · rw [if_neg k, if_neg (by omega), Int.mul_zero]
  · rw [if_neg h, if_neg (by omega)]
theorem ga_xr {R : Type} [Lean.Grind.CommRing R] {m X Y W W' q t F x y : R} (h : Y = W + q * F + m * x) (k : W' = X * W - t * F + m * y) : X * Y = W' + (X * q + t) * F + m * (X * x - y) := by grind
theorem fd_xr_s {p : Int} {F W W' : po_P} {n e : Nat} {t : Int} (h : fd_xr p F n e W) (r1 : fd_rd p W') (r2 : ∀ i, n ≤ i → W' i = 0) (k : po_eq p W' (po_sub (po_mul (po_X 1 1) W) (po_mul (po_C t) F))) : fd_xr p F n (e + 1) W' := by
  obtain ⟨_, _, q, fq, hq⟩ := h
  obtain ⟨x, hx⟩ := po_eq_ex hq
  obtain ⟨y, hy⟩ := po_eq_ex k
  have g : po_eq p (po_mul (po_X 1 1) (po_X e 1)) (po_add W' (po_mul (po_add (po_mul (po_X 1 1) q) (po_C t)) F)) := po_ex_eq (@ga_xr po_P po_ring _ _ _ _ _ _ _ _ _ _ hx hy)
  rw [po_XX, Nat.add_comm] at g
  exact ⟨r1, r2, po_add (po_mul (po_X 1 1) q) (po_C t), po_fin_add (po_fin_mul (po_fin_X _ _ _) fq) (po_fin_C _ _), g⟩
section
variable {fc lc dc : Int32} {mo pr : Int64} {a2 : Nat → Int32} {a3 : Nat → Int64} {a4 a5 a6 : Nat → Int32}
theorem fd_tu72 {post : St1 → Prop} {a : Nat → Int64} {s b n : Nat} {tp : Int64} {p : Int} {B : Nat → po_P} (hs : s < 26) (hb : b < 26) (hsb : b ≠ s) (hn : n < 12) (hp : 0 < p) (hp2 : p ≤ 2147483648) (hmo : mo.toInt = p) (t1 : 0 ≤ tp.toInt) (t2 : tp.toInt < p) (hF : fd_rd p (B b)) (hS : fd_rd p (B s)) (h0 : fd_r a = B)
    (H : ∀ a', fd_r a' = fd_u B s (fd_rng 0 (n + 1) (fun j => (B s j - tp.toInt * B b j) % p) (B s)) → post (fc, mo, pr, lc, dc, a', a2, a3, a4, a5, a6)) : ∃ k, wX_timesUnknown_72 post (nI s) (nI b) (nI n) tp fc mo pr lc dc k 0 a a2 a3 a4 a5 a6 :=
  pk_loop (fun f k t => wX_timesUnknown_72 post (nI s) (nI b) (nI n) tp fc mo pr lc dc f (nI k) t a2 a3 a4 a5 a6) (fun k t => fd_r t = fd_u B s (fd_rng 0 k (fun j => (B s j - tp.toInt * B b j) % p) (B s))) (n + 1) 0 a (by omega) (by rw [fd_rng_0, fd_u_id, h0])
    (fun f t h => pk_lt n (n + 1) (fun _ => H t h) (fun z => absurd z (by omega)))
    (fun f k t hk h hw => pk_lt n k (fun z => absurd z (by omega)) (fun _ => by
      have g1 := fd_rgetn (q := b) (j := k) hsb (by omega) h
      have g2 := fd_rget (j := k) (by omega) h
      rw [fd_rng_hi] at g2
      obtain ⟨b1, b2⟩ := hF k
      obtain ⟨c1, c2⟩ := hS k
      have mm := li_mm t1 b1 t2 b2 hp2
      have em : (tp * t (12 * b + k)).toInt = tp.toInt * B b k := by rw [li_mul (by rw [g1]; omega) (by rw [g1]; omega), g1]
      have er : (tp * t (12 * b + k) - tp * t (12 * b + k) / mo * mo).toInt = tp.toInt * B b k % p := by rw [li_remN (by omega), em, hmo]
      have rl := li_emod (a := tp.toInt * B b k) hp
      refine ⟨pk_in (12 * s + k) 312 (by omega) (li_ix s k), pk_in (12 * b + k) 312 (by omega) (li_ix b k), li_ne0.mpr (by omega), fd_rest (by omega) (fun r hr => ⟨pk_in (12 * s + k) 312 (by omega) (li_ix s k), nm_r (by rw [li_ix, nI_clamp (by omega)]) (nm_r (nI_1 k) (hw _ (fd_rfill (hi := k) (v := r) (by omega) (by omega) h ?_)))⟩)⟩
      rw [hr, li_ix, li_ix, nI_clamp (by omega), nI_clamp (by omega), li_sub (by rw [er, g2]; omega) (by rw [er, g2]; omega), er, g2, hmo, li_sm]))
theorem fd_tu9 {post : St1 → Prop} {s b n : Nat} {p : Int} {B : Nat → po_P} (hs : s < 26) (hb : b < 26) (hsb : b ≠ s) (hn1 : 1 ≤ n) (hn : n < 12) (hp : 0 < p) (hp2 : p ≤ 2147483648) (hmo : mo.toInt = p) (hF : fd_rd p (B b)) (hS : fd_rd p (B s))
    (H : ∀ a', fd_r a' = fd_u B s (fd_rng 0 (n + 1) (fun j => ((if j = 0 then 0 else B s (j - 1)) - B s (n - 1) * B b j) % p) (B s)) → post (fc, mo, pr, lc, dc, a', a2, a3, a4, a5, a6)) :
    ∀ (c : Nat) (a : Nat → Int64), c ≤ n → fd_r a = fd_u B s (fd_rng (c + 1) (n + 1) (fun j => B s (j - 1)) (B s)) → wX_timesUnknown_9 post (nI s) (nI b) (nI n) fc mo pr lc dc (c + 1) (nI c) a a2 a3 a4 a5 a6 := by
  intro c
  induction c with
  | zero =>
    intro a _ ha
    have e0 : (12 * nI s : Int32) = nI (12 * s + 0) := by rw [show (12 : Int32) = nI 12 from rfl, pk_mul]; rfl
    refine br_t (by decide) ⟨pk_in (12 * s + 0) 312 (by omega) e0, ?_⟩
    rw [e0, nI_clamp (by omega)]
    have e2 : (nI (12 * s + 0) + nI n : Int32) = nI (12 * s + n) := by rw [nI_add]; congr 1
    refine nm_e ⟨pk_in (12 * s + n) 312 (by omega) e2, ?_⟩
    rw [e2, nI_clamp (by omega)]
    have h1 : fd_r (vp_updL a (12 * s + 0) 0) = fd_u B s (fun j => if j = 0 then 0 else if j ≤ n then B s (j - 1) else B s j) := by
      rw [fd_upd (by omega), ha, fd_u_s, fd_u_u]
      congr 1
      funext j
      simp only [fd_w, fd_rng]
      by_cases z : j = 0
      · rw [if_pos z, if_pos z]; rfl
      · rw [if_neg z, if_neg z]
        by_cases y : j ≤ n
        · rw [if_pos (by omega), if_pos y]
        · rw [if_neg (by omega), if_neg y]
    have gt : (vp_updL a (12 * s + 0) 0 (12 * s + n)).toInt = B s (n - 1) := by
      rw [fd_rget hn h1, if_neg (by omega), if_pos (Nat.le_refl n)]
    obtain ⟨t1, t2⟩ := hS (n - 1)
    refine nm_e (fd_tu72 (p := p) hs hb hsb hn hp hp2 hmo (by rw [gt]; exact t1) (by rw [gt]; exact t2) (by rw [fd_u_n hsb]; exact hF) ?_ h1 (fun a' ha' => H a' ?_))
    · rw [fd_u_s]
      intro j
      show 0 ≤ (if j = 0 then 0 else if j ≤ n then B s (j - 1) else B s j) ∧ (if j = 0 then 0 else if j ≤ n then B s (j - 1) else B s j) < p
      split
      · omega
      · split
        · exact hS _
        · exact hS _
    · rw [ha', gt, fd_u_s, fd_u_n hsb, fd_u_u]
      congr 1
      funext j
      simp only [fd_rng]
      by_cases y : 0 ≤ j ∧ j < n + 1
      · rw [if_pos y, if_pos y]
        by_cases z : j = 0
        · rw [if_pos z, if_pos z]
        · rw [if_neg z, if_neg z, if_pos (by omega)]
      · rw [if_neg y, if_neg y, if_neg (by omega), if_neg (by omega)]
  | succ c ih =>
    intro a hc ha
    have e1 : ((12 * nI s + nI (c + 1)) - 1 : Int32) = nI (12 * s + c) := by rw [li_ix, show 12 * s + (c + 1) = (12 * s + c) + 1 by omega, nI_pred]
    refine br_f (nI_nle (by omega) (by omega)) ⟨pk_in (12 * s + c) 312 (by omega) e1, pk_in (12 * s + (c + 1)) 312 (by omega) (li_ix s (c + 1)), nm_r (by rw [e1, li_ix, nI_clamp (by omega), nI_clamp (by omega)]) (nm_r (pk_m1 c) (ih (vp_updL a (12 * s + (c + 1)) (a (12 * s + c))) (by omega) ?_))⟩
    have g : (a (12 * s + c)).toInt = B s c := by
      rw [fd_rget (by omega) ha]
      simp only [fd_rng]; rw [if_neg (by omega)]
    rw [fd_upd (by omega), ha, fd_u_s, fd_u_u, g]
    congr 1
    funext j
    simp only [fd_w, fd_rng]
    by_cases z : j = c + 1
    · rw [if_pos z, if_pos (by omega), z]; rfl
    · rw [if_neg z]
      by_cases y : c + 1 + 1 ≤ j ∧ j < n + 1
      · rw [if_pos y, if_pos (by omega)]
      · rw [if_neg y, if_neg (by omega)]
theorem fd_timesUnknown {post : St1 → Prop} {a : Nat → Int64} {s b n : Nat} {p : Int} (hs : s < 26) (hb : b < 26) (hsb : b ≠ s) (hn1 : 1 ≤ n) (hp : 1 < p) (hp2 : p ≤ 2147483648) (hmo : mo.toInt = p) (hF : fd_rd p (fd_r a b)) (hF1 : fd_r a b n = 1) (hF2 : ∀ i, n < i → fd_r a b i = 0) (hS : fd_rd p (fd_r a s)) (hS2 : ∀ i, n ≤ i → fd_r a s i = 0)
    (H : ∀ a' W t, fd_r a' = fd_u (fd_r a) s W → fd_rd p W → (∀ i, n ≤ i → W i = 0) → po_eq p W (po_sub (po_mul (po_X 1 1) (fd_r a s)) (po_mul (po_C t) (fd_r a b))) → post (fc, mo, pr, lc, dc, a', a2, a3, a4, a5, a6)) :
    wpX_timesUnknown post (fc, mo, pr, lc, dc, a, a2, a3, a4, a5, a6) (nI s) (nI b) := by
  have hn : n < 12 := Classical.byContradiction (fun z => by rw [fd_r_12 a b n (by omega)] at hF1; omega)
  unfold wpX_timesUnknown
  dsimp only
  refine fd_degreeOf hb (fun h0 => by rw [h0 n] at hF1; omega) (fun d hd h1 h2 => ⟨d + 1, ?_⟩)
  have hdn : d = n := by
    rcases Nat.lt_trichotomy d n with z | z | z
    · rw [h2 n z] at hF1; omega
    · exact z
    · exact absurd (hF2 d z) h1
  subst hdn
  refine fd_tu9 (p := p) hs hb hsb hn1 hn (by omega) hp2 hmo hF hS (fun a' ha' => H a' _ (fd_r a s (d - 1)) ha' ?_ ?_ ?_) d a (Nat.le_refl d) ?_
  · intro j; simp only [fd_rng]; split
    · exact li_emod (by omega)
    · exact hS j
  · intro i hi
    simp only [fd_rng]
    by_cases z : i = d
    · rw [if_pos (by omega), if_neg (by omega), z, hF1, Int.mul_one, Int.sub_self, Int.zero_emod]
    · rw [if_neg (by omega)]; exact hS2 i hi
  · intro j
    show p ∣ fd_rng _ _ _ _ j - (po_mul _ _ j - po_mul _ _ j)
    rw [po_mul_X, po_mul_C]
    simp only [fd_rng]
    by_cases z : 0 ≤ j ∧ j < d + 1
    · rw [if_pos z]
      have e : (if j = 0 then 0 else fd_r a s (j - 1)) = if 1 ≤ j then 1 * fd_r a s (j - 1) else 0 := by
        by_cases y : j = 0
        · rw [if_pos y, if_neg (by omega)]
        · rw [if_neg y, if_pos (by omega), Int.one_mul]
      rw [← e]
      exact fd_em_eq p (fun j => (if j = 0 then 0 else fd_r a s (j - 1)) - fd_r a s (d - 1) * fd_r a b j) j
    · rw [if_neg z, if_pos (by omega), hS2 j (by omega), hS2 (j - 1) (by omega), hF2 j (by omega)]; simp
  · have : fd_rng (d + 1) (d + 1) (fun j => fd_r a s (j - 1)) (fd_r a s) = fd_r a s := fd_rng_0 _ _ _
    rw [this, fd_u_id]
end
end
section
/-! fillMatrix, exchangeRows, clearColumn -/
def fd_m (m : Nat → Int64) (r c : Nat) : Int := (m (5 * r + c)).toInt
theorem li_i5 (r c : Nat) : (5 * nI r + nI c : Int32) = nI (5 * r + c) := by
  rw [show (5 : Int32) = nI 5 from rfl, pk_mul, nI_add]
theorem fd_m_u {m : Nat → Int64} {r c r' c' : Nat} {v : Int64} (hc : c < 5) (hc' : c' < 5) : fd_m (vp_updL m (5 * r + c) v) r' c' = if r' = r ∧ c' = c then v.toInt else fd_m m r' c' := by
  simp only [fd_m, vp_updL]
  by_cases h : r' = r ∧ c' = c
  · rw [if_pos h, if_pos (by omega)]
  · rw [if_neg h, if_neg (by omega)]
/-- column j holds x^(P j) less x^j -/
def fd_mc (P : Nat) (F : po_P) (n : Nat) (m : Nat → Int64) (j : Nat) : Prop := ∃ W, fd_xr P F n (P * j) W ∧ ∀ k, k < n → fd_m m k j = (W k - if k = j then 1 else 0) % (P : Int)
section
variable {fc lc dc : Int32} {mo pr : Int64} {a2 : Nat → Int32} {a4 a5 a6 : Nat → Int32}
theorem fd_fm24 {post : St1 → Prop} {J : Int32 → Int32 → Int64 → Int64 → Int32 → Int32 → (Nat → Int64) → (Nat → Int32) → (Nat → Int64) → (Nat → Int32) → (Nat → Int32) → (Nat → Int32) → Prop} {a m : Nat → Int64} {n i P : Nat} {W : po_P} (hn : n ≤ 5) (hi : i < n) (hP : 1 < P) (hP2 : P < 1000) (hmo : mo.toInt = (P : Int)) (hW : fd_r a 23 = W) (hr : fd_rd P W)
    (H : ∀ m', (∀ k, k < n → fd_m m' k i = (W k - if k = i then 1 else 0) % (P : Int)) → (∀ r c, c < 5 → c ≠ i → fd_m m' r c = fd_m m r c) → ∃ f, wX_fillMatrix_72 post J (nI n) (nI i) f 0 fc mo pr lc dc a a2 m' a4 a5 a6) : ∃ f, wX_fillMatrix_24 post J (nI n) (nI i) fc mo pr lc dc f 0 a a2 m a4 a5 a6 :=
  pk_loop (fun f k s => wX_fillMatrix_24 post J (nI n) (nI i) fc mo pr lc dc f (nI k) a a2 s a4 a5 a6) (fun k s => (∀ q, q < k → fd_m s q i = (W q - if q = i then 1 else 0) % (P : Int)) ∧ ∀ r c, c < 5 → c ≠ i → fd_m s r c = fd_m m r c) n 0 m (by omega) ⟨fun q hq => absurd hq (by omega), fun _ _ _ _ => rfl⟩
    (fun f s h => pk_le n n (fun _ => H s h.1 h.2) (fun z => absurd z (by omega)))
    (fun f k s hk h hw => pk_le n k (fun z => absurd z (by omega)) (fun _ => by
      have ei : (276 + nI k : Int32) = nI (12 * 23 + k) := by rw [show (276 : Int32) = nI 276 from rfl, nI_add]
      have g : (a (12 * 23 + k)).toInt = W k := by rw [← hW, fd_r_i (by omega)]
      obtain ⟨w1, w2⟩ := hr k
      have st : ∀ z : Int64, z.toInt = (if k = i then 1 else 0) → wX_fillMatrix_59 post J (wX_fillMatrix_24 post J (nI n) (nI i) fc mo pr lc dc f) (nI n) (nI i) (nI k) z (a (12 * 23 + k)) (5 * nI k + nI i) fc mo pr lc dc a a2 s a4 a5 a6 := by
        intro z hz
        have zb : 0 ≤ z.toInt ∧ z.toInt ≤ 1 := by rw [hz]; split <;> omega
        refine fd_rest (by omega) (fun r hr' => ⟨pk_in (5 * k + i) 25 (by omega) (li_i5 k i), nm_r (by rw [li_i5, nI_clamp (by omega)]) (nm_r (nI_1 k) (hw _ ⟨fun q hq => ?_, fun r' c hc hci => ?_⟩))⟩)
        · rw [li_sub (by rw [g]; omega) (by rw [g]; omega), g, hz, hmo] at hr'
          rw [fd_m_u (by omega) (by omega)]
          by_cases e : q = k
          · rw [if_pos ⟨e, rfl⟩, hr', e]
          · rw [if_neg (by omega)]; exact h.1 q (by omega)
        · rw [fd_m_u (by omega) hc, if_neg (by omega)]; exact h.2 r' c hc hci
      refine ⟨pk_in (12 * 23 + k) 312 (by omega) ei, ?_⟩
      rw [ei, nI_clamp (by omega)]
      exact pk_eq k i (fun e => st 1 (by rw [if_pos e]; rfl)) (fun e => st 0 (by rw [if_neg e]; rfl))))
theorem fd_fm72 {post : St1 → Prop} {J : Int32 → Int32 → Int64 → Int64 → Int32 → Int32 → (Nat → Int64) → (Nat → Int32) → (Nat → Int64) → (Nat → Int32) → (Nat → Int32) → (Nat → Int32) → Prop} {a m : Nat → Int64} {n i P : Nat} {B : Nat → po_P} (hn1 : 1 ≤ n) (hP : 1 < P) (hP2 : P < 1000) (hmo : mo.toInt = (P : Int)) (hpr : pr.toInt = (P : Int)) (hF : fd_rd P (B 24)) (hF1 : B 24 n = 1) (hF2 : ∀ i, n < i → B 24 i = 0)
    (ha : ∃ W, fd_r a = fd_u B 23 W ∧ fd_xr P (B 24) n (P * i) W)
    (H : ∀ a' W, fd_r a' = fd_u B 23 W → fd_xr P (B 24) n (P * (i + 1)) W → J (nI (i + 1)) fc mo pr lc dc a' a2 m a4 a5 a6) : ∃ f, wX_fillMatrix_72 post J (nI n) (nI i) f 0 fc mo pr lc dc a a2 m a4 a5 a6 :=
  pk_loop (fun f k s => wX_fillMatrix_72 post J (nI n) (nI i) f (nI k) fc mo pr lc dc s a2 m a4 a5 a6) (fun k s => ∃ W, fd_r s = fd_u B 23 W ∧ fd_xr P (B 24) n (P * i + k) W) P 0 a (by omega) ha
    (fun f s h => br_t (by rw [li_le, Int32.toInt_toInt64, nI_toInt (by omega), hpr]; omega) (nm_r (nI_1 i) (by
      obtain ⟨W, h1, h2⟩ := h
      exact H s W h1 (by rw [Nat.mul_add, Nat.mul_one]; exact h2))))
    (fun f k s hk h hw => br_f (by rw [li_le, Int32.toInt_toInt64, nI_toInt (by omega), hpr]; omega) (by
      obtain ⟨W, h1, h2⟩ := h
      have e24 : fd_r s 24 = B 24 := by rw [h1, fd_u_n (by omega)]
      have e23 : fd_r s 23 = W := by rw [h1, fd_u_s]
      refine fd_timesUnknown (s := 23) (b := 24) (n := n) (p := P) (by omega) (by omega) (by omega) hn1 (by omega) (by omega) hmo (by rw [e24]; exact hF) (by rw [e24]; exact hF1) (by rw [e24]; exact hF2) (by rw [e23]; exact h2.1) (by rw [e23]; exact h2.2.1) (fun a' W' t k1 k2 k3 k4 => ?_)
      rw [e23, e24] at k4
      exact nm_r (nI_1 k) (hw a' ⟨W', by rw [k1, h1, fd_u_u], fd_xr_s h2 k2 k3 k4⟩)))
theorem fd_fillMatrix {post : St1 → Prop} {a m : Nat → Int64} {n P : Nat} (hn1 : 1 ≤ n) (hn : n ≤ 5) (hP : 1 < P) (hP2 : P < 1000) (hmo : mo.toInt = (P : Int)) (hpr : pr.toInt = (P : Int)) (hF : fd_rd P (fd_r a 24)) (hF1 : fd_r a 24 n = 1) (hF2 : ∀ i, n < i → fd_r a 24 i = 0)
    (H : ∀ a' m' W, fd_r a' = fd_u (fd_r a) 23 W → (∀ j, j < n → fd_mc P (fd_r a 24) n m' j) → post (fc, mo, pr, lc, dc, a', a2, m', a4, a5, a6)) :
    wpX_fillMatrix post (fc, mo, pr, lc, dc, a, a2, m, a4, a5, a6) (nI n) := by
  unfold wpX_fillMatrix
  dsimp only
  refine fd_clear (t := 23) (by omega) (fun b1 h1 => nm_e ⟨n + 1, ?_⟩)
  have h2 : fd_r (vp_updL b1 276 1) = fd_u (fd_r a) 23 (po_C 1) := by
    rw [show (276 : Nat) = 12 * 23 + 0 from rfl, fd_upd (by omega), h1, fd_u_s, fd_u_u]; rfl
  have x0 : fd_xr P (fd_r a 24) n (P * 0) (po_C 1) := by
    refine ⟨fun i => ?_, fun i hi => ?_, po_C 0, po_fin_C _ _, po_eq_e ?_⟩
    · simp only [po_C]; split <;> omega
    · simp only [po_C]; rw [if_neg (by omega)]
    · funext i
      show po_X (P * 0) 1 i = po_C 1 i + po_mul _ _ i
      rw [po_mul_C, Nat.mul_zero]
      show po_C 1 i = _
      omega
  have main : ∀ (f i : Nat) (b s : Nat → Int64) (W : po_P), f + i = n + 1 → i ≤ n → fd_r b = fd_u (fd_r a) 23 W → fd_xr P (fd_r a 24) n (P * i) W → (∀ j, j < i → fd_mc P (fd_r a 24) n s j) → wX_fillMatrix_17 post (nI n) f (nI i) fc mo pr lc dc b a2 s a4 a5 a6 := by
    intro f
    induction f with
    | zero => 
      intro i b s W hf hi hb hx hm
      omega
    | succ f ih =>
      intro i b s W hf hi hb hx hm
      refine pk_le n i (fun z => H b s W hb (fun j hj => hm j (by omega))) (fun z => ?_)
      refine fd_fm24 (P := P) hn z hP hP2 hmo (by rw [hb, fd_u_s]) hx.1 (fun m' k1 k2 => ?_)
      refine fd_fm72 (B := fd_r a) hn1 hP hP2 hmo hpr hF hF1 hF2 ⟨W, hb, hx⟩ (fun a' W' q1 q2 => ih (i + 1) a' m' W' (by omega) (by omega) q1 q2 (fun j hj => ?_))
      by_cases e : j = i
      · rw [e]; exact ⟨W, hx, k1⟩
      · obtain ⟨W0, w1, w2⟩ := hm j (by omega)
        exact ⟨W0, w1, fun k hk => by rw [k2 k j (by omega) e]; exact w2 k hk⟩
  exact main (n + 1) 0 _ m _ (by omega) (by omega) h2 x0 (fun j hj => absurd hj (by omega))
theorem fd_exchangeRows {post : St1 → Prop} {a m : Nat → Int64} {r q n : Nat} (hn : n ≤ 5) (hr : r < 5) (hq : q < 5)
    (H : ∀ m', (∀ r' c, c < 5 → fd_m m' r' c = if c < n then (if r' = q then fd_m m r c else if r' = r then fd_m m q c else fd_m m r' c) else fd_m m r' c) → post (fc, mo, pr, lc, dc, a, a2, m', a4, a5, a6)) :
    wpX_exchangeRows post (fc, mo, pr, lc, dc, a, a2, m, a4, a5, a6) (nI r) (nI q) (nI n) :=
  pk_loop (fun f k s => wX_exchangeRows_3 post (nI r) (nI q) (nI n) fc mo pr lc dc f (nI k) a a2 s a4 a5 a6) (fun k s => ∀ r' c, c < 5 → fd_m s r' c = if c < k then (if r' = q then fd_m m r c else if r' = r then fd_m m q c else fd_m m r' c) else fd_m m r' c) n 0 m (by omega) (fun r' c hc => by rw [if_neg (by omega)])
    (fun f s h => pk_le n n (fun _ => H s h) (fun z => absurd z (by omega)))
    (fun f k s hk h hw => pk_le n k (fun z => absurd z (by omega)) (fun _ => by
      refine ⟨pk_in (5 * r + k) 25 (by omega) (li_i5 r k), ?_⟩
      rw [li_i5, li_i5, nI_clamp (by omega), nI_clamp (by omega)]
      refine nm_e ⟨pk_in (5 * q + k) 25 (by omega) rfl, pk_in (5 * r + k) 25 (by omega) rfl, nm_e ⟨pk_in (5 * q + k) 25 (by omega) rfl, nm_e (nm_r (nI_1 k) (hw _ (fun r' c hc => ?_)))⟩⟩
      rw [fd_m_u (by omega) hc, fd_m_u (by omega) hc]
      have h1 := h r k (by omega)
      have h2 := h q k (by omega)
      rw [if_neg (by omega)] at h1 h2
      simp only [fd_m] at h1 h2
      by_cases e : c = k
      · subst e
        rw [if_pos (show c < c + 1 by omega)]
        by_cases e1 : r' = q
        · rw [if_pos ⟨e1, rfl⟩, if_pos e1, h1]; rfl
        · rw [if_neg (by omega), if_neg e1]
          by_cases e2 : r' = r
          · rw [if_pos ⟨e2, rfl⟩, if_pos e2, h2]; rfl
          · rw [if_neg (by omega), if_neg e2, h r' c hc, if_neg (by omega)]
      · rw [if_neg (by omega), if_neg (by omega), h r' c hc]
        by_cases e3 : c < k
        · rw [if_pos e3, if_pos (show c < k + 1 by omega)]
        · rw [if_neg e3, if_neg (show ¬ c < k + 1 by omega)]))
theorem fd_cc102 {post : St1 → Prop} {J : Int32 → (Nat → Int64) → (Nat → Int32) → (Nat → Int64) → (Nat → Int32) → (Nat → Int32) → (Nat → Int32) → Prop} {a m : Nat → Int64} {row c n r : Nat} {ft : Int64} {p : Int} (hn : n ≤ 5) (hrow : row < 5) (hr : r < 5) (hrr : r ≠ row) (hp : 0 < p) (hp2 : p ≤ 2147483648) (hmo : mo.toInt = p) (f1 : 0 ≤ ft.toInt) (f2 : ft.toInt < p) (hm1 : ∀ k, k < n → 0 ≤ fd_m m row k ∧ fd_m m row k < p) (hm2 : ∀ k, k < n → 0 ≤ fd_m m r k ∧ fd_m m r k < p)
    (H : ∀ m', (∀ r' k, k < 5 → fd_m m' r' k = if r' = r ∧ k < n then (fd_m m r k - ft.toInt * fd_m m row k) % p else fd_m m r' k) → J (nI (r + 1)) a a2 m' a4 a5 a6) :
    ∃ f, wX_clearColumn_102 post J (nI row) (nI c) (nI n) (nI r) ft fc mo pr lc dc f 0 a a2 m a4 a5 a6 :=
  pk_loop (fun f k s => wX_clearColumn_102 post J (nI row) (nI c) (nI n) (nI r) ft fc mo pr lc dc f (nI k) a a2 s a4 a5 a6) (fun k s => ∀ r' j, j < 5 → fd_m s r' j = if r' = r ∧ j < k then (fd_m m r j - ft.toInt * fd_m m row j) % p else fd_m m r' j) n 0 m (by omega) (fun r' j hj => by rw [if_neg (by omega)])
    (fun f s h => pk_le n n (fun _ => nm_r (nI_1 r) (H s h)) (fun z => absurd z (by omega)))
    (fun f k s hk h hw => pk_le n k (fun z => absurd z (by omega)) (fun _ => by
      have h1 := h r k (by omega)
      have h2 := h row k (by omega)
      rw [if_neg (by omega)] at h1 h2
      have g1 : (s (5 * r + k)).toInt = fd_m m r k := h1
      have g2 : (s (5 * row + k)).toInt = fd_m m row k := h2
      obtain ⟨b1, b2⟩ := hm1 k hk
      obtain ⟨c1, c2⟩ := hm2 k hk
      have mm := li_mm f1 b1 f2 b2 hp2
      have em : (ft * s (5 * row + k)).toInt = ft.toInt * fd_m m row k := by rw [li_mul (by rw [g2]; omega) (by rw [g2]; omega), g2]
      have er : (ft * s (5 * row + k) - ft * s (5 * row + k) / mo * mo).toInt = ft.toInt * fd_m m row k % p := by rw [li_remN (by omega), em, hmo]
      have rl := li_emod (a := ft.toInt * fd_m m row k) hp
      refine ⟨pk_in (5 * r + k) 25 (by omega) (li_i5 r k), pk_in (5 * row + k) 25 (by omega) (li_i5 row k), li_ne0.mpr (by omega), fd_rest (by omega) (fun v hv => ⟨pk_in (5 * r + k) 25 (by omega) (li_i5 r k), nm_r (by rw [li_i5, nI_clamp (by omega)]) (nm_r (nI_1 k) (hw _ (fun r' j hj => ?_)))⟩)⟩
      rw [li_i5, li_i5, nI_clamp (by omega), nI_clamp (by omega), li_sub (by rw [er, g1]; omega) (by rw [er, g1]; omega), er, g1, hmo, li_sm] at hv
      rw [fd_m_u (by omega) hj]
      by_cases e : r' = r ∧ j = k
      · rw [if_pos e, if_pos (by omega), hv, e.2]
      · rw [if_neg e, h r' j hj]
        by_cases e2 : r' = r ∧ j < k
        · rw [if_pos e2, if_pos (show r' = r ∧ j < k + 1 by omega)]
        · rw [if_neg e2, if_neg (show ¬ (r' = r ∧ j < k + 1) by omega)]))
/-- the matrix after clearColumn -/
def fd_cl (p b : Int) (row c n : Nat) (M M' : Nat → Nat → Int) : Prop := (∀ k, k < n → M' row k = M row k * b % p) ∧ ∀ r k, r < n → r ≠ row → k < n → M' r k = (M r k - M r c * (M row k * b % p)) % p
theorem fd_cc64 {post : St1 → Prop} {a m : Nat → Int64} {row c n : Nat} {p : Int} (hn : n ≤ 5) (hrow : row < n) (hc : c < n) (hp : 0 < p) (hp2 : p ≤ 2147483648) (hmo : mo.toInt = p) (hm : ∀ r k, r < n → k < n → 0 ≤ fd_m m r k ∧ fd_m m r k < p)
    (H : ∀ m', (∀ k, k < n → fd_m m' row k = fd_m m row k) → (∀ r k, r < n → r ≠ row → k < n → fd_m m' r k = (fd_m m r k - fd_m m r c * fd_m m row k) % p) → post (fc, mo, pr, lc, dc, a, a2, m', a4, a5, a6)) :
    ∃ f, wX_clearColumn_64 post (nI row) (nI c) (nI n) fc mo pr lc dc f 0 a a2 m a4 a5 a6 :=
  pk_loop (fun f q s => wX_clearColumn_64 post (nI row) (nI c) (nI n) fc mo pr lc dc f (nI q) a a2 s a4 a5 a6) (fun q s => (∀ k, k < n → fd_m s row k = fd_m m row k) ∧ (∀ r k, r < n → r ≠ row → k < n → fd_m s r k = if r < q then (fd_m m r k - fd_m m r c * fd_m m row k) % p else fd_m m r k)) n 0 m (by omega) ⟨fun _ _ => rfl, fun r k _ _ _ => by rw [if_neg (by omega)]⟩
    (fun f s h => pk_le n n (fun _ => H s h.1 (fun r k h1 h2 h3 => by rw [h.2 r k h1 h2 h3, if_pos h1])) (fun z => absurd z (by omega)))
    (fun f q s hq h hw => pk_le n q (fun z => absurd z (by omega)) (fun _ => by
      refine ⟨pk_in (5 * q + c) 25 (by omega) (li_i5 q c), ?_⟩
      rw [li_i5, nI_clamp (by omega)]
      refine nm_e (pk_eq q row (fun e => nm_r (nI_1 q) (hw s ⟨h.1, fun r k h1 h2 h3 => ?_⟩)) (fun e => ?_))
      · rw [h.2 r k h1 h2 h3]
        by_cases e2 : r < q
        · rw [if_pos e2, if_pos (show r < q + 1 by omega)]
        · rw [if_neg e2, if_neg (show ¬ r < q + 1 by omega)]
      · have hf : (s (5 * q + c)).toInt = fd_m m q c := by
          have := h.2 q c hq e hc
          rw [if_neg (by omega)] at this
          exact this
        have sm : ∀ r k, r < n → k < n → 0 ≤ fd_m s r k ∧ fd_m s r k < p := fun r k h1 h2 => by
          by_cases e1 : r = row
          · rw [e1, h.1 k h2]; exact hm row k hrow h2
          · rw [h.2 r k h1 e1 h2]; split
            · exact li_emod hp
            · exact hm r k h1 h2
        obtain ⟨f1, f2⟩ := hm q c hq hc
        refine br_c (fun z => nm_r (nI_1 q) (hw s ⟨h.1, fun r k h1 h2 h3 => ?_⟩)) (fun z => ?_)
        · rw [h.2 r k h1 h2 h3]
          by_cases e2 : r < q
          · rw [if_pos e2, if_pos (show r < q + 1 by omega)]
          · rw [if_neg e2]
            by_cases e3 : r = q
            · rw [if_pos (show r < q + 1 by omega), e3]
              rw [z] at hf
              have hf' : fd_m m q c = 0 := hf.symm
              rw [hf', Int.zero_mul, Int.sub_zero]
              have := hm q k hq h3
              exact (Int.emod_eq_of_lt this.1 this.2).symm
            · rw [if_neg (show ¬ r < q + 1 by omega)]
        · refine fd_cc102 (p := p) hn (by omega) (by omega) e hp hp2 hmo (by rw [hf]; exact f1) (by rw [hf]; exact f2) (fun k hk => sm row k hrow hk) (fun k hk => sm q k hq hk) (fun m' hm' => hw m' ⟨fun k hk => ?_, fun r k h1 h2 h3 => ?_⟩)
          · rw [hm' row k (by omega), if_neg (by omega)]; exact h.1 k hk
          · rw [hm' r k (by omega)]
            by_cases e3 : r = q
            · have hq2 := h.2 q k hq e h3
              rw [if_neg (by omega)] at hq2
              rw [if_pos ⟨e3, h3⟩, if_pos (show r < q + 1 by omega), hf, hq2, h.1 k h3, e3]
            · rw [if_neg (by omega), h.2 r k h1 h2 h3]
              by_cases e2 : r < q
              · rw [if_pos e2, if_pos (show r < q + 1 by omega)]
              · rw [if_neg e2, if_neg (show ¬ r < q + 1 by omega)]))
theorem fd_clearColumn {post : St1 → Prop} {a m : Nat → Int64} {row c n : Nat} {p : Int} (hn : n ≤ 5) (hrow : row < n) (hc : c < n) (hp : po_prime p) (hp2 : p ≤ 2147483648) (hmo : mo.toInt = p) (hpr : pr.toInt = p) (hm : ∀ r k, r < n → k < n → 0 ≤ fd_m m r k ∧ fd_m m r k < p) (hnz : fd_m m row c ≠ 0)
    (H : ∀ m' b, fd_cl p b row c n (fd_m m) (fd_m m') → p ∣ b * fd_m m row c - 1 → 0 < b → b < p → post (fc, mo, pr, lc, dc, a, a2, m', a4, a5, a6)) :
    wpX_clearColumn post (fc, mo, pr, lc, dc, a, a2, m, a4, a5, a6) (nI row) (nI c) (nI n) := by
  have hp1 := hp.1
  refine ⟨pk_in (5 * row + c) 25 (by omega) (li_i5 row c), ?_⟩
  rw [li_i5, nI_clamp (by omega)]
  obtain ⟨l1, l2⟩ := hm row c hrow hc
  refine fd_inverse (p := p) hpr hp (by omega) l1 (fun z => hnz ?_) (fun b b1 b2 b3 => ?_)
  · have e := Int.emod_eq_of_lt l1 l2
    rw [← e]; exact Int.emod_eq_zero_of_dvd z
  refine pk_loop (fun f k s => wX_clearColumn_19 post (nI row) (nI c) (nI n) b fc mo pr lc dc f (nI k) a a2 s a4 a5 a6) (fun k s => ∀ r' j, j < 5 → fd_m s r' j = if r' = row ∧ j < k then fd_m m row j * b.toInt % p else fd_m m r' j) n 0 m (by omega) (fun r' j hj => by rw [if_neg (by omega)])
    (fun f s h => pk_le n n (fun _ => ?_) (fun z => absurd z (by omega)))
    (fun f k s hk h hw => pk_le n k (fun z => absurd z (by omega)) (fun _ => ?_))
  · have sr : ∀ k, k < n → fd_m s row k = fd_m m row k * b.toInt % p := fun k hk => by rw [h row k (by omega), if_pos ⟨rfl, hk⟩]
    have so : ∀ r k, r ≠ row → k < n → fd_m s r k = fd_m m r k := fun r k h1 h2 => by rw [h r k (by omega), if_neg (by omega)]
    refine fd_cc64 (p := p) hn hrow hc (by omega) hp2 hmo (fun r k h1 h2 => ?_) (fun m' k1 k2 => H m' b.toInt ⟨fun k hk => ?_, fun r k h1 h2 h3 => ?_⟩ b3 b1 b2)
    · by_cases e : r = row
      · rw [e, sr k h2]; exact li_emod (by omega)
      · rw [so r k e h2]; exact hm r k h1 h2
    · rw [k1 k hk, sr k hk]
    · rw [k2 r k h1 h2 h3, so r k h2 h3, so r c h2 hc, sr k h3]
  · have h1 := h row k (by omega)
    rw [if_neg (by omega)] at h1
    have g1 : (s (5 * row + k)).toInt = fd_m m row k := h1
    obtain ⟨c1, c2⟩ := hm row k hrow hk
    have mm := li_mm c1 (show 0 ≤ b.toInt by omega) c2 b2 hp2
    have em : (s (5 * row + k) * b).toInt = fd_m m row k * b.toInt := by rw [li_mul (by rw [g1]; omega) (by rw [g1]; omega), g1]
    have er : (s (5 * row + k) * b - s (5 * row + k) * b / mo * mo).toInt = fd_m m row k * b.toInt % p := by rw [li_remN (by omega), em, hmo]
    refine ⟨pk_in (5 * row + k) 25 (by omega) (li_i5 row k), li_ne0.mpr (by omega), pk_in (5 * row + k) 25 (by omega) (li_i5 row k), nm_r (by rw [li_i5, nI_clamp (by omega)]) (nm_r (nI_1 k) (hw _ (fun r' j hj => ?_)))⟩
    rw [fd_m_u (by omega) hj]
    by_cases e : r' = row ∧ j = k
    · rw [if_pos e, if_pos (by omega), er, e.2]
    · rw [if_neg e, h r' j hj]
      by_cases e2 : r' = row ∧ j < k
      · rw [if_pos e2, if_pos (show r' = row ∧ j < k + 1 by omega)]
      · rw [if_neg e2, if_neg (show ¬ (r' = row ∧ j < k + 1) by omega)]
end
end
section
/-! eliminate, solution -/
def fd_s : Nat → (Nat → Int) → Int
  | 0, _ => 0
  | n + 1, f => fd_s n f + f n
theorem fd_s_dvd {p : Int} : ∀ (n : Nat) {f g : Nat → Int}, (∀ i, i < n → p ∣ f i - g i) → p ∣ fd_s n f - fd_s n g
  | 0, f, g, _ => by simp [fd_s]
  | n + 1, f, g, h => by
    have a := Int.dvd_add (fd_s_dvd n (fun i hi => h i (by omega))) (h n (by omega))
    rwa [show fd_s n f - fd_s n g + (f n - g n) = fd_s (n + 1) f - fd_s (n + 1) g by simp only [fd_s]; omega] at a
theorem fd_s_mul (c : Int) : ∀ (n : Nat) (f : Nat → Int), fd_s n (fun i => c * f i) = c * fd_s n f
  | 0, f => by simp [fd_s]
  | n + 1, f => by simp only [fd_s, fd_s_mul c n f]; grind
theorem fd_s_sub : ∀ (n : Nat) (f g : Nat → Int), fd_s n (fun i => f i - g i) = fd_s n f - fd_s n g
  | 0, f, g => by simp [fd_s]
  | n + 1, f, g => by simp only [fd_s, fd_s_sub n f g]; omega
theorem li_mulm {x y z m : Int} : (x - y * (z % m)) % m = (x - y * z) % m := by
  rw [Int.sub_emod, Int.mul_emod, Int.emod_emod, ← Int.mul_emod, ← Int.sub_emod]
def fd_ker (p : Int) (n : Nat) (M : Nat → Nat → Int) (v : Nat → Int) : Prop := ∀ k, k < n → p ∣ fd_s n (fun i => M k i * v i)
def fd_cnt (pv : Nat → Int32) : Nat → Nat
  | 0 => 0
  | n + 1 => fd_cnt pv n + if pv n = 0 then 0 else 1
/-- the state of the elimination before column c -/
def el_I (p : Int) (n : Nat) (M0 : Nat → Nat → Int) (c row : Nat) (M : Nat → Nat → Int) (pv pw : Nat → Int32) (rk : Nat → Nat) : Prop :=
  row ≤ c ∧ (∀ r k, r < n → k < n → 0 ≤ M r k ∧ M r k < p) ∧ (∀ v, fd_ker p n M0 v → fd_ker p n M v) ∧
  ((∀ j, j < c → pv j = 0 ∨ (pv j = 1 ∧ pw j = nI (rk j) ∧ rk j < row ∧ M (rk j) j = 1 ∧ ∀ r, r < n → r ≠ rk j → M r j = 0)) ∧ (∀ i j, i < c → j < c → pv i = 1 → pv j = 1 → rk i = rk j → i = j)) ∧
  fd_cnt pv c = row ∧ ((∀ r k, r < n → k < n → M0 r k = 0) → (∀ r k, r < n → k < n → M r k = 0) ∧ row = 0) ∧ ((∀ r, r < n → M0 r 0 = 0) → (∀ r, r < n → M r 0 = 0) ∧ (0 < c → pv 0 = 0))
theorem fd_cnt_e {pv pv' : Nat → Int32} : ∀ n, (∀ i, i < n → pv i = pv' i) → fd_cnt pv n = fd_cnt pv' n
  | 0, _ => rfl
  | n + 1, h => by rw [fd_cnt, fd_cnt, fd_cnt_e n (fun i hi => h i (by omega)), h n (by omega)]
theorem el_0 {p : Int} {n : Nat} {M : Nat → Nat → Int} {pv pw : Nat → Int32} {rk : Nat → Nat} (h : ∀ r k, r < n → k < n → 0 ≤ M r k ∧ M r k < p) : el_I p n M 0 0 M pv pw rk :=
  ⟨Nat.le_refl 0, h, fun _ h => h, ⟨fun j hj => absurd hj (by omega), fun i j hi => absurd hi (by omega)⟩, rfl, fun h => ⟨h, rfl⟩, fun h => ⟨h, fun z => absurd z (by omega)⟩⟩
theorem el_skip {p : Int} {n : Nat} {M0 M : Nat → Nat → Int} {c row : Nat} {pv pw : Nat → Int32} {rk : Nat → Nat} (h : el_I p n M0 c row M pv pw rk) : el_I p n M0 (c + 1) row M (upd pv c 0) pw rk := by
  obtain ⟨h1, h2, h3, ⟨h4, h5⟩, h6, h7, h8⟩ := h
  refine ⟨by omega, h2, h3, ⟨fun j hj => ?_, fun i j hi hj p1 p2 e => ?_⟩, ?_, h7, fun z => ⟨(h8 z).1, fun _ => ?_⟩⟩
  · by_cases e : j = c
    · left; rw [e, pk_us]
    · rw [pk_un e]; exact h4 j (by omega)
  · have n1 : i ≠ c := fun z => by rw [z, pk_us] at p1; exact absurd p1 (by decide)
    have n2 : j ≠ c := fun z => by rw [z, pk_us] at p2; exact absurd p2 (by decide)
    rw [pk_un n1] at p1
    rw [pk_un n2] at p2
    exact h5 i j (by omega) (by omega) p1 p2 e
  · rw [fd_cnt, pk_us, if_pos rfl, fd_cnt_e c (fun i hi => pk_un (by omega)), h6]; rfl
  · by_cases e : c = 0
    · rw [e, pk_us]
    · rw [pk_un (by omega)]; exact (h8 z).2 (by omega)
theorem el_piv {p : Int} (hp : 1 < p) {n : Nat} {M0 M M1 M2 : Nat → Nat → Int} {c row r : Nat} {pv pw : Nat → Int32} {rk : Nat → Nat} {b : Int} (h : el_I p n M0 c row M pv pw rk) (hc : c < n) (hr : r < n) (hrow : row ≤ r) (hnz : M r c ≠ 0)
    (hM1 : ∀ q k, q < n → k < n → M1 q k = if q = row then M r k else if q = r then M row k else M q k) (hM2 : fd_cl p b row c n M1 M2) (hb : p ∣ b * M1 row c - 1) : el_I p n M0 (c + 1) (row + 1) M2 (upd (upd pv c 0) c 1) (upd pw c (nI row)) (fun j => if j = c then row else rk j) := by
  obtain ⟨h1, h2, h3, ⟨h4, h5⟩, h6, h7, h8⟩ := h
  obtain ⟨c1, c2⟩ := hM2
  have m1 : ∀ q k, q < n → k < n → 0 ≤ M1 q k ∧ M1 q k < p := fun q k hq hk => by
    rw [hM1 q k hq hk]; split
    · exact h2 r k hr hk
    · split
      · exact h2 row k (by omega) hk
      · exact h2 q k hq hk
  have m2 : ∀ q k, q < n → k < n → 0 ≤ M2 q k ∧ M2 q k < p := fun q k hq hk => by
    by_cases e : q = row
    · rw [e, c1 k hk]; exact li_emod (by omega)
    · rw [c2 q k hq e hk]; exact li_emod (by omega)
  have one : M1 row c * b % p = 1 := by
    have : (M1 row c * b) % p = 1 % p := Int.emod_eq_emod_iff_emod_sub_eq_zero.mpr (Int.emod_eq_zero_of_dvd (by rw [Int.mul_comm]; exact hb))
    rw [this, Int.emod_eq_of_lt (by omega) hp]
  have ker1 : ∀ v, fd_ker p n M v → fd_ker p n M1 v := fun v hv k hk => by
    have e : ∀ q, (∀ i, i < n → M1 k i = M q i) → q < n → p ∣ fd_s n (fun i => M1 k i * v i) := fun q hq hqn => by
      have a := fd_s_dvd (p := p) n (f := fun i => M1 k i * v i) (g := fun i => M q i * v i) (fun i hi => by show p ∣ M1 k i * v i - M q i * v i; rw [hq i hi, Int.sub_self]; exact Int.dvd_zero p)
      have := Int.dvd_add a (hv q hqn)
      rwa [show fd_s n (fun i => M1 k i * v i) - fd_s n (fun i => M q i * v i) + fd_s n (fun i => M q i * v i) = fd_s n (fun i => M1 k i * v i) by omega] at this
    by_cases e1 : k = row
    · exact e r (fun i hi => by rw [hM1 k i hk hi, if_pos e1]) hr
    · by_cases e2 : k = r
      · exact e row (fun i hi => by rw [hM1 k i hk hi, if_neg e1, if_pos e2]) (by omega)
      · exact e k (fun i hi => by rw [hM1 k i hk hi, if_neg e1, if_neg e2]) hk
  have ker2 : ∀ v, fd_ker p n M1 v → fd_ker p n M2 v := fun v hv k hk => by
    by_cases e1 : k = row
    · have a := fd_s_dvd (p := p) n (f := fun i => M2 k i * v i) (g := fun i => b * (M1 row i * v i)) (fun i hi => by
        show p ∣ M2 k i * v i - b * (M1 row i * v i)
        rw [e1, c1 i hi]
        have := Int.dvd_mul_of_dvd_left (c := v i) (fd_em_eq p (fun i => M1 row i * b) i)
        rwa [show (fd_em p (fun i => M1 row i * b) i - M1 row i * b) * v i = M1 row i * b % p * v i - b * (M1 row i * v i) by simp only [fd_em]; grind] at this)
      rw [fd_s_mul] at a
      have := Int.dvd_add a (Int.dvd_mul_of_dvd_right (b := b) (hv row (by omega)))
      rwa [show fd_s n (fun i => M2 k i * v i) - b * fd_s n (fun i => M1 row i * v i) + b * fd_s n (fun i => M1 row i * v i) = fd_s n (fun i => M2 k i * v i) by omega] at this
    · have a := fd_s_dvd (p := p) n (f := fun i => M2 k i * v i) (g := fun i => M1 k i * v i - (M1 k c * b) * (M1 row i * v i)) (fun i hi => by
        show p ∣ M2 k i * v i - (M1 k i * v i - (M1 k c * b) * (M1 row i * v i))
        rw [c2 k i hk e1 hi, li_mulm]
        have := Int.dvd_mul_of_dvd_left (c := v i) (fd_em_eq p (fun i => M1 k i - M1 k c * (M1 row i * b)) i)
        rwa [show (fd_em p (fun i => M1 k i - M1 k c * (M1 row i * b)) i - (M1 k i - M1 k c * (M1 row i * b))) * v i = (M1 k i - M1 k c * (M1 row i * b)) % p * v i - (M1 k i * v i - M1 k c * b * (M1 row i * v i)) by simp only [fd_em]; grind] at this)
      rw [fd_s_sub, fd_s_mul] at a
      have := Int.dvd_add a (Int.dvd_sub (hv k hk) (Int.dvd_mul_of_dvd_right (b := M1 k c * b) (hv row (by omega))))
      rwa [show fd_s n (fun i => M2 k i * v i) - (fd_s n (fun i => M1 k i * v i) - M1 k c * b * fd_s n (fun i => M1 row i * v i)) + (fd_s n (fun i => M1 k i * v i) - M1 k c * b * fd_s n (fun i => M1 row i * v i)) = fd_s n (fun i => M2 k i * v i) by omega] at this
  have col : ∀ j, j < c → pv j = 1 → pw j = nI (rk j) ∧ rk j < row ∧ M (rk j) j = 1 ∧ ∀ r, r < n → r ≠ rk j → M r j = 0 := fun j hj e => by
    rcases h4 j hj with z | ⟨_, z⟩
    · rw [z] at e; exact absurd e (by decide)
    · exact z
  refine ⟨by omega, m2, fun v hv => ker2 v (ker1 v (h3 v hv)), ⟨fun j hj => ?_, fun i j hi hj p1 p2 e => ?_⟩, ?_, fun z => ?_, fun z => ?_⟩
  · dsimp only
    by_cases e : j = c
    · right
      subst e
      refine ⟨pk_us, by rw [pk_us, if_pos rfl], by rw [if_pos rfl]; omega, by rw [if_pos rfl, c1 j hc, one], fun q hq hqr => ?_⟩
      rw [if_pos rfl] at hqr
      rw [c2 q j hq hqr hc, one, Int.mul_one, Int.sub_self, Int.zero_emod]
    · rw [pk_un e, pk_un e, pk_un e, if_neg e]
      rcases h4 j (by omega) with z | ⟨z0, z1, z2, z3, z4⟩
      · exact Or.inl z
      · right
        have r0 : M1 row j = 0 := by rw [hM1 row j (by omega) (by omega), if_pos rfl]; exact z4 r hr (by omega)
        have q1 : ∀ q, q < n → q ≠ rk j → M1 q j = 0 := fun q hq hqn => by
          rw [hM1 q j hq (by omega)]; split
          · exact z4 r hr (by omega)
          · split
            · exact z4 row (by omega) (by omega)
            · exact z4 q hq hqn
        have q2 : M1 (rk j) j = 1 := by rw [hM1 (rk j) j (by omega) (by omega), if_neg (by omega), if_neg (by omega)]; exact z3
        refine ⟨z0, z1, by omega, ?_, fun q hq hqn => ?_⟩
        · rw [c2 (rk j) j (by omega) (by omega) (by omega), r0, Int.zero_mul, Int.zero_emod, Int.mul_zero, Int.sub_zero, q2, Int.emod_eq_of_lt (by omega) hp]
        · by_cases e1 : q = row
          · rw [e1, c1 j (by omega), r0, Int.zero_mul, Int.zero_emod]
          · rw [c2 q j hq e1 (by omega), r0, Int.zero_mul, Int.zero_emod, Int.mul_zero, Int.sub_zero, q1 q hq hqn, Int.zero_emod]
  · dsimp only at e
    have pe : ∀ k, k ≠ c → upd (upd pv c 0) c 1 k = pv k := fun k hk => by rw [pk_un hk, pk_un hk]
    by_cases ei : i = c
    · by_cases ej : j = c
      · omega
      · rw [pe j ej] at p2
        rw [if_pos ei, if_neg ej] at e
        have := (col j (by omega) p2).2.1
        omega
    · by_cases ej : j = c
      · rw [pe i ei] at p1
        rw [if_neg ei, if_pos ej] at e
        have := (col i (by omega) p1).2.1
        omega
      · rw [pe i ei] at p1
        rw [pe j ej] at p2
        rw [if_neg ei, if_neg ej] at e
        exact h5 i j (by omega) (by omega) p1 p2 e
  · rw [fd_cnt, pk_us, if_neg (by decide), fd_cnt_e (pv' := pv) c (fun i hi => by rw [pk_un (by omega), pk_un (by omega)]), h6]
  · exact absurd ((h7 z).1 r c hr hc) hnz
  · have z0 := (h8 z).1
    have cn0 : c ≠ 0 := fun e => hnz (by rw [e]; exact z0 r hr)
    have r0 : ∀ q, q < n → M1 q 0 = 0 := fun q hq => by
      rw [hM1 q 0 hq (by omega)]; split
      · exact z0 r hr
      · split
        · exact z0 row (by omega)
        · exact z0 q hq
    refine ⟨fun q hq => ?_, fun _ => by rw [pk_un (by omega), pk_un (by omega)]; exact (h8 z).2 (by omega)⟩
    by_cases e1 : q = row
    · rw [e1, c1 0 (by omega), r0 row (by omega), Int.zero_mul, Int.zero_emod]
    · rw [c2 q 0 hq e1 (by omega), r0 row (by omega), Int.zero_mul, Int.zero_emod, Int.mul_zero, Int.sub_zero, r0 q hq, Int.zero_emod]
/-- one column of the elimination, as a relation -/
def el_stp (p : Int) (n c row : Nat) (M : Nat → Nat → Int) (pv : Nat → Int32) (rk : Nat → Nat) (row' : Nat) (M' : Nat → Nat → Int) (pv' : Nat → Int32) (rk' : Nat → Nat) : Prop :=
  ∃ r, row ≤ r ∧ r ≤ n ∧ (∀ q, row ≤ q → q < r → M q c = 0) ∧ (∀ j, j < c → pv' j = pv j ∧ rk' j = rk j) ∧
  ((r = n ∧ row' = row ∧ M' = M ∧ pv' c = 0) ∨ (r < n ∧ M r c ≠ 0 ∧ row' = row + 1 ∧ (∃ M1 b, (∀ q k, q < n → k < n → M1 q k = if q = row then M r k else if q = r then M row k else M q k) ∧ fd_cl p b row c n M1 M' ∧ 0 < b ∧ b < p ∧ p ∣ b * M1 row c - 1) ∧ pv' c = 1 ∧ rk' c = row))
def el_run (p : Int) (n : Nat) (M0 : Nat → Nat → Int) : Nat → Nat → (Nat → Nat → Int) → (Nat → Int32) → (Nat → Nat) → Prop
  | 0, row, M, _, _ => row = 0 ∧ ∀ r k, r < n → k < n → M r k = M0 r k
  | c + 1, row', M', pv', rk' => ∃ row M pv rk, el_run p n M0 c row M pv rk ∧ el_stp p n c row M pv rk row' M' pv' rk'
theorem nt_iu {p x b b' : Int} (h1 : 0 < b) (h2 : b < p) (h3 : p ∣ b * x - 1) (k1 : 0 < b') (k2 : b' < p) (k3 : p ∣ b' * x - 1) : b = b' := by
  have d : p ∣ b - b' := by
    have := Int.dvd_sub (Int.dvd_mul_of_dvd_right (b := b') h3) (Int.dvd_mul_of_dvd_right (b := b) k3)
    rwa [show b' * (b * x - 1) - b * (b' * x - 1) = b - b' by grind] at this
  have e : b % p = b' % p := Int.emod_eq_emod_iff_emod_sub_eq_zero.mpr (Int.emod_eq_zero_of_dvd d)
  rwa [Int.emod_eq_of_lt (by omega) h2, Int.emod_eq_of_lt (by omega) k2] at e
theorem el_run_u {p : Int} {n : Nat} {M0 M0' : Nat → Nat → Int} (h0 : ∀ r k, r < n → k < n → M0 r k = M0' r k) : ∀ (c : Nat), c ≤ n → ∀ (row : Nat) (M : Nat → Nat → Int) (pv : Nat → Int32) (rk : Nat → Nat) (row2 : Nat) (M2 : Nat → Nat → Int) (pv2 : Nat → Int32) (rk2 : Nat → Nat), el_run p n M0 c row M pv rk → el_run p n M0' c row2 M2 pv2 rk2 → row = row2 ∧ (∀ r k, r < n → k < n → M r k = M2 r k) ∧ (∀ j, j < c → pv j = pv2 j ∧ (pv j = 1 → rk j = rk2 j))
  | 0, _, row, M, pv, rk, row2, M2, pv2, rk2, h, k => ⟨by rw [h.1, k.1], fun r q hr hq => by rw [h.2 r q hr hq, k.2 r q hr hq]; exact h0 r q hr hq, fun j hj => absurd hj (by omega)⟩
  | c + 1, hc, row', M', pv', rk', row2', M2', pv2', rk2', h, k => by
    obtain ⟨row, M, pv, rk, h1, r, a1, a2, a3, a4, a5⟩ := h
    obtain ⟨row2, M2, pv2, rk2, k1, r2, b1, b2, b3, b4, b5⟩ := k
    obtain ⟨e1, e2, e3⟩ := el_run_u h0 c (by omega) row M pv rk row2 M2 pv2 rk2 h1 k1
    subst e1
    have er : r = r2 := by
      rcases Nat.lt_trichotomy r r2 with z | z | z
      · rcases a5 with ⟨w, _⟩ | ⟨w, w2, _⟩
        · omega
        · exact absurd (by rw [e2 r c w (by omega)]; exact b3 r a1 z) w2
      · exact z
      · rcases b5 with ⟨w, _⟩ | ⟨w, w2, _⟩
        · omega
        · exact absurd (by rw [← e2 r2 c w (by omega)]; exact a3 r2 b1 z) w2
    subst er
    have lo : ∀ j, j < c → pv' j = pv2' j ∧ (pv' j = 1 → rk' j = rk2' j) := fun j hj => by
      obtain ⟨x1, x2⟩ := a4 j hj
      obtain ⟨y1, y2⟩ := b4 j hj
      obtain ⟨z1, z2⟩ := e3 j hj
      rw [x1, x2, y1, y2]; exact ⟨z1, z2⟩
    rcases a5 with ⟨w1, w2, w3, w4⟩ | ⟨w1, w2, w3, ⟨N1, b, w4, w5, w6, w7, w8⟩, w9, w10⟩
    · rcases b5 with ⟨v1, v2, v3, v4⟩ | ⟨v1, _⟩
      · refine ⟨by omega, by rw [w3, v3]; exact e2, fun j hj => ?_⟩
        by_cases e : j = c
        · rw [e, w4, v4]; exact ⟨rfl, fun z => absurd z (by decide)⟩
        · exact lo j (by omega)
      · omega
    · rcases b5 with ⟨v1, _⟩ | ⟨v1, v2, v3, ⟨N2, b', v4, v5, v6, v7, v8⟩, v9, v10⟩
      · omega
      · have hrow : row < n := by omega
        have eN : ∀ q k, q < n → k < n → N1 q k = N2 q k := fun q k hq hk => by
          rw [w4 q k hq hk, v4 q k hq hk, e2 r k w1 hk, e2 row k hrow hk, e2 q k hq hk]
        have eb : b = b' := nt_iu w6 w7 w8 v6 v7 (by rw [eN row c hrow (by omega)]; exact v8)
        subst eb
        refine ⟨by omega, fun q k hq hk => ?_, fun j hj => ?_⟩
        · by_cases e : q = row
          · rw [e, w5.1 k hk, v5.1 k hk, eN row k hrow hk]
          · rw [w5.2 q k hq e hk, v5.2 q k hq e hk, eN q k hq hk, eN q c hq (by omega), eN row k hrow hk]
        · by_cases e : j = c
          · rw [e, w9, v9, w10, v10]; exact ⟨rfl, fun _ => rfl⟩
          · exact lo j (by omega)
end
section
/-! the walks of eliminate and solution -/
section
variable {fc lc dc : Int32} {mo pr : Int64} {a : Nat → Int64} {a2 : Nat → Int32} {a6 : Nat → Int32}
theorem fd_elim {post : Int32 → St1 → Prop} {n : Nat} {p : Int} {M0 : Nat → Nat → Int} (hn : n ≤ 5) (hp : po_prime p) (hp2 : p ≤ 2147483648) (hmo : mo.toInt = p) (hpr : pr.toInt = p)
    (H : ∀ m row pv pw rk, row ≤ n → el_I p n M0 n row (fd_m m) pv pw rk → el_run p n M0 n row (fd_m m) pv rk → post (nI row) (fc, mo, pr, lc, dc, a, a2, m, pv, pw, a6)) :
    ∀ (f c row : Nat) (m : Nat → Int64) (pv pw : Nat → Int32) (rk : Nat → Nat), f + c = n + 1 → c ≤ n → el_I p n M0 c row (fd_m m) pv pw rk → el_run p n M0 c row (fd_m m) pv rk → wX_eliminate_4 post (nI n) f (nI row) (nI c) fc mo pr lc dc a a2 m pv pw a6 := by
  intro f
  have hp1 := hp.1
  induction f with
  | zero => intro c row m pv pw rk hf hc h hR; omega
  | succ f ih =>
    intro c row m pv pw rk hf hc h hR
    have hrc : row ≤ c := h.1
    refine pk_le n c (fun z => ?_) (fun z => ⟨pk_in c 5 (by omega), ?_⟩)
    · have : c = n := by omega
      subst this
      exact H m row pv pw rk hrc h hR
    · rw [nI_clamp (by omega)]
      have fin : ∀ r, row ≤ r → r ≤ n → (r < n → fd_m m r c ≠ 0) → (∀ q, row ≤ q → q < r → fd_m m q c = 0) → wX_eliminate_47 post (wX_eliminate_4 post (nI n) f) (nI n) (nI row) (nI c) (nI r) fc mo pr lc dc a a2 m (upd pv c 0) pw a6 := by
        intro r hr hrn hnz hz0
        refine pk_eq r n (fun e => nm_r (nI_1 c) (ih (c + 1) row m _ _ rk (by omega) (by omega) (el_skip h) ⟨row, fd_m m, pv, rk, hR, r, hr, hrn, hz0, fun j hj => ⟨pk_un (by omega), rfl⟩, Or.inl ⟨e, rfl, rfl, pk_us⟩⟩)) (fun e => ?_)
        have hr' : r < n := by omega
        refine fd_exchangeRows hn (by omega) (by omega) (fun m1 hm1 => ?_)
        dsimp only
        have M1 : ∀ q k, q < n → k < n → fd_m m1 q k = if q = row then fd_m m r k else if q = r then fd_m m row k else fd_m m q k := fun q k hq hk => by rw [hm1 q k (by omega), if_pos hk]
        have b1 : ∀ r k, r < n → k < n → 0 ≤ fd_m m1 r k ∧ fd_m m1 r k < p := fun q k hq hk => by
          rw [M1 q k hq hk]; split
          · exact h.2.1 r k hr' hk
          · split
            · exact h.2.1 row k (by omega) hk
            · exact h.2.1 q k hq hk
        refine fd_clearColumn (p := p) hn (by omega) z hp hp2 hmo hpr b1 (by rw [M1 row c (by omega) z, if_pos rfl]; exact hnz hr') (fun m2 b hm2 hb hb1 hb2 => ?_)
        have er : (nI row).toInt8.toInt32 = nI row := by
          have : ∀ k, k < 5 → (nI k).toInt8.toInt32 = nI k := by decide
          exact this row (by omega)
        refine ⟨pk_in c 5 (by omega), ?_⟩
        rw [nI_clamp (by omega), er]
        refine nm_e ⟨pk_in c 5 (by omega), nm_e (nm_r (nI_1 row) (nm_r (nI_1 c) (ih (c + 1) (row + 1) m2 _ _ (fun j => if j = c then row else rk j) (by omega) (by omega) (el_piv hp1 h z hr' hr (hnz hr') M1 hm2 hb) ⟨row, fd_m m, pv, rk, hR, r, hr, hrn, hz0, fun j hj => ⟨by show upd (upd pv c 0) c 1 j = pv j; rw [pk_un (by omega), pk_un (by omega)], if_neg (by omega)⟩, Or.inr ⟨hr', hnz hr', rfl, ⟨fd_m m1, b, M1, hm2, hb1, hb2, hb⟩, pk_us, if_pos rfl⟩⟩)))⟩
      have lp : ∀ (k r : Nat), row ≤ r → r ≤ n → k + r = n + 1 → (∀ q, row ≤ q → q < r → fd_m m q c = 0) → wX_eliminate_19 post (wX_eliminate_4 post (nI n) f) (nI n) (nI row) (nI c) fc mo pr lc dc a a2 m (upd pv c 0) pw a6 k (nI r) := by
        intro k
        induction k with
        | zero => intro r h1 h2 h3; omega
        | succ k ihk =>
          intro r h1 h2 h3 h4
          refine pk_le n r (fun w => fin r h1 h2 (fun v => absurd v (by omega)) h4) (fun w => ⟨pk_in (5 * r + c) 25 (by omega) (li_i5 r c), ?_⟩)
          rw [li_i5, nI_clamp (by omega)]
          refine br_c (fun v => nm_r (nI_1 r) (ihk (r + 1) (by omega) (by omega) (by omega) (fun q hq1 hq2 => ?_))) (fun v => fin r h1 h2 (fun _ => li_ne0.mp v) h4)
          by_cases e : q = r
          · rw [e]; show (m (5 * r + c)).toInt = 0; rw [v]; rfl
          · exact h4 q hq1 (by omega)
      exact nm_e ⟨n + 1 - row, lp _ row (Nat.le_refl row) (by omega) (by omega) (fun q h1 h2 => absurd h1 (by omega))⟩
theorem fd_eliminate {post : Int32 → St1 → Prop} {m : Nat → Int64} {pv pw : Nat → Int32} {n : Nat} {p : Int} (hn : n ≤ 5) (hp : po_prime p) (hp2 : p ≤ 2147483648) (hmo : mo.toInt = p) (hpr : pr.toInt = p) (hm : ∀ r k, r < n → k < n → 0 ≤ fd_m m r k ∧ fd_m m r k < p)
    (H : ∀ m' row pv pw rk, row ≤ n → el_I p n (fd_m m) n row (fd_m m') pv pw rk → el_run p n (fd_m m) n row (fd_m m') pv rk → post (nI row) (fc, mo, pr, lc, dc, a, a2, m', pv, pw, a6)) :
    wpX_eliminate post (fc, mo, pr, lc, dc, a, a2, m, pv, pw, a6) (nI n) :=
  ⟨n + 1, fd_elim hn hp hp2 hmo hpr H (n + 1) 0 0 m pv pw (fun _ => 0) (by omega) (by omega) (el_0 hm) ⟨rfl, fun _ _ _ _ => rfl⟩⟩
/-- the solution with the free unknown fr -/
def fd_sol (p : Int) (n fr : Nat) (M : Nat → Nat → Int) (pv : Nat → Int32) (rk : Nat → Nat) : po_P := fun j => if j < n then (if pv j = 0 then (if j = fr then 1 else 0) else (-(M (rk j) fr)) % p) else 0
theorem fd_solution {post : St1 → Prop} {m : Nat → Int64} {pv pw : Nat → Int32} {n fr : Nat} {p : Int} {rk : Nat → Nat} (hn : n ≤ 5) (hfr : fr < n) (hp : 1 < p) (hp2 : p ≤ 2147483648) (hmo : mo.toInt = p) (hm : ∀ r k, r < n → k < n → 0 ≤ fd_m m r k ∧ fd_m m r k < p) (hpf : pv fr = 0) (hpv : ∀ j, j < n → pv j = 0 ∨ (pv j = 1 ∧ pw j = nI (rk j) ∧ rk j < n))
    (H : ∀ a', fd_r a' = fd_u (fd_r a) 23 (fd_sol p n fr (fd_m m) pv rk) → post (fc, mo, pr, lc, dc, a', a2, m, pv, pw, a6)) :
    wpX_solution post (fc, mo, pr, lc, dc, a, a2, m, pv, pw, a6) (nI n) (nI fr) := by
  unfold wpX_solution
  dsimp only
  refine fd_clear (t := 23) (by omega) (fun b1 h1 => ?_)
  dsimp only
  have ei : ∀ k, (276 + nI k : Int32) = nI (12 * 23 + k) := fun k => by rw [show (276 : Int32) = nI 276 from rfl, nI_add]
  refine ⟨pk_in (12 * 23 + fr) 312 (by omega) (ei fr), nm_r (by rw [ei, nI_clamp (by omega)]) ?_⟩
  refine pk_loop (fun f k s => wX_solution_19 post (nI n) (nI fr) fc mo pr lc dc f (nI k) s a2 m pv pw a6) (fun k s => fd_r s = fd_u (fd_r a) 23 (fun j => if j < k then fd_sol p n fr (fd_m m) pv rk j else if j = fr then 1 else 0)) n 0 (vp_updL b1 (12 * 23 + fr) 1) (by omega) ?_
    (fun f s h => pk_le n n (fun _ => H s ?_) (fun z => absurd z (by omega)))
    (fun f k s hk h hw => pk_le n k (fun z => absurd z (by omega)) (fun _ => ⟨pk_in k 5 (by omega), ?_⟩))
  · rw [fd_upd (by omega), h1, fd_u_s, fd_u_u]
    congr 1
  · rw [h]
    congr 1
    funext j
    by_cases z : j < n
    · rw [if_pos z]
    · rw [if_neg z, if_neg (show ¬ j = fr by omega)]; simp only [fd_sol]; rw [if_neg z]
  · rw [nI_clamp (by omega)]
    refine br_c (fun z => nm_r (nI_1 k) (hw s ?_)) (fun z => ?_)
    · rw [h]
      congr 1
      funext j
      by_cases e : j = k
      · rw [if_neg (show ¬ j < k by omega), if_pos (show j < k + 1 by omega), e]; simp only [fd_sol]; rw [if_pos hk, if_pos z]
      · by_cases e2 : j < k
        · rw [if_pos e2, if_pos (show j < k + 1 by omega)]
        · rw [if_neg e2, if_neg (show ¬ j < k + 1 by omega)]
    · rcases hpv k hk with w | ⟨w0, w1, w2⟩
      · exact absurd w z
      · have kf : k ≠ fr := fun e => z (by rw [e]; exact hpf)
        refine ⟨pk_in k 5 (by omega), ?_⟩
        rw [w1]
        refine ⟨pk_in (5 * rk k + fr) 25 (by omega) (li_i5 (rk k) fr), ?_⟩
        rw [li_i5, nI_clamp (by omega)]
        obtain ⟨m1, m2⟩ := hm (rk k) fr w2 hfr
        have g : (m (5 * rk k + fr)).toInt = fd_m m (rk k) fr := rfl
        refine fd_rest (by omega) (fun r hr => ⟨pk_in (12 * 23 + k) 312 (by omega) (ei k), nm_r (by rw [ei, nI_clamp (by omega)]) (nm_r (nI_1 k) (hw (vp_updL s (12 * 23 + k) r) ?_))⟩)
        rw [li_neg (by rw [g]; omega), g, hmo] at hr
        rw [fd_upd (by omega), h, fd_u_s, fd_u_u]
        congr 1
        funext j
        simp only [fd_w]
        by_cases e : j = k
        · rw [if_pos e, if_pos (show j < k + 1 by omega), e, hr]; simp only [fd_sol]; rw [if_pos hk, if_neg z]
        · rw [if_neg e]
          by_cases e2 : j < k
          · rw [if_pos e2, if_pos (show j < k + 1 by omega)]
          · rw [if_neg e2, if_neg (show ¬ j < k + 1 by omega)]
end
end
section
/-! derivative of a product; monic polynomials; squares -/
theorem po_der_mulC (g : po_P) : ∀ (n : Nat) (f : po_P), ((n : Int) + 1) * po_mul f g (n + 1) = po_mul (po_der f) g n + po_mul f (po_der g) n
  | 0, f => by
    simp only [po_mul_s, po_mul_0, po_sh, po_der]
    grind
  | n + 1, f => by
    have ih := po_der_mulC g n (po_sh f)
    have e1 : po_sh (po_der f) = po_add (po_der (po_sh f)) (po_sh (po_sh f)) := by
      funext i; simp only [po_sh, po_der, po_add]; grind
    have e2 : po_mul (po_der f) g (n + 1) = po_der f 0 * g (n + 1) + po_mul (po_sh (po_der f)) g n := po_mul_s _ _ _
    rw [e1, po_mul_addL] at e2
    have e3 : po_mul (po_sh f) g (n + 1) = po_sh f 0 * g (n + 1) + po_mul (po_sh (po_sh f)) g n := po_mul_s _ _ _
    have e4 : po_mul f (po_der g) (n + 1) = f 0 * po_der g (n + 1) + po_mul (po_sh f) (po_der g) n := po_mul_s _ _ _
    have e5 : po_mul f g (n + 1 + 1) = f 0 * g (n + 1 + 1) + po_mul (po_sh f) g (n + 1) := po_mul_s _ _ _
    have e6 : po_der f 0 = po_sh f 0 := by simp only [po_der, po_sh]; grind
    have e7 : po_der g (n + 1) = ((n : Int) + 2) * g (n + 1 + 1) := by simp only [po_der]; grind
    rw [e7] at e4
    rw [e6] at e2
    rw [e5]
    have : (((n + 1 : Nat) : Int) + 1) = (n : Int) + 2 := by omega
    rw [this]
    grind
theorem po_der_mul (f g : po_P) : po_der (po_mul f g) = po_add (po_mul (po_der f) g) (po_mul f (po_der g)) := by
  funext n; exact po_der_mulC g n f
theorem po_der_eq {m : Int} {f g : po_P} (h : po_eq m f g) : po_eq m (po_der f) (po_der g) := fun i => by
  have := Int.dvd_mul_of_dvd_right (b := (i : Int) + 1) (h (i + 1))
  rwa [show ((i : Int) + 1) * (f (i + 1) - g (i + 1)) = po_der f i - po_der g i by simp only [po_der]; grind] at this
theorem po_der_fin {m : Int} {f : po_P} (h : po_fin m f) : po_fin m (po_der f) := by
  obtain ⟨d, hd⟩ := h
  exact ⟨d, fun i hi => Int.dvd_mul_of_dvd_right (hd (i + 1) (by omega))⟩
/-- f is modulo m of degree d with leading coefficient 1 -/
def po_mo (m : Int) (d : Nat) (f : po_P) : Prop := po_dl m (d + 1) f ∧ m ∣ f d - 1
theorem po_mo_unit {m : Int} {d : Nat} {f : po_P} (h : po_mo m d f) : ∀ x, m ∣ x * f d → m ∣ x := fun x hx => by
  have := Int.dvd_sub hx (Int.dvd_mul_of_dvd_right (b := x) h.2)
  rwa [show x * f d - x * (f d - 1) = x by grind] at this
theorem po_mo_mul {m : Int} {d e : Nat} {f g : po_P} (hf : po_mo m d f) (hg : po_mo m e g) : po_mo m (d + e) (po_mul f g) := by
  obtain ⟨h1, h2⟩ := po_dl_mul hg.1 d f hf.1
  refine ⟨h1, ?_⟩
  have a := Int.dvd_add h2 (Int.dvd_add (Int.dvd_mul_of_dvd_left (c := g e) hf.2) hg.2)
  rwa [show po_mul f g (d + e) - f d * g e + ((f d - 1) * g e + (g e - 1)) = po_mul f g (d + e) - 1 by grind] at a
theorem po_mo_eq {m : Int} {d : Nat} {f g : po_P} (h : po_eq m f g) (hf : po_mo m d f) : po_mo m d g := by
  refine ⟨po_dl_eq h hf.1, ?_⟩
  have := Int.dvd_sub hf.2 (h d)
  rwa [show f d - 1 - (f d - g d) = g d - 1 by omega] at this
theorem po_mo_u {m : Int} (hm : ¬ m ∣ 1) {d e : Nat} {f : po_P} (h : po_mo m d f) (k : po_mo m e f) : d = e := by
  have c : ∀ d e, po_mo m d f → po_mo m e f → ¬ d < e := fun d e h k z => hm (by
    have := Int.dvd_sub (h.1 e (by omega)) k.2
    rwa [show f e - (f e - 1) = 1 by omega] at this)
  have h1 := c d e h k
  have h2 := c e d k h
  omega
theorem po_mo_fin {m : Int} {d : Nat} {f : po_P} (h : po_mo m d f) : po_fin m f := ⟨_, h.1⟩
theorem po_mo_1 (m : Int) : po_mo m 0 (po_C 1) := ⟨fun i hi => by simp only [po_C]; rw [if_neg (by omega)]; exact Int.dvd_zero m, by simp [po_C]⟩
/-- a multiple of a monic polynomial of degree e, itself of degree below e, is zero -/
theorem po_mo_lt {m : Int} {e : Nat} {u f : po_P} (hu : po_mo m e u) (h : po_dv m u f) (hf : po_dl m e f) : ∀ i, m ∣ f i := by
  obtain ⟨q, ⟨d, hd⟩, hq⟩ := h
  have hq' : po_eq m f (po_mul q u) := po_eq_t hq (po_eq_e (by funext i; exact po_mul_comm _ _ i))
  intro i
  cases e with
  | zero => exact hf i (by omega)
  | succ e =>
    have z := po_quot (m := m) (A := f) (B := u) (e := e + 1) (D := e) hu.1 (po_mo_unit hu) hf d q hd hq'
    exact (po_eq_i hq' i).mpr (po_mul_dv i q (fun j => z j (by omega)))
theorem po_mo_n1 {m : Int} {e : Nat} {u : po_P} (hu : po_mo m e u) (he : 1 ≤ e) {c : Int} (hc : ¬ m ∣ c) : ¬ po_dv m u (po_C c) := fun h => hc (by
  have := po_mo_lt hu h (fun i hi => by simp only [po_C]; rw [if_neg (by omega)]; exact Int.dvd_zero m) 0
  rwa [show po_C c 0 = c by simp [po_C]] at this)
theorem po_dv_sub {m : Int} {T f g : po_P} (h : po_dv m T f) (k : po_dv m T g) : po_dv m T (po_sub f g) :=
  po_dv_cb h k ⟨po_C 1, po_C (-1), po_fin_C _ _, po_fin_C _ _, po_eq_e (by funext i; show f i - g i = po_mul _ _ i + po_mul _ _ i; rw [po_mul_C, po_mul_C]; omega)⟩
theorem po_dv_add {m : Int} {T f g : po_P} (h : po_dv m T f) (k : po_dv m T g) : po_dv m T (po_add f g) :=
  po_dv_cb h k ⟨po_C 1, po_C 1, po_fin_C _ _, po_fin_C _ _, po_eq_e (by funext i; show f i + g i = po_mul _ _ i + po_mul _ _ i; rw [po_mul_C, po_mul_C]; omega)⟩
/-- a monic divisor of the same degree -/
theorem po_mo_same {m : Int} {d e : Nat} {f g : po_P} (hf : po_mo m d f) (hg : po_mo m e g) (h : po_dv m g f) (hde : d ≤ e) (hm : ¬ m ∣ 1) : po_eq m f g := by
  have key : d = e := by
    rcases Nat.lt_or_ge d e with z | z
    · exfalso
      have := po_mo_lt hg h (po_dl_le (by omega) hf.1) d
      apply hm
      have := Int.dvd_sub this hf.2
      rwa [show f d - (f d - 1) = 1 by omega] at this
    · omega
  subst key
  have z := po_mo_lt hg (po_dv_sub h (po_dv_r m g)) (fun i hi => by
    show m ∣ f i - g i
    by_cases e : i = d
    · rw [e]
      have := Int.dvd_sub hf.2 hg.2
      rwa [show f d - 1 - (g d - 1) = f d - g d by omega] at this
    · exact Int.dvd_sub (hf.1 i (by omega)) (hg.1 i (by omega)))
  exact z
/-- no square divides F -/
def po_sqf (m : Int) (F : po_P) : Prop := po_cb m F (po_der F) (po_C 1)
theorem ga_sq {R : Type} [Lean.Grind.CommRing R] {m F u w x u' w' : R} (h : F = u * (u * w) + m * x) : F = u * (u * w) + m * x ∧ u' * (u * w) + u * (u' * w + u * w') = u * (u' * w + (u' * w + u * w')) + m * 0 := by
  constructor <;> grind
theorem po_sqf_n {m : Int} {F u w : po_P} (hF : po_sqf m F) (h : po_eq m F (po_mul u (po_mul u w))) (fu : po_fin m u) (fw : po_fin m w) : po_dv m u (po_C 1) := by
  have d1 : po_dv m u F := ⟨po_mul u w, po_fin_mul fu fw, h⟩
  have d2 : po_dv m u (po_der F) := by
    have e := po_der_eq h
    rw [po_der_mul, po_der_mul] at e
    have g := (@ga_sq po_P po_ring (po_C m) (po_mul u (po_mul u w)) u w (po_C 0) (po_der u) (po_der w) (by
      funext i
      show po_mul u (po_mul u w) i = po_mul u (po_mul u w) i + po_mul (po_C m) (po_C 0) i
      rw [po_mul_comm (po_C m), po_mul_C]; omega)).2
    exact ⟨_, po_fin_add (po_fin_mul (po_der_fin fu) fw) (po_fin_add (po_fin_mul (po_der_fin fu) fw) (po_fin_mul fu (po_der_fin fw))), po_eq_t e (po_ex_eq g)⟩
  exact po_dv_cb d1 d2 hF
/-- x less al -/
def po_lin (al : Int) : po_P := po_sub (po_X 1 1) (po_C al)
theorem po_lin_mo (m al : Int) : po_mo m 1 (po_lin al) := ⟨fun i hi => by
  simp only [po_lin, po_sub, po_X, po_C]; rw [if_neg (by omega), if_neg (by omega)]; simp, by simp [po_lin, po_sub, po_X, po_C]⟩
def po_prod (g : Nat → po_P) : Nat → po_P
  | 0 => po_C 1
  | k + 1 => po_mul (po_prod g k) (g k)
theorem po_prod_e {g h : Nat → po_P} : ∀ n, (∀ k, k < n → g k = h k) → po_prod g n = po_prod h n
  | 0, _ => rfl
  | n + 1, e => by rw [po_prod, po_prod, po_prod_e n (fun k hk => e k (by omega)), e n (by omega)]
theorem po_prod_fin {m : Int} {g : Nat → po_P} : ∀ n, (∀ k, k < n → po_fin m (g k)) → po_fin m (po_prod g n)
  | 0, _ => po_fin_C _ _
  | n + 1, e => po_fin_mul (po_prod_fin n (fun k hk => e k (by omega))) (e n (by omega))
/-- the product of n monic non-constant polynomials is monic, of a degree of at least n -/
theorem po_prod_mo {m : Int} {g : Nat → po_P} : ∀ n, (∀ k, k < n → ∃ d, 1 ≤ d ∧ po_mo m d (g k)) → ∃ D, n ≤ D ∧ po_mo m D (po_prod g n)
  | 0, _ => ⟨0, Nat.le_refl 0, po_mo_1 m⟩
  | n + 1, e => by
    obtain ⟨D, h1, h2⟩ := po_prod_mo n (fun k hk => e k (by omega))
    obtain ⟨d, h3, h4⟩ := e n (by omega)
    exact ⟨D + d, by omega, po_mo_mul h2 h4⟩
theorem ga_pr {R : Type} [Lean.Grind.CommRing R] {x a b : R} : x * a * b = x * b * a := by grind
/-- one factor can be drawn out -/
theorem po_prod_out {g : Nat → po_P} {k : Nat} : ∀ n, k < n → ∃ r : po_P, (∀ m, (∀ j, j < n → po_fin m (g j)) → po_fin m r) ∧ po_prod g n = po_mul r (g k) ∧ ∀ h : Nat → po_P, (∀ j, j < n → j ≠ k → h j = g j) → po_prod h n = po_mul r (h k)
  | 0, hk => absurd hk (by omega)
  | n + 1, hk => by
    by_cases e : k = n
    · subst e
      exact ⟨po_prod g k, fun m hf => po_prod_fin k (fun j hj => hf j (by omega)), rfl, fun h hh => by rw [po_prod, po_prod_e k (fun j hj => hh j (by omega) (by omega))]⟩
    · obtain ⟨r, h0, h1, h2⟩ := po_prod_out (g := g) (k := k) n (by omega)
      refine ⟨po_mul r (g n), fun m hf => po_fin_mul (h0 m (fun j hj => hf j (by omega))) (hf n (by omega)), ?_, fun h hh => ?_⟩
      · rw [po_prod, h1]; exact @ga_pr po_P po_ring _ _ _
      · rw [po_prod, h2 h (fun j hj hjk => hh j (by omega) hjk), hh n (by omega) (by omega)]; exact @ga_pr po_P po_ring _ _ _
end
section
/-! splitting into pieces modulo p -/
/-- a monic row of degree at least 1 -/
def fd_pc (p : Int) (f : po_P) : Prop := fd_rd p f ∧ ∃ d, 1 ≤ d ∧ d < 12 ∧ f d = 1 ∧ ∀ i, d < i → f i = 0
theorem fd_top_mo {p : Int} {f : po_P} {d : Nat} (h1 : f d = 1) (h2 : ∀ i, d < i → f i = 0) : po_mo p d f := ⟨fun i hi => by rw [h2 i (by omega)]; exact Int.dvd_zero p, by rw [h1]; simp⟩
theorem fd_pc_mo {p : Int} {f : po_P} (h : fd_pc p f) : ∃ d, 1 ≤ d ∧ po_mo p d f := by
  obtain ⟨_, d, h1, _, h2, h3⟩ := h
  exact ⟨d, h1, fd_top_mo h2 h3⟩
theorem fd_pc_fin {p : Int} {f : po_P} (h : fd_pc p f) : po_fin p f := by
  obtain ⟨d, _, h⟩ := fd_pc_mo h
  exact po_mo_fin h
def sp_I (p : Int) (F : po_P) (Pc : Nat → po_P) (l : Nat) : Prop := 1 ≤ l ∧ (∀ k, k < l → fd_pc p (Pc k)) ∧ po_eq p F (po_prod Pc l)
theorem sp_le {p : Int} (hp : 1 < p) {F : po_P} {Pc : Nat → po_P} {l n : Nat} (h : sp_I p F Pc l) (hF : po_mo p n F) : l ≤ n := by
  obtain ⟨D, h1, h2⟩ := po_prod_mo (m := p) l (fun k hk => fd_pc_mo (h.2.1 k hk))
  have := po_mo_u (fun z => by have := Int.le_of_dvd (by omega) z; omega) (po_mo_eq (po_eq_s h.2.2) h2) hF
  omega
/-- piece k is cut into Q and W -/
def sp_cut (Pc : Nat → po_P) (k l : Nat) (Q W : po_P) : Nat → po_P := fun j => if j = k then Q else if j = l then W else Pc j
theorem ga_cut {R : Type} [Lean.Grind.CommRing R] {m r P Q W x F y : R} (h : P = Q * W + m * x) (k : F = r * P + m * y) : F = r * Q * W + m * (r * x + y) := by grind
theorem sp_cut_I {p : Int} {F : po_P} {Pc : Nat → po_P} {k l : Nat} {Q W : po_P} (h : sp_I p F Pc l) (hk : k < l) (hQ : fd_pc p Q) (hW : fd_pc p W) (e : po_eq p (Pc k) (po_mul Q W)) : sp_I p F (sp_cut Pc k l Q W) (l + 1) := by
  obtain ⟨h1, h2, h3⟩ := h
  refine ⟨by omega, fun j hj => ?_, ?_⟩
  · simp only [sp_cut]; split
    · exact hQ
    · split
      · exact hW
      · exact h2 j (by omega)
  · obtain ⟨r, _, r1, r2⟩ := po_prod_out (g := Pc) (k := k) l hk
    have e1 := r2 (sp_cut Pc k l Q W) (fun j hj hjk => by simp only [sp_cut]; rw [if_neg hjk, if_neg (by omega)])
    have ek : sp_cut Pc k l Q W k = Q := by simp [sp_cut]
    have el : sp_cut Pc k l Q W l = W := by
      show (if l = k then Q else if l = l then W else Pc l) = W
      rw [if_neg (by omega), if_pos rfl]
    rw [po_prod, e1, ek, el]
    rw [r1] at h3
    obtain ⟨x, hx⟩ := po_eq_ex e
    obtain ⟨y, hy⟩ := po_eq_ex h3
    exact po_ex_eq (@ga_cut po_P po_ring _ _ _ _ _ _ _ _ hx hy)
def sp_step (p : Int) (v : po_P) (Pc : Nat → po_P) (k l : Nat) (Pc' : Nat → po_P) (l' : Nat) : Prop :=
  (l' = l ∧ Pc' = Pc ∧ (po_cb p (Pc k) v (po_C 1) ∨ po_dv p (Pc k) v)) ∨ (l' = l + 1 ∧ ∃ Q W, fd_pc p Q ∧ fd_pc p W ∧ po_eq p (Pc k) (po_mul Q W) ∧ po_dv p W v ∧ po_cb p (Pc k) v W ∧ Pc' = sp_cut Pc k l Q W)
theorem fd_rd_eq {p : Int} {f g : po_P} (hf : fd_rd p f) (hg : fd_rd p g) (h : po_eq p f g) : f = g := by
  funext i
  have e : f i % p = g i % p := Int.emod_eq_emod_iff_emod_sub_eq_zero.mpr (Int.emod_eq_zero_of_dvd (h i))
  rwa [Int.emod_eq_of_lt (hf i).1 (hf i).2, Int.emod_eq_of_lt (hg i).1 (hg i).2] at e
theorem fd_gcd_u {p : Int} (hp : 1 < p) {A B W W' : po_P} (h : fd_gcd p A B W) (k : fd_gcd p A B W') : W = W' := by
  have np : ¬ p ∣ 1 := fun z => by have := Int.le_of_dvd (by omega) z; omega
  obtain ⟨h1, h2, h3, h4, h5⟩ := h
  obtain ⟨k1, k2, k3, k4, k5⟩ := k
  have d1 : po_dv p W W' := po_dv_cb h3 h4 k2
  have d2 : po_dv p W' W := po_dv_cb k3 k4 h2
  have zz : ∀ X Y : po_P, fd_rd p Y → (∀ i, X i = 0) → po_dv p X Y → ∀ i, Y i = 0 := fun X Y hY hX hd i => by
    obtain ⟨q, _, hq⟩ := hd
    exact fd_rd_0 Y hY ((po_eq_i hq i).mpr (po_mul_dv i X (fun j => by rw [hX j]; exact Int.dvd_zero p)))
  rcases h5 with z | ⟨d, _, x1, x2⟩
  · have z' := zz W W' k1 z d1
    funext i; rw [z i, z' i]
  · rcases k5 with z | ⟨e, _, y1, y2⟩
    · have z' := zz W' W h1 z d2
      rw [z' d] at x1; omega
    · have m1 : po_mo p d W := fd_top_mo x1 x2
      have m2 : po_mo p e W' := fd_top_mo y1 y2
      have le : ∀ (d e : Nat) (X Y : po_P), po_mo p d X → po_mo p e Y → po_dv p X Y → d ≤ e := fun d e X Y hX hY hd => Classical.byContradiction (fun z => np (by
        have := po_mo_lt hX hd (po_dl_le (by omega) hY.1) e
        have := Int.dvd_sub this hY.2
        rwa [show Y e - (Y e - 1) = 1 by omega] at this))
      exact fd_rd_eq h1 k1 (po_mo_same m1 m2 d2 (le d e W W' m1 m2 d1) np)
def sp_cond (A W : po_P) : Prop := (∀ i, 1 ≤ i → W i = 0) ∨ ∃ d e, A d = 1 ∧ (∀ i, d < i → A i = 0) ∧ W e = 1 ∧ (∀ i, e < i → W i = 0) ∧ d ≤ e
/-- splitPiece, as a function -/
def sp_F (p : Int) (v : po_P) (Pc : Nat → po_P) (k l : Nat) (Pc' : Nat → po_P) (l' : Nat) : Prop := ∃ W, fd_gcd p (Pc k) v W ∧ ((sp_cond (Pc k) W ∧ l' = l ∧ Pc' = Pc) ∨ (¬ sp_cond (Pc k) W ∧ l' = l + 1 ∧ ∃ q, fd_rd p q ∧ po_eq p (Pc k) (po_mul q W) ∧ Pc' = sp_cut Pc k l q W))
theorem sp_F_u {p : Int} (hp : 1 < p) (hd : po_dom p) {v : po_P} {Pc Pc2 : Nat → po_P} {k l : Nat} {Pc' Pc2' : Nat → po_P} {l' l2' : Nat} (hk : k < l) (e : ∀ j, j < l → Pc j = Pc2 j) (h : sp_F p v Pc k l Pc' l') (h2 : sp_F p v Pc2 k l Pc2' l2') : l' = l2' ∧ ∀ j, j < l' → Pc' j = Pc2' j := by
  obtain ⟨W, g1, a⟩ := h
  obtain ⟨W2, g2, b⟩ := h2
  rw [← e k hk] at g2 b
  have ew := fd_gcd_u hp g1 g2
  subst ew
  rcases a with ⟨a1, a2, a3⟩ | ⟨a1, a2, q, a3, a4, a5⟩
  · rcases b with ⟨b1, b2, b3⟩ | ⟨b1, _⟩
    · exact ⟨by omega, fun j hj => by rw [a3, b3]; exact e j (by omega)⟩
    · exact absurd a1 b1
  · rcases b with ⟨b1, _⟩ | ⟨b1, b2, q2, b3, b4, b5⟩
    · exact absurd b1 a1
    · have nz : ∃ i, ¬ p ∣ W i := by
        rcases g1.2.2.2.2 with z | ⟨d, _, z1, _⟩
        · exact absurd (Or.inl (fun i _ => z i)) a1
        · exact ⟨d, by rw [z1]; exact hd.1⟩
      have eq : po_eq p (po_mul W q) (po_mul W q2) := fun i => by
        rw [po_mul_comm W q, po_mul_comm W q2]
        exact (po_eq_t (po_eq_s a4) b4) i
      have qq : q = q2 := fd_rd_eq a3 b3 (po_cancel hd nz eq)
      refine ⟨by omega, fun j hj => ?_⟩
      rw [a5, b5, qq]
      simp only [sp_cut]
      by_cases j1 : j = k
      · rw [if_pos j1, if_pos j1]
      · rw [if_neg j1, if_neg j1]
        by_cases j2 : j = l
        · rw [if_pos j2, if_pos j2]
        · rw [if_neg j2, if_neg j2]; exact e j (by omega)
section
variable {fc dc : Int32} {mo pr : Int64} {a : Nat → Int64} {a2 : Nat → Int32} {a3 : Nat → Int64} {a4 a5 a6 : Nat → Int32}
theorem fd_splitPiece {post : St1 → Prop} {k l n : Nat} {p : Int} {F : po_P} {Pc : Nat → po_P} (hmo : mo.toInt = p) (hpr : pr.toInt = p) (hp : po_prime p) (hp2 : p ≤ 2147483648) (hk : k < l) (hn : n ≤ 5) (hF : po_mo p n F) (hI : sp_I p F Pc l) (hPc : ∀ j, j < l → fd_r a (11 + j) = Pc j)
    (H : ∀ a' l' Pc', (∀ s, s ≠ 8 → s ≠ 9 → s ≠ 10 → s ≠ 21 → (s < 11 ∨ 15 < s) → fd_r a' s = fd_r a s) → (∀ j, j < l' → fd_r a' (11 + j) = Pc' j) → sp_step p (fd_r a 20) Pc k l Pc' l' → sp_F p (fd_r a 20) Pc k l Pc' l' → post (fc, mo, pr, nI l', dc, a', a2, a3, a4, a5, a6)) :
    wpX_splitPiece post (fc, mo, pr, nI l, dc, a, a2, a3, a4, a5, a6) (11 + nI k) := by
  have hp1 := hp.1
  have hl := sp_le hp1 hI hF
  have np : ¬ p ∣ 1 := fun z => by have := Int.le_of_dvd (by omega) z; omega
  have e11 : ∀ j, (11 + nI j : Int32) = nI (11 + j) := fun j => by rw [show (11 : Int32) = nI 11 from rfl, nI_add]
  rw [e11]
  unfold wpX_splitPiece
  dsimp only
  have pk := hI.2.1 k hk
  obtain ⟨pk1, d, d1, d2, d3, d4⟩ := hI.2.1 k hk
  refine fd_commonModulo (t := 21) (x := 11 + k) (y := 20) (by omega) (by omega) (by omega) (by omega) (by omega) (by omega) (by omega) hmo hpr hp hp2 (fun b1 W u8 u9 u10 h1 hW => ?_)
  dsimp only
  rw [hPc k hk] at hW
  have e21 : fd_r b1 21 = W := by rw [h1, fd_b4_t]
  have fr1 : ∀ s, s ≠ 8 → s ≠ 9 → s ≠ 10 → s ≠ 21 → fd_r b1 s = fd_r a s := fun s h8 h9 h10 h21 => by rw [h1, fd_b4_n h21 h8 h9 h10]
  have pc1 : ∀ j, j < l → fd_r b1 (11 + j) = Pc j := fun j hj => by rw [fr1 (11 + j) (by omega) (by omega) (by omega) (by omega)]; exact hPc j hj
  have hW0 := hW
  obtain ⟨g1, g2, g3, g4, g5⟩ := hW
  have gm : ∃ e, e < 12 ∧ W e = 1 ∧ ∀ i, e < i → W i = 0 := by
    rcases g5 with z | z
    · exfalso
      obtain ⟨w, _, hw⟩ := g3
      apply np
      have := (po_eq_i hw d).mpr (po_mul_dv d W (fun i => by rw [z i]; exact Int.dvd_zero p))
      rw [d3] at this
      exact this
    · exact z
  obtain ⟨e, e1, e2, e3⟩ := gm
  have mW : po_mo p e W := fd_top_mo e2 e3
  have mP : po_mo p d (Pc k) := fd_top_mo d3 d4
  have dege : ∀ (x : Nat) (f : po_P) (y : Nat), f x ≠ 0 → (∀ i, x < i → f i = 0) → f y = 1 → (∀ i, y < i → f i = 0) → x = y := fun x f y q1 q2 q3 q4 => by
    rcases Nat.lt_trichotomy x y with z | z | z
    · rw [q2 y z] at q3; omega
    · exact z
    · exact absurd (q4 x z) q1
  refine fd_degreeOf (s := 21) (by omega) (fun h0 => by rw [e21] at h0; rw [h0 e] at e2; omega) (fun e' he' q1 q2 => ?_)
  rw [e21] at q1 q2
  have ee : e' = e := dege e' W e q1 q2 e2 e3
  subst ee
  refine pk_lt e' 1 (fun z => ?_) (fun z => ?_)
  · have e0 : e' = 0 := by omega
    subst e0
    refine H b1 l Pc (fun s h8 h9 h10 h21 _ => fr1 s h8 h9 h10 h21) pc1 (Or.inl ⟨rfl, rfl, Or.inl ?_⟩) ⟨W, hW0, Or.inl ⟨Or.inl (fun i hi => e3 i (by omega)), rfl, rfl⟩⟩
    have : W = po_C 1 := by
      funext i
      by_cases hi : i = 0
      · rw [hi, e2]; rfl
      · rw [e3 i (by omega)]; simp [po_C, hi]
    rw [← this]; exact g2
  · refine fd_degreeOf (s := 11 + k) (by omega) (fun h0 => by rw [pc1 k hk] at h0; rw [h0 d] at d3; omega) (fun d' hd' q3 q4 => ?_)
    rw [pc1 k hk] at q3 q4
    have dd : d' = d := dege d' (Pc k) d q3 q4 d3 d4
    subst dd
    refine pk_lt e' d' (fun y => ?_) (fun y => ?_)
    · refine fd_divideModulo (x := 11 + k) (y := 21) (e := e') (by omega) (by omega) (by omega) (by omega) hmo hpr hp hp2 (by rw [pc1 k hk]; exact pk1) (by rw [e21]; exact g1) (by rw [e21]; omega) (by rw [e21]; exact e3) (fun b2 q r h2 hq hr heq hr0 hq0 => ?_)
      dsimp only
      rw [pc1 k hk, e21] at heq
      rw [pc1 k hk] at hq0
      -- the rest is zero
      have fq : po_fin p q := po_fin_0 (n := 12) (fun i hi => hq0 d' d4 i (by omega))
      have dr : po_dv p W r := (po_dv_cb g3 (po_dv_r p W) (po_cb_s fq heq).2)
      have r0 : ∀ i, r i = 0 := fun i => fd_rd_0 r hr (po_mo_lt mW dr (fun i hi => by rw [hr0 i hi]; exact Int.dvd_zero p) i)
      have eqQ : po_eq p (Pc k) (po_mul q W) := po_eq_t heq (po_eq_e (by funext i; show po_mul q W i + r i = _; rw [r0 i]; omega))
      have q11 : fd_r b2 9 = q := by rw [h2, fd_u_s]
      refine fd_copy (t := 11 + k) (f := 9) (by omega) (by omega) (fun b3 h3 => ?_)
      dsimp only
      rw [q11] at h3
      have t21 : fd_r b3 21 = W := by rw [h3, fd_u_n (by omega), h2, fd_u_n (by omega), fd_u_n (by omega), e21]
      rw [e11 l]
      refine fd_copy (t := 11 + l) (f := 21) (by omega) (by omega) (fun b4 h4 => ?_)
      dsimp only
      rw [t21] at h4
      -- q is monic of degree d' - e'
      have top : q (d' - e') = 1 := by
        have c := (po_dl_mul mW.1 (d' - e') q (fun i hi => by rw [hq0 d' d4 i (by omega)]; exact Int.dvd_zero p)).2
        rw [e2, Int.mul_one, show d' - e' + e' = d' by omega] at c
        have b := eqQ d'
        rw [d3] at b
        have s := Int.dvd_add b c
        rw [show 1 - po_mul q W d' + (po_mul q W d' - q (d' - e')) = 1 - q (d' - e') by omega] at s
        obtain ⟨z1, z2⟩ := hq (d' - e')
        have s2 : (1 : Int) % p = q (d' - e') % p := Int.emod_eq_emod_iff_emod_sub_eq_zero.mpr (Int.emod_eq_zero_of_dvd s)
        rw [Int.emod_eq_of_lt (by omega) hp1, Int.emod_eq_of_lt z1 z2] at s2
        exact s2.symm
      have pQ : fd_pc p q := ⟨hq, d' - e', by omega, by omega, top, fun i hi => hq0 d' d4 i (by omega)⟩
      have pW : fd_pc p W := ⟨g1, e', by omega, e1, e2, e3⟩
      have I' := sp_cut_I hI hk pQ pW eqQ
      have hl' := sp_le hp1 I' hF
      refine nm_r (nI_1 l) (H b4 (l + 1) (sp_cut Pc k l q W) (fun s h8 h9 h10 h21 hs => ?_) (fun j hj => ?_) (Or.inr ⟨rfl, q, W, pQ, pW, eqQ, g4, g2, rfl⟩) ⟨W, hW0, Or.inr ⟨?_, rfl, q, hq, eqQ, rfl⟩⟩)
      · rw [h4, fd_u_n (by omega), h3, fd_u_n (by omega), h2, fd_u_n h9, fd_u_n h10, fr1 s h8 h9 h10 h21]
      · rw [h4]
        simp only [sp_cut]
        by_cases j1 : j = l
        · rw [j1, fd_u_s, if_neg (by omega), if_pos rfl]
        · rw [fd_u_n (by omega), h3]
          by_cases j2 : j = k
          · rw [j2, fd_u_s, if_pos rfl]
          · rw [fd_u_n (by omega), h2, fd_u_n (by omega), fd_u_n (by omega), if_neg j2, if_neg j1]; exact pc1 j (by omega)
      · intro hc
        rcases hc with hc | ⟨x, x', c1, c2, c3, c4, c5⟩
        · rw [hc e' (by omega)] at e2; omega
        · have z1 : x = d' := (dege d' (Pc k) x q3 q4 c1 c2).symm
          have z2 : x' = e' := (dege e' W x' q1 q2 c3 c4).symm
          omega
    · refine H b1 l Pc (fun s h8 h9 h10 h21 _ => fr1 s h8 h9 h10 h21) pc1 (Or.inl ⟨rfl, rfl, Or.inr ?_⟩) ⟨W, hW0, Or.inl ⟨Or.inr ⟨d', e', d3, d4, e2, e3, y⟩, rfl, rfl⟩⟩
      have := po_mo_same mP mW g3 y np
      exact po_dv_eqL g4 (po_eq_s this)
end
end
section
/-! splitBy -/
theorem po_hor (v : po_P) : v = po_add (po_C (v 0)) (po_mul (po_X 1 1) (po_sh v)) := by
  funext i
  show v i = po_C (v 0) i + po_mul _ _ i
  rw [po_mul_X]
  cases i with
  | zero => simp [po_C]
  | succ i => rw [if_pos (by omega)]; simp [po_C, po_sh]
theorem ga_hor {R : Type} [Lean.Grind.CommRing R] {m X A c' q s v v0 x : R} (h : s - c' = (X - A) * q + m * x) (k : v = v0 + X * s) : v - (v0 + A * c') = (X - A) * (c' + X * q) + m * (X * x) := by grind
/-- every polynomial is, modulo x - al, a number -/
theorem po_val {m al : Int} : ∀ (d : Nat) (v : po_P), po_dl m d v → ∃ c : Int, po_dv m (po_lin al) (po_sub v (po_C c))
  | 0, v, h => ⟨0, po_dv_0 _ _ (fun i => by show m ∣ v i - po_C 0 i; rw [po_C0, Int.sub_zero]; exact h i (by omega))⟩
  | d + 1, v, h => by
    obtain ⟨c', q, fq, hq⟩ := po_val (al := al) d (po_sh v) (fun i hi => h (i + 1) (by omega))
    obtain ⟨x, hx⟩ := po_eq_ex hq
    refine ⟨v 0 + al * c', po_add (po_C c') (po_mul (po_X 1 1) q), po_fin_add (po_fin_C _ _) (po_fin_mul (po_fin_X _ _ _) fq), ?_⟩
    have g : po_eq m (po_sub v (po_add (po_C (v 0)) (po_mul (po_C al) (po_C c')))) (po_mul (po_lin al) (po_add (po_C c') (po_mul (po_X 1 1) q))) := po_ex_eq (@ga_hor po_P po_ring (po_C m) (po_X 1 1) (po_C al) (po_C c') q (po_sh v) v (po_C (v 0)) x hx (po_hor v))
    rw [← po_C_mul, ← po_C_add] at g
    exact g
theorem po_C_eq {m a b : Int} (h : m ∣ a - b) : po_eq m (po_C a) (po_C b) := fun i => by
  simp only [po_C]; split
  · exact h
  · simp
theorem po_eq_sub {m : Int} {f g f' g' : po_P} (a : po_eq m f f') (b : po_eq m g g') : po_eq m (po_sub f g) (po_sub f' g') := fun i => by
  have := Int.dvd_sub (a i) (b i)
  rwa [show f i - f' i - (g i - g' i) = po_sub f g i - po_sub f' g' i by simp only [po_sub]; omega] at this
def sp_R (p : Int) (Pc : Nat → po_P) (l : Nat) (Pc' : Nat → po_P) (l' : Nat) : Prop := ∀ j, j < l' → ∃ i, i < l ∧ po_dv p (Pc' j) (Pc i)
def sp_S (p : Int) (v : po_P) (Pc : Nat → po_P) (l : Nat) : Prop := ∀ al k, k < l → po_dv p (po_lin al) (Pc k) → ∃ c : Int, po_dv p (Pc k) (po_sub v (po_C c))
def sp_T (p : Int) (v : po_P) (b : Nat) (Pc : Nat → po_P) (l : Nat) : Prop := ∀ al k, k < l → po_dv p (po_lin al) (Pc k) → (∃ c : Nat, c < b ∧ po_dv p (po_lin al) (po_sub v (po_C c))) → ∃ c : Int, po_dv p (Pc k) (po_sub v (po_C c))
def sp_V (p : Int) (v : po_P) (b cnt q : Nat) (Pc : Nat → po_P) (l : Nat) : Prop := ∀ al j, j < l → po_dv p (po_lin al) (Pc j) → po_dv p (po_lin al) (po_sub v (po_C b)) → (j < q ∨ cnt ≤ j) → po_dv p (Pc j) (po_sub v (po_C b))
theorem sp_R_r (p : Int) (Pc : Nat → po_P) (l : Nat) : sp_R p Pc l Pc l := fun j hj => ⟨j, hj, po_dv_r _ _⟩
theorem sp_R_t {p : Int} {P1 P2 P3 : Nat → po_P} {l1 l2 l3 : Nat} (h : sp_R p P1 l1 P2 l2) (k : sp_R p P2 l2 P3 l3) : sp_R p P1 l1 P3 l3 := fun j hj => by
  obtain ⟨i, hi, h1⟩ := k j hj
  obtain ⟨i', hi', h2⟩ := h i hi
  exact ⟨i', hi', po_dv_t h1 h2⟩
theorem sp_S_R {p : Int} {v : po_P} {Pc Pc' : Nat → po_P} {l l' : Nat} (h : sp_S p v Pc l) (r : sp_R p Pc l Pc' l') : sp_S p v Pc' l' := fun al k hk hd => by
  obtain ⟨i, hi, h1⟩ := r k hk
  obtain ⟨c, hc⟩ := h al i hi (po_dv_t hd h1)
  exact ⟨c, po_dv_t h1 hc⟩
theorem sp_T_R {p : Int} {v : po_P} {b : Nat} {Pc Pc' : Nat → po_P} {l l' : Nat} (h : sp_T p v b Pc l) (r : sp_R p Pc l Pc' l') : sp_T p v b Pc' l' := fun al k hk hd hc => by
  obtain ⟨i, hi, h1⟩ := r k hk
  obtain ⟨c, hc⟩ := h al i hi (po_dv_t hd h1) hc
  exact ⟨c, po_dv_t h1 hc⟩
theorem ga_sqp {R : Type} [Lean.Grind.CommRing R] {m F r P Q W s t L x y z w : R} (h : F = r * P + m * x) (k : P = Q * W + m * y) (hq : Q = L * s + m * z) (hw : W = L * t + m * w) : F = L * (L * (r * s * t)) + m * (x + r * (y + z * W + L * s * w)) := by grind
theorem sp_step_ok {p : Int} (hp : 1 < p) {F v vb : po_P} {Pc Pc' : Nat → po_P} {q l l' cnt b : Nat} (hsq : po_sqf p F) (hI : sp_I p F Pc l) (hvb : po_eq p vb (po_sub v (po_C b))) (hst : sp_step p vb Pc q l Pc' l') (hq : q < cnt) (hc : cnt ≤ l) (hV : sp_V p v b cnt q Pc l) : sp_I p F Pc' l' ∧ l ≤ l' ∧ sp_R p Pc l Pc' l' ∧ sp_V p v b cnt (q + 1) Pc' l' := by
  have np : ¬ p ∣ 1 := fun z => by have := Int.le_of_dvd (by omega) z; omega
  rcases hst with ⟨rfl, rfl, h⟩ | ⟨rfl, Q, W, pQ, pW, eqQ, dW, cW, rfl⟩
  · refine ⟨hI, Nat.le_refl _, sp_R_r _ _ _, fun al j hj h1 h2 h3 => ?_⟩
    by_cases e : j = q
    · subst e
      rcases h with h | h
      · exact absurd (po_dv_cb h1 (po_dv_eq h2 (po_eq_s hvb)) h) (po_mo_n1 (po_lin_mo p al) (by omega) np)
      · exact po_dv_eq h hvb
    · exact hV al j hj h1 h2 (by omega)
  · have dQ : po_dv p Q (Pc q) := ⟨W, fd_pc_fin pW, eqQ⟩
    have dW' : po_dv p W (Pc q) := ⟨Q, fd_pc_fin pQ, po_eq_t eqQ (po_eq_e (by funext i; exact po_mul_comm _ _ i))⟩
    have ek : sp_cut Pc q l Q W q = Q := by simp [sp_cut]
    have el : sp_cut Pc q l Q W l = W := by
      show (if l = q then Q else if l = l then W else Pc l) = W
      rw [if_neg (by omega), if_pos rfl]
    have eo : ∀ j, j ≠ q → j ≠ l → sp_cut Pc q l Q W j = Pc j := fun j h1 h2 => by simp only [sp_cut]; rw [if_neg h1, if_neg h2]
    refine ⟨sp_cut_I hI (by omega) pQ pW eqQ, by omega, fun j hj => ?_, fun al j hj h1 h2 h3 => ?_⟩
    · by_cases e1 : j = q
      · rw [e1, ek]; exact ⟨q, by omega, dQ⟩
      · by_cases e2 : j = l
        · rw [e2, el]; exact ⟨q, by omega, dW'⟩
        · rw [eo j e1 e2]; exact ⟨j, by omega, po_dv_r _ _⟩
    · by_cases e1 : j = q
      · exfalso
        rw [e1, ek] at h1
        have h4 : po_dv p (po_lin al) W := po_dv_cb (po_dv_t h1 dQ) (po_dv_eq h2 (po_eq_s hvb)) cW
        obtain ⟨r, r0, r1, _⟩ := po_prod_out (g := Pc) (k := q) l (by omega)
        obtain ⟨s, fs, hs⟩ := h1
        obtain ⟨t, ft, ht⟩ := h4
        have h3' := hI.2.2
        rw [r1] at h3'
        obtain ⟨x, hx⟩ := po_eq_ex h3'
        obtain ⟨y, hy⟩ := po_eq_ex eqQ
        obtain ⟨z, hz⟩ := po_eq_ex hs
        obtain ⟨w, hw⟩ := po_eq_ex ht
        have g := po_ex_eq (@ga_sqp po_P po_ring _ _ _ _ _ _ _ _ _ _ _ _ _ hx hy hz hw)
        have := po_sqf_n hsq g (po_mo_fin (po_lin_mo p al)) (po_fin_mul (po_fin_mul (r0 p (fun j hj => fd_pc_fin (hI.2.1 j hj))) fs) ft)
        exact po_mo_n1 (po_lin_mo p al) (by omega) np this
      · by_cases e2 : j = l
        · rw [e2, el]; exact po_dv_eq dW hvb
        · rw [eo j e1 e2] at h1 ⊢
          exact hV al j (by omega) h1 h2 (by omega)
def sz_q (p : Int) (v : po_P) (P0 : Nat → po_P) (l0 : Nat) : Nat → (Nat → po_P) → Nat → Prop
  | 0, Pc, l => l = l0 ∧ Pc = P0
  | q + 1, Pc', l' => ∃ Pc l, sz_q p v P0 l0 q Pc l ∧ sp_F p v Pc q l Pc' l'
def sz_v (p : Int) (v : po_P) (b : Nat) : po_P := fd_w v 0 ((v 0 - b) % p)
def sz_b (p : Int) (v : po_P) (P0 : Nat → po_P) (l0 : Nat) : Nat → (Nat → po_P) → Nat → Prop
  | 0, Pc, l => l = l0 ∧ Pc = P0
  | b + 1, Pc', l' => ∃ Pc l, sz_b p v P0 l0 b Pc l ∧ sz_q p (sz_v p v b) Pc l l Pc' l'
theorem sp_F_le {p : Int} {v : po_P} {Pc : Nat → po_P} {k l : Nat} {Pc' : Nat → po_P} {l' : Nat} (h : sp_F p v Pc k l Pc' l') : l ≤ l' := by
  obtain ⟨W, _, ⟨_, h, _⟩ | ⟨_, h, _⟩⟩ := h <;> omega
theorem sz_q_u {p : Int} (hp : 1 < p) (hd : po_dom p) {v : po_P} {P0 P0' : Nat → po_P} {l0 : Nat} (e0 : ∀ j, j < l0 → P0 j = P0' j) : ∀ (q : Nat), q ≤ l0 → ∀ (Pc Pc2 : Nat → po_P) (l l2 : Nat), sz_q p v P0 l0 q Pc l → sz_q p v P0' l0 q Pc2 l2 → l0 ≤ l ∧ l = l2 ∧ ∀ j, j < l → Pc j = Pc2 j
  | 0, _, Pc, Pc2, l, l2, h, k => by
    obtain ⟨rfl, rfl⟩ := h
    obtain ⟨rfl, rfl⟩ := k
    exact ⟨Nat.le_refl _, rfl, e0⟩
  | q + 1, hq, Pc', Pc2', l', l2', h, k => by
    obtain ⟨Pc, l, h1, h2⟩ := h
    obtain ⟨Pc2, l2, k1, k2⟩ := k
    obtain ⟨x1, x2, x3⟩ := sz_q_u hp hd e0 q (by omega) Pc Pc2 l l2 h1 k1
    subst x2
    obtain ⟨y1, y2⟩ := sp_F_u hp hd (by omega) x3 h2 k2
    exact ⟨Nat.le_trans x1 (sp_F_le h2), y1, y2⟩
theorem sz_b_u {p : Int} (hp : 1 < p) (hd : po_dom p) {v : po_P} {P0 P0' : Nat → po_P} {l0 : Nat} (e0 : ∀ j, j < l0 → P0 j = P0' j) : ∀ (b : Nat) (Pc Pc2 : Nat → po_P) (l l2 : Nat), sz_b p v P0 l0 b Pc l → sz_b p v P0' l0 b Pc2 l2 → l0 ≤ l ∧ l = l2 ∧ ∀ j, j < l → Pc j = Pc2 j
  | 0, Pc, Pc2, l, l2, h, k => by
    obtain ⟨rfl, rfl⟩ := h
    obtain ⟨rfl, rfl⟩ := k
    exact ⟨Nat.le_refl _, rfl, e0⟩
  | b + 1, Pc', Pc2', l', l2', h, k => by
    obtain ⟨Pc, l, h1, h2⟩ := h
    obtain ⟨Pc2, l2, k1, k2⟩ := k
    obtain ⟨x1, x2, x3⟩ := sz_b_u hp hd e0 b Pc Pc2 l l2 h1 k1
    subst x2
    obtain ⟨y1, y2, y3⟩ := sz_q_u hp hd x3 l (Nat.le_refl l) Pc' Pc2' l' l2' h2 k2
    exact ⟨by omega, y2, y3⟩
section
variable {fc dc : Int32} {mo pr : Int64} {a2 : Nat → Int32} {a3 : Nat → Int64} {a4 a5 a6 : Nat → Int32}
def sp_fr (a a' : Nat → Int64) : Prop := ∀ s, s ≠ 8 → s ≠ 9 → s ≠ 10 → s ≠ 20 → s ≠ 21 → (s < 11 ∨ 15 < s) → fd_r a' s = fd_r a s
theorem fd_sb49 {post : St1 → Prop} {J : Int64 → Int32 → Int64 → Int64 → Int32 → Int32 → (Nat → Int64) → (Nat → Int32) → (Nat → Int64) → (Nat → Int32) → (Nat → Int32) → (Nat → Int32) → Prop} {a0 : Nat → Int64} {n b cnt : Nat} {p : Int} {F v vb : po_P} {P0 : Nat → po_P} {l0 : Nat} (hmo : mo.toInt = p) (hpr : pr.toInt = p) (hp : po_prime p) (hp2 : p ≤ 2147483648) (hn : n ≤ 5) (hF : po_mo p n F) (hsq : po_sqf p F) (hvb : po_eq p vb (po_sub v (po_C b))) (hcnt : cnt ≤ 5)
    (H : ∀ a l Pc, sp_fr a0 a → (∀ j, j < l → fd_r a (11 + j) = Pc j) → sp_I p F Pc l → sp_R p P0 l0 Pc l → l0 ≤ l → sp_V p v b cnt cnt Pc l → sz_q p vb P0 l0 cnt Pc l → J (lN (b + 1)) fc mo pr (nI l) dc a a2 a3 a4 a5 a6) :
    ∀ (f q l : Nat) (a : Nat → Int64) (Pc : Nat → po_P), f + q = cnt + 1 → q ≤ cnt → cnt ≤ l → sp_fr a0 a → fd_r a 20 = vb → (∀ j, j < l → fd_r a (11 + j) = Pc j) → sp_I p F Pc l → sp_R p P0 l0 Pc l → l0 ≤ l → sp_V p v b cnt q Pc l → sz_q p vb P0 l0 q Pc l → wX_splitBy_49 post J (lN b) (nI cnt) f (nI q) fc mo pr (nI l) dc a a2 a3 a4 a5 a6 := by
  intro f
  induction f with
  | zero => intro q l a Pc hf hq; omega
  | succ f ih =>
    intro q l a Pc hf hq hcl hfr h20 hPc hI hR hl hV hQ
    refine pk_le cnt q (fun z => nm_r (lN_1 b) (H a l Pc hfr hPc hI hR hl (by
      have : q = cnt := by omega
      rw [this] at hV; exact hV) (by
      have : q = cnt := by omega
      rw [this] at hQ; exact hQ))) (fun z => ?_)
    have hln := sp_le hp.1 hI hF
    refine fd_splitPiece (n := n) (p := p) hmo hpr hp hp2 (by omega) hn hF hI hPc (fun a' l' Pc' fr' hPc' hst hF => nm_r (nI_1 q) ?_)
    rw [h20] at hst hF
    obtain ⟨k1, k2, k3, k4⟩ := sp_step_ok hp.1 hsq hI hvb hst z hcl hV
    refine ih (q + 1) l' a' Pc' (by omega) (by omega) (by omega) (fun s h8 h9 h10 h20' h21 hs => ?_) ?_ hPc' k1 (sp_R_t hR k3) (by omega) k4 ⟨Pc, l, hQ, hF⟩
    · rw [fr' s h8 h9 h10 h21 hs]; exact hfr s h8 h9 h10 h20' h21 hs
    · rw [fr' 20 (by omega) (by omega) (by omega) (by omega) (by omega)]; exact h20
theorem fd_splitBy {post : St1 → Prop} {a : Nat → Int64} {n l P : Nat} {F : po_P} {Pc : Nat → po_P} (hmo : mo.toInt = (P : Int)) (hpr : pr.toInt = (P : Int)) (hp : po_prime P) (hp2 : P < 1000) (hn : n ≤ 5) (hF : po_mo P n F) (hsq : po_sqf P F) (hv : fd_rd P (fd_r a 23)) (hPc : ∀ j, j < l → fd_r a (11 + j) = Pc j) (hI : sp_I P F Pc l)
    (H : ∀ a' l' Pc', sp_fr a a' → (∀ j, j < l' → fd_r a' (11 + j) = Pc' j) → sp_I P F Pc' l' → sp_R P Pc l Pc' l' → l ≤ l' → sp_S P (fd_r a 23) Pc' l' → sz_b P (fd_r a 23) Pc l P Pc' l' → post (fc, mo, pr, nI l', dc, a', a2, a3, a4, a5, a6)) :
    wpX_splitBy post (fc, mo, pr, nI l, dc, a, a2, a3, a4, a5, a6) := by
  have hp1 := hp.1
  have main : ∀ (f b l' : Nat) (a' : Nat → Int64) (Pc' : Nat → po_P), f + b = P + 1 → b ≤ P → sp_fr a a' → (∀ j, j < l' → fd_r a' (11 + j) = Pc' j) → sp_I P F Pc' l' → sp_R P Pc l Pc' l' → l ≤ l' → sp_T P (fd_r a 23) b Pc' l' → sz_b P (fd_r a 23) Pc l b Pc' l' → wX_splitBy_2 post f (lN b) fc mo pr (nI l') dc a' a2 a3 a4 a5 a6 := by
    intro f
    induction f with
    | zero => intro b l' a' Pc' hf hb; omega
    | succ f ih =>
      intro b l' a' Pc' hf hb hfr hPc' hI' hR hl hT hB
      have hln := sp_le hp1 hI' hF
      have e23 : fd_r a' 23 = fd_r a 23 := hfr 23 (by omega) (by omega) (by omega) (by omega) (by omega) (by omega)
      refine br_c (fun z => H a' l' Pc' hfr hPc' hI' hR hl (fun al k hk hd => hT al k hk hd ?_) (by
        rw [li_le, hpr, pk_lT (by omega)] at z
        have : b = P := by omega
        rw [this] at hB; exact hB)) (fun z => ?_)
      · rw [li_le, hpr, pk_lT (by omega)] at z
        obtain ⟨c, hc⟩ := po_val (m := (P : Int)) (al := al) 12 (fd_r a 23) (fun i hi => by rw [fd_r_12 a 23 i hi]; exact Int.dvd_zero _)
        have rl := li_emod (a := c) (show (0 : Int) < P by omega)
        refine ⟨(c % P).toNat, by omega, po_dv_eq hc (po_eq_sub (po_eq_r _ _) (po_C_eq ?_))⟩
        rw [Int.toNat_of_nonneg rl.1]; exact Int.dvd_self_sub_emod
      · rw [li_le, hpr, pk_lT (by omega)] at z
        refine fd_copy (t := 20) (f := 23) (by omega) (by omega) (fun b1 h1 => ?_)
        dsimp only
        have g0 : (b1 240).toInt = fd_r a 23 0 := by
          rw [show (240 : Nat) = 12 * 20 + 0 from rfl, ← fd_r_i (by omega), h1, fd_u_s, e23]
        obtain ⟨v1, v2⟩ := hv 0
        have gb : (lN b).toInt = b := pk_lT (by omega)
        refine fd_rest (by omega) (fun r hr => nm_e ?_)
        rw [li_sub (by rw [g0, gb]; omega) (by rw [g0, gb]; omega), g0, gb, hmo] at hr
        have h2 : fd_r (vp_updL b1 240 r) = fd_u (fd_r a') 20 (fd_w (fd_r a 23) 0 ((fd_r a 23 0 - b) % P)) := by
          rw [show (240 : Nat) = 12 * 20 + 0 from rfl, fd_upd (by omega), h1, fd_u_s, fd_u_u, e23, hr]
        have hvb : po_eq P (fd_w (fd_r a 23) 0 ((fd_r a 23 0 - b) % P)) (po_sub (fd_r a 23) (po_C b)) := fun i => by
          show (P : Int) ∣ fd_w _ _ _ i - (fd_r a 23 i - po_C b i)
          simp only [fd_w, po_C]
          by_cases e : i = 0
          · rw [if_pos e, if_pos e, e]; exact fd_em_eq P (fun i => fd_r a 23 i - b) 0
          · rw [if_neg e, if_neg e]; simp
        refine ⟨l' + 1, fd_sb49 (n := n) (p := P) (b := b) (cnt := l') (v := fd_r a 23) (P0 := Pc') (l0 := l') (a0 := a) hmo hpr hp (by omega) hn hF hsq hvb (by omega) (fun a2' l2 Pc2 k1 k2 k3 k4 k5 k6 k7 => ?_) (l' + 1) 0 l' _ Pc' (by omega) (by omega) (Nat.le_refl _) ?_ ?_ ?_ hI' (sp_R_r _ _ _) (Nat.le_refl _) (fun al j hj _ _ hh => absurd hh (by omega)) ⟨rfl, rfl⟩⟩
        · refine ih (b + 1) l2 a2' Pc2 (by omega) (by omega) k1 k2 k3 (sp_R_t hR k4) (by omega) (fun al k hk hd hc => ?_) ⟨Pc', l', hB, k7⟩
          obtain ⟨c, c1, c2⟩ := hc
          by_cases e : c < b
          · exact sp_T_R hT k4 al k hk hd ⟨c, e, c2⟩
          · have : c = b := by omega
            rw [this] at c2
            exact ⟨b, k6 al k hk hd c2 (by omega)⟩
        · intro s h8 h9 h10 h20 h21 hs
          rw [h2, fd_u_n h20]; exact hfr s h8 h9 h10 h20 h21 hs
        · rw [h2, fd_u_s]
        · intro j hj
          rw [h2, fd_u_n (by omega)]; exact hPc' j hj
  exact ⟨P + 1, main (P + 1) 0 l a Pc (by omega) (by omega) (fun _ _ _ _ _ _ _ => rfl) hPc hI (sp_R_r _ _ _) (Nat.le_refl _) (fun al k hk hd hc => by
    obtain ⟨c, hc, _⟩ := hc
    omega) ⟨rfl, rfl⟩⟩
end
end
section
/-! splitModulo -/
theorem cn_le (pv : Nat → Int32) (m : Nat) : ∀ k, fd_cnt pv (m + k) ≤ fd_cnt pv m + k
  | 0 => Nat.le_refl _
  | k + 1 => by
    have := cn_le pv m k
    rw [show m + (k + 1) = (m + k) + 1 by omega, fd_cnt]
    split <;> omega
theorem cn_1 {pv : Nat → Int32} {i n : Nat} (hi : i < n) (h : pv i = 0) : fd_cnt pv n + 1 ≤ n := by
  have h1 := cn_le pv (i + 1) (n - (i + 1))
  rw [show i + 1 + (n - (i + 1)) = n by omega, fd_cnt, if_pos h] at h1
  have h2 := cn_le pv 0 i
  rw [Nat.zero_add] at h2
  have : fd_cnt pv 0 = 0 := rfl
  omega
theorem cn_2 {pv : Nat → Int32} {i j n : Nat} (hij : i < j) (hj : j < n) (h : pv i = 0) (k : pv j = 0) : fd_cnt pv n + 2 ≤ n := by
  have h1 := cn_le pv (j + 1) (n - (j + 1))
  rw [show j + 1 + (n - (j + 1)) = n by omega, fd_cnt, if_pos k] at h1
  have := cn_1 hij h
  omega
theorem cn_3 {pv : Nat → Int32} {i j k n : Nat} (hij : i < j) (hjk : j < k) (hk : k < n) (h : pv i = 0) (h' : pv j = 0) (h'' : pv k = 0) : fd_cnt pv n + 3 ≤ n := by
  have h1 := cn_le pv (k + 1) (n - (k + 1))
  rw [show k + 1 + (n - (k + 1)) = n by omega, fd_cnt, if_pos h''] at h1
  have := cn_2 hij hjk h h'
  omega
/-- what Berlekamp's matrix gives for the pieces -/
def bk_D (P n : Nat) (F : po_P) (Pc : Nat → po_P) (l : Nat) : Prop := ∃ (M0 M : Nat → Nat → Int) (row : Nat) (pv : Nat → Int32) (rk : Nat → Nat),
  (∀ j, j < n → ∃ W, fd_xr P F n (P * j) W ∧ ∀ k, k < n → M0 k j = (W k - if k = j then 1 else 0) % (P : Int)) ∧
  (∀ v, fd_ker P n M0 v → fd_ker P n M v) ∧
  (∀ j, j < n → pv j = 0 ∨ (pv j = 1 ∧ rk j < row ∧ M (rk j) j = 1 ∧ ∀ r, r < n → r ≠ rk j → M r j = 0)) ∧ (∀ i j, i < n → j < n → pv i = 1 → pv j = 1 → rk i = rk j → i = j) ∧
  row ≤ n ∧ ((∀ r k, r < n → k < n → M0 r k = 0) → row = 0) ∧ pv 0 = 0 ∧ (∀ r, r < n → M r 0 = 0) ∧
  ((∀ f, 1 ≤ f → f < n → pv f = 0 → sp_S P (fd_sol P n f M pv rk) Pc l) ∨ (n ≤ l + row ∧ 3 ≤ l))
theorem ga_sqs {R : Type} [Lean.Grind.CommRing R] {m L L' F F' U V l x y z : R} (h : L = l * F + m * x) (h' : L' = l * F' + m * y) (k : 1 = U * L + V * L' + m * z) : 1 = (U * l) * F + (V * l) * F' + m * (U * x + V * y + z) := by grind
theorem po_sqf_s {m : Int} {L F : po_P} {l : Int} (h : po_sqf m L) (e : po_eq m L (po_mul (po_C l) F)) : po_sqf m F := by
  obtain ⟨U, V, fU, fV, hh⟩ := h
  obtain ⟨x, hx⟩ := po_eq_ex e
  have e' : po_eq m (po_der L) (po_mul (po_C l) (po_der F)) := po_eq_t (po_der_eq e) (po_eq_e (by funext i; show _ * po_mul _ _ _ = po_mul _ _ _; rw [po_mul_C, po_mul_C]; simp only [po_der]; grind))
  obtain ⟨y, hy⟩ := po_eq_ex e'
  obtain ⟨z, hz⟩ := po_eq_ex hh
  exact ⟨po_mul U (po_C l), po_mul V (po_C l), po_fin_mul fU (po_fin_C _ _), po_fin_mul fV (po_fin_C _ _), po_ex_eq (@ga_sqs po_P po_ring _ _ _ _ _ _ _ _ _ _ _ hx hy hz)⟩
theorem fd_sol_rd {p : Int} (hp : 1 < p) {n fr : Nat} {M : Nat → Nat → Int} {pv : Nat → Int32} {rk : Nat → Nat} : fd_rd p (fd_sol p n fr M pv rk) := fun j => by
  simp only [fd_sol]
  split
  · split
    · split <;> omega
    · exact li_emod (by omega)
  · omega
/-- the loop of splitModulo, as a function -/
def sm_r (P n row : Nat) (pv : Nat → Int32) (sol : Nat → po_P) (P0 : Nat → po_P) : Nat → (Nat → po_P) → Nat → Prop
  | 0, Pc, l => l = 1 ∧ Pc = P0
  | fr + 1, Pc', l' => ∃ Pc l, sm_r P n row pv sol P0 fr Pc l ∧ (((fr = 0 ∨ n ≤ l + row ∨ pv fr ≠ 0) ∧ l' = l ∧ Pc' = Pc) ∨ (¬ (fr = 0 ∨ n ≤ l + row ∨ pv fr ≠ 0) ∧ sz_b P (sol fr) Pc l P Pc' l'))
theorem sm_r_k {P n row : Nat} {pv : Nat → Int32} {sol : Nat → po_P} {P0 : Nat → po_P} {Pc : Nat → po_P} {l : Nat} (h : n ≤ l + row) {fr : Nat} (h0 : sm_r P n row pv sol P0 fr Pc l) : ∀ k, sm_r P n row pv sol P0 (fr + k) Pc l
  | 0 => h0
  | k + 1 => ⟨Pc, l, sm_r_k h h0 k, Or.inl ⟨Or.inr (Or.inl h), rfl, rfl⟩⟩
theorem sm_r_u {P n row : Nat} (hp : 1 < (P : Int)) (hd : po_dom P) {pv pv2 : Nat → Int32} {sol sol2 : Nat → po_P} {P0 P0' : Nat → po_P} (e0 : P0 0 = P0' 0) (ep : ∀ j, j < n → pv j = pv2 j) (es : ∀ j, j < n → pv j = 0 → sol j = sol2 j) : ∀ (fr : Nat), fr ≤ n → ∀ (Pc Pc2 : Nat → po_P) (l l2 : Nat), sm_r P n row pv sol P0 fr Pc l → sm_r P n row pv2 sol2 P0' fr Pc2 l2 → l = l2 ∧ ∀ j, j < l → Pc j = Pc2 j
  | 0, _, Pc, Pc2, l, l2, h, k => by
    obtain ⟨rfl, rfl⟩ := h
    obtain ⟨rfl, rfl⟩ := k
    exact ⟨rfl, fun j hj => by
      have : j = 0 := by omega
      rw [this]; exact e0⟩
  | fr + 1, hf, Pc', Pc2', l', l2', h, k => by
    obtain ⟨Pc, l, h1, h2⟩ := h
    obtain ⟨Pc2, l2, k1, k2⟩ := k
    obtain ⟨x1, x2⟩ := sm_r_u hp hd e0 ep es fr (by omega) Pc Pc2 l l2 h1 k1
    subst x1
    rw [← ep fr (by omega)] at k2
    rcases h2 with ⟨a1, a2, a3⟩ | ⟨a1, a2⟩
    · rcases k2 with ⟨b1, b2, b3⟩ | ⟨b1, _⟩
      · rw [a2, b2, a3, b3]; exact ⟨rfl, x2⟩
      · exact absurd a1 b1
    · rcases k2 with ⟨b1, _⟩ | ⟨b1, b2⟩
      · exact absurd b1 a1
      · have pz : pv fr = 0 := Classical.byContradiction (fun z => a1 (Or.inr (Or.inr z)))
        rw [← es fr (by omega) pz] at b2
        obtain ⟨_, y2, y3⟩ := sz_b_u hp hd x2 P Pc' Pc2' l' l2' a2 b2
        exact ⟨y2, y3⟩
section
variable {fc dc : Int32} {mo pr : Int64} {a2 : Nat → Int32} {a6 : Nat → Int32}
theorem fd_sm54 {post : St1 → Prop} {a : Nat → Int64} {m : Nat → Int64} {pv pw : Nat → Int32} {n P row : Nat} {F : po_P} {rk : Nat → Nat} {P0 : Nat → po_P} (hmo : mo.toInt = (P : Int)) (hpr : pr.toInt = (P : Int)) (hp : po_prime P) (hp2 : P < 1000) (hn1 : 1 ≤ n) (hn : n ≤ 5) (hF : po_mo P n F) (hsq : po_sqf P F)
    (hm : ∀ r k, r < n → k < n → 0 ≤ fd_m m r k ∧ fd_m m r k < P) (hpv : ∀ j, j < n → pv j = 0 ∨ (pv j = 1 ∧ pw j = nI (rk j) ∧ rk j < n)) (hrow : row ≤ n) (hcnt : fd_cnt pv n = row) (h0 : pv 0 = 0)
    (H : ∀ a' l Pc, (∀ s, s ≠ 8 → s ≠ 9 → s ≠ 10 → s ≠ 20 → s ≠ 21 → s ≠ 23 → (s < 11 ∨ 15 < s) → fd_r a' s = fd_r a s) → (∀ j, j < l → fd_r a' (11 + j) = Pc j) → sp_I P F Pc l → ((∀ f, 1 ≤ f → f < n → pv f = 0 → sp_S P (fd_sol P n f (fd_m m) pv rk) Pc l) ∨ (n ≤ l + row ∧ 3 ≤ l)) → sm_r P n row pv (fun f => fd_sol P n f (fd_m m) pv rk) P0 n Pc l → post (fc, mo, pr, nI l, dc, a', a2, m, pv, pw, a6)) :
    ∀ (f fr l : Nat) (b : Nat → Int64) (Pc : Nat → po_P), f + fr = n + 2 → 1 ≤ fr → fr ≤ n + 1 → (∀ s, s ≠ 8 → s ≠ 9 → s ≠ 10 → s ≠ 20 → s ≠ 21 → s ≠ 23 → (s < 11 ∨ 15 < s) → fd_r b s = fd_r a s) → (∀ j, j < l → fd_r b (11 + j) = Pc j) → sp_I P F Pc l → (∀ f, 1 ≤ f → f < fr → f < n → pv f = 0 → sp_S P (fd_sol P n f (fd_m m) pv rk) Pc l) → (l = 1 ∨ ∃ f, 1 ≤ f ∧ f < fr ∧ f < n ∧ pv f = 0) → fr ≤ n → sm_r P n row pv (fun f => fd_sol P n f (fd_m m) pv rk) P0 fr Pc l → wX_splitModulo_54 post (nI n) (nI n - nI row) f (nI fr) fc mo pr (nI l) dc b a2 m pv pw a6 := by
  intro f
  have hp1 := hp.1
  induction f with
  | zero => intro fr l b Pc hf h1 h2; omega
  | succ f ih =>
    intro fr l b Pc hf h1 h2 hfr hPc hI hS hl hfn hsm
    have hln := sp_le hp1 hI hF
    rw [pk_sub hrow]
    refine pk_le n fr (fun z => H b l Pc hfr hPc hI (Or.inl (fun f q1 q2 q3 => hS f q1 (by omega) q2 q3)) (by
      have : fr = n := by omega
      rw [this] at hsm; exact hsm)) (fun z => pk_le (n - row) l (fun w => H b l Pc hfr hPc hI ?_ (by
      have := sm_r_k (show n ≤ l + row by omega) hsm (n - fr)
      rwa [show fr + (n - fr) = n by omega] at this)) (fun w => ⟨pk_in fr 5 (by omega), ?_⟩))
    · by_cases l3 : 3 ≤ l
      · exact Or.inr ⟨by omega, l3⟩
      · left
        intro f q1 q2 q3
        by_cases e : f < fr
        · exact hS f q1 e q2 q3
        · exfalso
          have c2 := cn_2 (show 0 < f by omega) q2 h0 q3
          rcases hl with y | ⟨f0, y1, y2, y3, y4⟩
          · have := hI.1
            omega
          · have c3 := cn_3 (show 0 < f0 by omega) (show f0 < f by omega) q2 h0 y4 q3
            omega
    · rw [nI_clamp (by omega)]
      refine br_c (fun y => ?_) (fun y => nm_r (nI_1 fr) ?_)
      · refine fd_solution (p := P) (rk := rk) hn z hp1 (by omega) hmo hm y hpv (fun b1 k1 => ?_)
        dsimp only
        have e23 : fd_r b1 23 = fd_sol P n fr (fd_m m) pv rk := by rw [k1, fd_u_s]
        refine fd_splitBy (n := n) (P := P) (F := F) (Pc := Pc) hmo hpr hp hp2 hn hF hsq (by rw [e23]; exact fd_sol_rd hp1) (fun j hj => by rw [k1, fd_u_n (by omega)]; exact hPc j hj) hI (fun b2 l' Pc' f1 f2 f3 f4 f5 f6 f7 => nm_r (nI_1 fr) ?_)
        rw [e23] at f6 f7
        rw [← pk_sub hrow]
        refine ih (fr + 1) l' b2 Pc' (by omega) (by omega) (by omega) (fun s s1 s2 s3 s4 s5 s6 s7 => ?_) f2 f3 (fun g g1 g2 g3 g4 => ?_) (Or.inr ⟨fr, h1, by omega, z, y⟩) (by omega) ⟨Pc, l, hsm, Or.inr ⟨fun x => ?_, f7⟩⟩
        · rw [f1 s s1 s2 s3 s4 s5 s7, k1, fd_u_n s6]; exact hfr s s1 s2 s3 s4 s5 s6 s7
        · by_cases e : g = fr
          · rw [e]; exact f6
          · exact sp_S_R (hS g g1 (by omega) g3 g4) f4
        · rcases x with x | x | x
          · omega
          · omega
          · exact x y
      · rw [← pk_sub hrow]
        refine ih (fr + 1) l b Pc (by omega) (by omega) (by omega) hfr hPc hI (fun g g1 g2 g3 g4 => ?_) ?_ (by omega) ⟨Pc, l, hsm, Or.inl ⟨Or.inr (Or.inr y), rfl, rfl⟩⟩
        · by_cases e : g = fr
          · rw [e] at g4; exact absurd g4 y
          · exact hS g g1 (by omega) g3 g4
        · rcases hl with w | ⟨f0, y1, y2, y3, y4⟩
          · exact Or.inl w
          · exact Or.inr ⟨f0, y1, by omega, y3, y4⟩
end
end
section
/-! splitModulo, as a whole -/
theorem ga_dsub {R : Type} [Lean.Grind.CommRing R] {a b c : R} : (a - b) * c = a * c - b * c := by grind
theorem fd_xr_0 {P : Nat} {F W : po_P} {n : Nat} (hP : 1 < (P : Int)) (hn : 1 ≤ n) (hF : po_mo P n F) (h : fd_xr P F n (P * 0) W) : ∀ k, W k = if k = 0 then 1 else 0 := by
  obtain ⟨h1, h2, q, fq, hq⟩ := h
  rw [Nat.mul_zero] at hq
  have e : po_dv P F (po_sub (po_X 0 1) W) := by
    refine ⟨q, fq, fun i => ?_⟩
    have := hq i
    rw [po_mul_comm]
    rwa [show po_X 0 1 i - po_add W (po_mul q F) i = po_sub (po_X 0 1) W i - po_mul q F i by simp only [po_add, po_sub]; omega] at this
  have z := po_mo_lt hF e (fun i hi => by
    show (P : Int) ∣ po_X 0 1 i - W i
    rw [h2 i hi]; simp only [po_X]; rw [if_neg (by omega)]; simp)
  intro k
  have zk := z k
  have e1 : po_sub (po_X 0 1) W k = (if k = 0 then 1 else 0) - W k := rfl
  rw [e1] at zk
  obtain ⟨w1, w2⟩ := h1 k
  have s2 : (if k = 0 then (1 : Int) else 0) % P = W k % P := Int.emod_eq_emod_iff_emod_sub_eq_zero.mpr (Int.emod_eq_zero_of_dvd zk)
  rw [Int.emod_eq_of_lt w1 w2] at s2
  rw [← s2]
  split
  · exact Int.emod_eq_of_lt (by omega) hP
  · exact Int.zero_emod _
/-- splitModulo, as a function of the monic polynomial F -/
def sm_F (P n : Nat) (F : po_P) (l : Nat) (Pc : Nat → po_P) : Prop := ∃ (M0 : Nat → Nat → Int) (row : Nat) (M : Nat → Nat → Int) (pv : Nat → Int32) (rk : Nat → Nat),
  (∀ j, j < n → ∃ W, fd_xr P F n (P * j) W ∧ ∀ k, k < n → M0 k j = (W k - if k = j then 1 else 0) % (P : Int)) ∧ el_run P n M0 n row M pv rk ∧ (∀ j, j < n → pv j = 0 ∨ (pv j = 1 ∧ rk j < n)) ∧ sm_r P n row pv (fun f => fd_sol P n f M pv rk) (fun _ => F) n Pc l
theorem fd_xr_u {p : Int} {F W W' : po_P} {n e : Nat} (hF : po_mo p n F) (h : fd_xr p F n e W) (k : fd_xr p F n e W') : W = W' := by
  obtain ⟨h1, h2, q, fq, hq⟩ := h
  obtain ⟨k1, k2, q', fq', hq'⟩ := k
  refine fd_rd_eq h1 k1 (po_mo_lt hF (f := po_sub W W') ⟨po_sub q' q, po_fin_sub fq' fq, fun i => ?_⟩ (fun i hi => by show p ∣ W i - W' i; rw [h2 i hi, k2 i hi]; simp))
  have a := hq i
  have b := hq' i
  have e1 : po_mul F (po_sub q' q) i = po_mul q' F i - po_mul q F i := by
    have : po_mul (po_sub q' q) F = po_sub (po_mul q' F) (po_mul q F) := @ga_dsub po_P po_ring _ _ _
    rw [po_mul_comm, this]; rfl
  rw [e1]
  have c := Int.dvd_sub b a
  rwa [show po_X e 1 i - po_add W' (po_mul q' F) i - (po_X e 1 i - po_add W (po_mul q F) i) = po_sub W W' i - (po_mul q' F i - po_mul q F i) by simp only [po_add, po_sub]; omega] at c
theorem sm_F_u {P n : Nat} (hp : po_prime P) {F : po_P} (hF : po_mo P n F) {l l2 : Nat} {Pc Pc2 : Nat → po_P} (h : sm_F P n F l Pc) (k : sm_F P n F l2 Pc2) : l = l2 ∧ ∀ j, j < l → Pc j = Pc2 j := by
  obtain ⟨M0, row, M, pv, rk, h1, h2, h3, h4⟩ := h
  obtain ⟨M0', row', M', pv', rk', k1, k2, k3, k4⟩ := k
  have e0 : ∀ r c, r < n → c < n → M0 r c = M0' r c := fun r c hr hc => by
    obtain ⟨W, w1, w2⟩ := h1 c hc
    obtain ⟨W', w1', w2'⟩ := k1 c hc
    rw [w2 r hr, w2' r hr, fd_xr_u hF w1 w1']
  obtain ⟨x1, x2, x3⟩ := el_run_u e0 n (Nat.le_refl n) row M pv rk row' M' pv' rk' h2 k2
  subst x1
  refine sm_r_u hp.1 (po_prime_dom hp) rfl (fun j hj => (x3 j hj).1) (fun f hf hpf => ?_) n (Nat.le_refl n) Pc Pc2 l l2 h4 k4
  funext j
  simp only [fd_sol]
  by_cases hj : j < n
  · rw [if_pos hj, if_pos hj]
    obtain ⟨y1, y2⟩ := x3 j hj
    rw [← y1]
    by_cases z : pv j = 0
    · rw [if_pos z, if_pos z]
    · rw [if_neg z, if_neg z]
      rcases h3 j hj with w | ⟨w1, w2⟩
      · exact absurd w z
      · rw [← y2 w1, x2 (rk j) f w2 hf]
  · rw [if_neg hj, if_neg hj]
section
variable {fc lc dc : Int32} {mo pr : Int64} {a2 : Nat → Int32} {a3 : Nat → Int64} {a4 a5 a6 : Nat → Int32}
theorem fd_splitModulo {post : St1 → Prop} {a : Nat → Int64} {n P : Nat} (hmo : mo.toInt = (P : Int)) (hpr : pr.toInt = (P : Int)) (hp : po_prime P) (hp2 : P < 1000) (hn1 : 1 ≤ n) (hn : n ≤ 5) (hL1 : ¬ (P : Int) ∣ fd_r a 5 n) (hL2 : ∀ i, n < i → fd_r a 5 i = 0) (hsq : po_sqf P (fd_r a 5))
    (H : ∀ a' l Pc F m pv pw, (∀ s, s ≠ 8 → s ≠ 9 → s ≠ 10 → s ≠ 20 → s ≠ 21 → s ≠ 23 → s ≠ 24 → (s < 11 ∨ 15 < s) → fd_r a' s = fd_r a s) → (∀ j, j < l → fd_r a' (11 + j) = Pc j) → sp_I P F Pc l → fd_rd P F → F n = 1 → (∀ i, n < i → F i = 0) → po_eq P (fd_r a 5) (po_mul (po_C (fd_r a 5 n)) F) → po_sqf P F → bk_D P n F Pc l → sm_F P n F l Pc → post (fc, mo, pr, nI l, dc, a', a2, m, pv, pw, a6)) :
    wpX_splitModulo post (fc, mo, pr, lc, dc, a, a2, a3, a4, a5, a6) := by
  have hp1 := hp.1
  have np : ¬ (P : Int) ∣ 1 := fun z => by have := Int.le_of_dvd (by omega) z; omega
  unfold wpX_splitModulo
  dsimp only
  refine fd_copy (t := 11) (f := 5) (by omega) (by omega) (fun b1 h1 => ?_)
  dsimp only
  have e11 : fd_r b1 11 = fd_r a 5 := by rw [h1, fd_u_s]
  refine fd_reduce (t := 11) (by omega) (by omega) (fun b2 h2 => ?_)
  dsimp only
  rw [e11, hmo, h1, fd_u_u] at h2
  have e11' : fd_r b2 11 = fd_em P (fd_r a 5) := by rw [h2, fd_u_s]
  refine fd_makeMonic (t := 11) (p := P) (by omega) hmo hpr hp (by omega) (by rw [e11']; exact fd_em_rd (by omega) _) (fun b3 F h3 hF => ?_)
  dsimp only
  rw [h2, fd_u_u] at h3
  rw [e11'] at hF
  have emn : fd_em P (fd_r a 5) n ≠ 0 := fun z => hL1 (Int.dvd_of_emod_eq_zero z)
  have emz : ∀ i, n < i → fd_em P (fd_r a 5) i = 0 := fun i hi => by show fd_r a 5 i % _ = 0; rw [hL2 i hi, Int.zero_emod]
  have eF := fd_mn_eq hp1 hF
  have rF : fd_rd P F := eF.1 (fd_em_rd (by omega) _)
  have facts : F n = 1 ∧ (∀ i, n < i → F i = 0) ∧ po_eq P (fd_r a 5) (po_mul (po_C (fd_r a 5 n)) F) := by
    rcases hF with ⟨z, _⟩ | ⟨b, d, hd, d1, d2, d3, d4, d5, rfl⟩
    · exact absurd (z n) emn
    · have dn : d = n := by
        rcases Nat.lt_trichotomy d n with z | z | z
        · exact absurd (d2 n z) emn
        · exact z
        · exact absurd (emz d z) d1
      subst dn
      have t1 : fd_em P (fd_r a 5) d * b % (P : Int) = 1 := by
        have : (fd_em P (fd_r a 5) d * b) % (P : Int) = 1 % P := Int.emod_eq_emod_iff_emod_sub_eq_zero.mpr (Int.emod_eq_zero_of_dvd (by rw [Int.mul_comm]; exact d3))
        rw [this, Int.emod_eq_of_lt (by omega) hp1]
      refine ⟨t1, fun i hi => by show fd_em P (fd_r a 5) i * b % _ = 0; rw [d2 i hi, Int.zero_mul, Int.zero_emod], fun i => ?_⟩
      rw [po_mul_C]
      -- a_i - a_d ((a_i % p) b % p)
      have q1 : (P : Int) ∣ fd_em P (fd_r a 5) i - fd_r a 5 i := fd_em_eq P _ i
      have q2 : (P : Int) ∣ fd_em P (fd_r a 5) d - fd_r a 5 d := fd_em_eq P _ d
      have q3 : (P : Int) ∣ (fd_em P (fd_r a 5) i * b) % P - fd_em P (fd_r a 5) i * b := fd_em_eq P (fun i => fd_em P (fd_r a 5) i * b) i
      obtain ⟨k1, q1⟩ := q1
      obtain ⟨k2, q2⟩ := q2
      obtain ⟨k3, q3⟩ := q3
      obtain ⟨k4, q4⟩ := d3
      refine ⟨-k1 - fd_r a 5 d * k3 - fd_em P (fd_r a 5) i * k4 + fd_em P (fd_r a 5) i * b * k2, ?_⟩
      grind
  obtain ⟨F1, F2, F3⟩ := facts
  have mF : po_mo P n F := fd_top_mo F1 F2
  have sqF : po_sqf P F := po_sqf_s hsq F3
  have e3 : fd_r b3 11 = F := by rw [h3, fd_u_s]
  refine fd_degreeOf (s := 11) (by omega) (fun h0 => absurd (by rw [e3] at h0; exact h0 n) (by rw [F1]; omega)) (fun d hd d1 d2 => ?_)
  rw [e3] at d1 d2
  have dn : d = n := by
    rcases Nat.lt_trichotomy d n with z | z | z
    · rw [d2 n z] at F1; omega
    · exact z
    · exact absurd (F2 d z) d1
  subst dn
  refine fd_copy (t := 24) (f := 11) (by omega) (by omega) (fun b4 h4 => ?_)
  dsimp only
  rw [e3] at h4
  have e24 : fd_r b4 24 = F := by rw [h4, fd_u_s]
  refine fd_fillMatrix (n := d) (P := P) hn1 hn (by omega) hp2 hmo hpr (by rw [e24]; exact rF) (by rw [e24]; exact F1) (by rw [e24]; exact F2) (fun b5 m W h5 hm => ?_)
  dsimp only
  rw [e24] at hm
  refine fd_eliminate (n := d) (p := P) hn hp (by omega) hmo hpr (fun r k hr hk => ?_) (fun m' row pv pw rk hrow hel hrun => nm_e ⟨d + 1, ?_⟩)
  · obtain ⟨W', _, hW⟩ := hm k hk
    rw [hW r hr]; exact li_emod (by omega)
  · obtain ⟨x1, x2, x3, ⟨x4, x5⟩, x6, x7, x8⟩ := hel
    have col0 : ∀ r, r < d → fd_m m r 0 = 0 := fun r hr => by
      obtain ⟨W', w1, w2⟩ := hm 0 (by omega)
      rw [w2 r hr, fd_xr_0 hp1 hn1 mF w1 r, Int.sub_self, Int.zero_emod]
    obtain ⟨y1, y2⟩ := x8 col0
    have pv0 := y2 (by omega)
    refine fd_sm54 (a := b5) (P := P) (F := F) (rk := rk) (P0 := fun _ => F) hmo hpr hp hp2 hn1 hn mF sqF x2 (fun j hj => ?_) hrow x6 pv0 (fun a' l Pc k1 k2 k3 k4 k5 => H a' l Pc F m' pv pw (fun s s1 s2 s3 s4 s5 s6 s7 s8 => ?_) k2 k3 rF F1 F2 F3 sqF ⟨fd_m m, fd_m m', row, pv, rk, hm, x3, fun j hj => ?_, x5, hrow, fun z => (x7 z).2, pv0, y1, k4⟩ ⟨fd_m m, row, fd_m m', pv, rk, hm, hrun, fun j hj => ?_, k5⟩) (d + 1) 1 1 b5 (fun _ => F) (by omega) (by omega) (by omega) (fun _ _ _ _ _ _ _ _ => rfl) (fun j hj => ?_) ⟨by omega, fun k hk => ⟨rF, d, hn1, by omega, F1, F2⟩, po_eq_e ?_⟩ (fun f q1 q2 => by omega) (Or.inl rfl) (by omega) ⟨fun _ => F, 1, ⟨rfl, rfl⟩, Or.inl ⟨Or.inl rfl, rfl, rfl⟩⟩
    · rcases x4 j hj with z | ⟨z0, z1, z2, _⟩
      · exact Or.inl z
      · exact Or.inr ⟨z0, z1, by omega⟩
    · rw [k1 s s1 s2 s3 s4 s5 s6 s8, h5, fd_u_n s6, h4, fd_u_n s7, h3, fd_u_n (by omega)]
    · rcases x4 j hj with z | ⟨z0, z1, z2, z3, z4⟩
      · exact Or.inl z
      · exact Or.inr ⟨z0, z2, z3, z4⟩
    · rcases x4 j hj with z | ⟨z0, z1, z2, _⟩
      · exact Or.inl z
      · exact Or.inr ⟨z0, by omega⟩
    · have : j = 0 := by omega
      subst this
      rw [h5, fd_u_n (by omega), h4, fd_u_n (by omega)]; exact e3
    · funext i
      show F i = po_mul (po_C 1) F i
      rw [po_mul_C]; omega
end
end
section
/-! multiplyModulo, stepBack -/
def po_cs (X Y : po_P) : Nat → Nat → Int
  | 0, _ => 0
  | I + 1, n => po_cs X Y I n + if I ≤ n then X I * Y (n - I) else 0
theorem po_cs_s (Y : po_P) : ∀ (I : Nat) (X : po_P) (n : Nat), po_cs X Y (I + 1) (n + 1) = X 0 * Y (n + 1) + po_cs (po_sh X) Y I n
  | 0, X, n => by simp [po_cs]
  | I + 1, X, n => by
    rw [po_cs, po_cs_s Y I X n, po_cs]
    by_cases h : I ≤ n
    · rw [if_pos (by omega), if_pos h, show n + 1 - (I + 1) = n - I by omega]; simp only [po_sh]; omega
    · rw [if_neg (by omega), if_neg h]; omega
theorem po_cs_0 (X Y : po_P) : ∀ I, po_cs X Y (I + 1) 0 = X 0 * Y 0
  | 0 => by simp [po_cs]
  | I + 1 => by rw [po_cs, po_cs_0 X Y I, if_neg (by omega)]; omega
theorem po_cs_mul (Y : po_P) : ∀ (n I : Nat) (X : po_P), n < I → po_cs X Y I n = po_mul X Y n
  | 0, I, X, h => by
    obtain ⟨J, rfl⟩ : ∃ J, I = J + 1 := ⟨I - 1, by omega⟩
    rw [po_cs_0, po_mul_0]
  | n + 1, I, X, h => by
    obtain ⟨J, rfl⟩ : ∃ J, I = J + 1 := ⟨I - 1, by omega⟩
    rw [po_cs_s, po_cs_mul Y n J (po_sh X) (by omega), po_mul_s]
/-- the product's first twelve places, modulo m -/
def fd_mm (m : Int) (X Y : po_P) : po_P := fun n => if n < 12 then po_mul X Y n % m else 0
def fd_mg (m : Int) (X Y : po_P) (I : Nat) : po_P := fun n => if n < 12 then po_cs X Y I n % m else 0
theorem fd_mg_12 (m : Int) (X Y : po_P) : fd_mg m X Y 12 = fd_mm m X Y := by
  funext n; simp only [fd_mg, fd_mm]
  by_cases h : n < 12
  · rw [if_pos h, if_pos h, po_cs_mul Y n 12 X h]
  · rw [if_neg h, if_neg h]
theorem fd_mg_rd {m : Int} (hm : 0 < m) (X Y : po_P) (I : Nat) : fd_rd m (fd_mg m X Y I) := fun n => by
  simp only [fd_mg]; split
  · exact li_emod hm
  · omega
theorem fd_mm_rd {m : Int} (hm : 0 < m) (X Y : po_P) : fd_rd m (fd_mm m X Y) := fun n => by
  simp only [fd_mm]; split
  · exact li_emod hm
  · omega
theorem fd_mm_eq {m : Int} {X Y : po_P} {d e : Nat} (hX : ∀ i, d < i → X i = 0) (hY : ∀ i, e < i → Y i = 0) (h : d + e < 12) : po_eq m (fd_mm m X Y) (po_mul X Y) := fun n => by
  simp only [fd_mm]
  by_cases hn : n < 12
  · rw [if_pos hn]; exact fd_em_eq m (po_mul X Y) n
  · rw [if_neg hn]
    have := (po_dl_mul (m := 0) (e := e) (g := Y) (fun i hi => by rw [hY i (by omega)]; exact Int.dvd_zero _) d X (fun i hi => by rw [hX i (by omega)]; exact Int.dvd_zero _)).1 n (by omega)
    rw [Int.zero_dvd.mp this]; simp
theorem fd_mm_0 {m : Int} {X Y : po_P} {d e : Nat} (hX : ∀ i, d < i → X i = 0) (hY : ∀ i, e < i → Y i = 0) (i : Nat) (hi : d + e < i) : fd_mm m X Y i = 0 := by
  simp only [fd_mm]
  have := (po_dl_mul (m := 0) (e := e) (g := Y) (fun i hi => by rw [hY i (by omega)]; exact Int.dvd_zero _) d X (fun i hi => by rw [hX i (by omega)]; exact Int.dvd_zero _)).1 i (by omega)
  rw [Int.zero_dvd.mp this]; simp
section
variable {fc lc dc : Int32} {mo pr : Int64} {a : Nat → Int64} {a2 : Nat → Int32} {a3 : Nat → Int64} {a4 a5 a6 : Nat → Int32}
theorem fd_mmi {post : St1 → Prop} {J : Int32 → (Nat → Int64) → (Nat → Int32) → (Nat → Int64) → (Nat → Int32) → (Nat → Int32) → (Nat → Int32) → Prop} {t x y i : Nat} {m : Int} {B : Nat → po_P} {s0 : Nat → Int64} (hx : x < 26) (hy : y < 26) (hx25 : x ≠ 25) (hy25 : y ≠ 25) (hi : i < 12) (hm : 0 < m) (hm2 : m ≤ 2147483648) (hmo : mo.toInt = m) (hX : ∀ j, 0 ≤ B x j ∧ B x j < 2147483648) (hY : ∀ j, 0 ≤ B y j ∧ B y j < 2147483648) (h0 : fd_r s0 = fd_u B 25 (fd_mg m (B x) (B y) i))
    (H : ∀ a', fd_r a' = fd_u B 25 (fd_mg m (B x) (B y) (i + 1)) → J (nI (i + 1)) a' a2 a3 a4 a5 a6) : ∃ n, wX_multiplyModulo_39 post J (nI t) (nI x) (nI y) (nI i) fc mo pr lc dc n 0 s0 a2 a3 a4 a5 a6 :=
  pk_loop (fun n k s => wX_multiplyModulo_39 post J (nI t) (nI x) (nI y) (nI i) fc mo pr lc dc n (nI k) s a2 a3 a4 a5 a6) (fun k s => fd_r s = fd_u B 25 (fd_rng i (i + k) (fd_mg m (B x) (B y) (i + 1)) (fd_mg m (B x) (B y) i))) (12 - i) 0 s0 (by omega) (by rw [Nat.add_zero, fd_rng_0, h0])
    (fun n s h => pk_le 12 (i + (12 - i)) (fun _ => nm_r (nI_1 i) (H s (by
      rw [h]; congr 1; funext j
      simp only [fd_rng, fd_mg]
      by_cases z : j < 12
      · by_cases y : i ≤ j
        · rw [if_pos (by omega), if_pos z]
        · rw [if_neg (by omega), if_pos z, if_pos z, po_cs, if_neg (by omega), Int.add_zero]
      · rw [if_neg (by omega), if_neg z, if_neg z]))) (fun z => absurd z (by omega)) rfl (nI_add i (12 - i)))
    (fun n k s hk h hw => pk_le 12 (i + k) (fun z => absurd z (by omega)) (fun _ => by
      have ei : ((300 + nI i) + nI k : Int32) = nI (12 * 25 + (i + k)) := by
        rw [show (300 : Int32) = nI 300 from rfl, nI_add, nI_add]; congr 1; omega
      have g1 := fd_rgetn (q := x) (j := i) hx25 (by omega) h
      have g2 := fd_rgetn (q := y) (j := k) hy25 (by omega) h
      have g3 := fd_rget (j := i + k) (by omega) h
      rw [fd_rng_hi] at g3
      obtain ⟨b1, b2⟩ := hX i
      obtain ⟨c1, c2⟩ := hY k
      obtain ⟨d1, d2⟩ := fd_mg_rd hm (B x) (B y) i (i + k)
      have mm := li_mm b1 c1 b2 c2 (Int.le_refl _)
      have em : (s (12 * x + i) * s (12 * y + k)).toInt = B x i * B y k := by rw [li_mul (by rw [g1, g2]; omega) (by rw [g1, g2]; omega), g1, g2]
      have er : (s (12 * x + i) * s (12 * y + k) - s (12 * x + i) * s (12 * y + k) / mo * mo).toInt = B x i * B y k % m := by rw [li_remN (by omega), em, hmo]
      have rl := li_emod (a := B x i * B y k) hm
      refine ⟨pk_in (12 * x + i) 312 (by omega) (li_ix x i), pk_in (12 * y + k) 312 (by omega) (li_ix y k), li_ne0.mpr (by omega), ?_⟩
      rw [li_ix, li_ix, nI_clamp (by omega), nI_clamp (by omega)]
      refine nm_e ⟨pk_in (12 * 25 + (i + k)) 312 (by omega) ei, fd_rest (by omega) (fun r hr => ⟨pk_in (12 * 25 + (i + k)) 312 (by omega) ei, nm_r (by rw [ei, nI_clamp (by omega)]) (nm_r (nI_1 k) (hw _ (fd_rfill (hi := i + k) (v := r) (by omega) (by omega) h ?_)))⟩)⟩
      rw [hr, ei, nI_clamp (by omega), li_add (by rw [er, g3]; omega) (by rw [er, g3]; omega), er, g3, hmo]
      simp only [fd_mg]
      rw [if_pos (by omega), if_pos (by omega), ← Int.add_emod, po_cs, if_pos (by omega), show i + k - i = k by omega]) rfl (nI_add i k))
theorem fd_multiplyModulo {post : St1 → Prop} {t x y : Nat} {m : Int} (ht : t < 26) (hx : x < 26) (hy : y < 26) (hx25 : x ≠ 25) (hy25 : y ≠ 25) (hm : 0 < m) (hm2 : m ≤ 2147483648) (hmo : mo.toInt = m) (hX : ∀ j, 0 ≤ fd_r a x j ∧ fd_r a x j < 2147483648) (hY : ∀ j, 0 ≤ fd_r a y j ∧ fd_r a y j < 2147483648)
    (H : ∀ a', fd_r a' = fd_u (fd_u (fd_r a) 25 (fd_mm m (fd_r a x) (fd_r a y))) t (fd_mm m (fd_r a x) (fd_r a y)) → post (fc, mo, pr, lc, dc, a', a2, a3, a4, a5, a6)) :
    wpX_multiplyModulo post (fc, mo, pr, lc, dc, a, a2, a3, a4, a5, a6) (nI t) (nI x) (nI y) := by
  unfold wpX_multiplyModulo
  dsimp only
  refine fd_clear (t := 25) (by omega) (fun b1 h1 => ?_)
  dsimp only
  have z0 : fd_mg m (fd_r a x) (fd_r a y) 0 = fun _ => 0 := by
    funext n; simp only [fd_mg, po_cs]; split
    · exact Int.zero_emod _
    · rfl
  have main : ∀ (f i : Nat) (s : Nat → Int64), f + i = 13 → i ≤ 12 → fd_r s = fd_u (fd_r a) 25 (fd_mg m (fd_r a x) (fd_r a y) i) → wX_multiplyModulo_9 post (nI t) (nI x) (nI y) fc mo pr lc dc f (nI i) s a2 a3 a4 a5 a6 := by
    intro f
    induction f with
    | zero => intro i s h1 h2; omega
    | succ f ih =>
      intro i s hf hi hs
      refine pk_le 12 i (fun z => ?_) (fun z => ⟨pk_in (12 * x + i) 312 (by omega) (li_ix x i), ?_⟩)
      · have : i = 12 := by omega
        subst this
        rw [fd_mg_12] at hs
        refine fd_copy (f := 25) ht (by omega) (fun a' ha' => H a' ?_)
        rw [ha', hs, fd_u_s]
      · rw [li_ix, nI_clamp (by omega)]
        have g : (s (12 * x + i)).toInt = fd_r a x i := by rw [← fd_r_i z, hs, fd_u_n hx25]
        refine br_c (fun w => nm_r (nI_1 i) (ih (i + 1) s (by omega) (by omega) ?_)) (fun w => ?_)
        · rw [hs]; congr 1; funext n; simp only [fd_mg, po_cs]
          have : fd_r a x i = 0 := by rw [← g, w]; rfl
          rw [this, Int.zero_mul, ite_self, Int.add_zero]
        · exact fd_mmi hx hy hx25 hy25 z hm hm2 hmo hX hY hs (fun a' ha' => ih (i + 1) a' (by omega) (by omega) ha')
  exact ⟨13, main 13 0 b1 (by omega) (by omega) (by rw [h1, z0])⟩
theorem fd_stepBack {post : St1 → Prop} {bf nw : Nat} {p : Int} (hb : bf < 25) (hw : nw < 25) (hbw : bf ≠ nw) (b8 : bf ≠ 8) (w8 : nw ≠ 8) (b9 : bf ≠ 9) (w9 : nw ≠ 9) (hp : 0 < p) (hp2 : p ≤ 2147483648) (hmo : mo.toInt = p) (hQ : fd_rd p (fd_r a 9)) (hB : fd_rd p (fd_r a bf)) (hN : fd_rd p (fd_r a nw))
    (H : ∀ a', fd_r a' = fd_u (fd_u (fd_u (fd_u (fd_r a) 25 (fd_mm p (fd_r a 9) (fd_r a nw))) 8 (fd_mm p (fd_r a 9) (fd_r a nw))) bf (fd_r a nw)) nw (fun i => (fd_r a bf i - fd_mm p (fd_r a 9) (fd_r a nw) i) % p) → post (fc, mo, pr, lc, dc, a', a2, a3, a4, a5, a6)) :
    wpX_stepBack post (fc, mo, pr, lc, dc, a, a2, a3, a4, a5, a6) (nI bf) (nI nw) := by
  unfold wpX_stepBack
  dsimp only
  refine fd_multiplyModulo (t := 8) (x := 9) (y := nw) (m := p) (by omega) (by omega) (by omega) (by omega) (by omega) hp hp2 hmo (fun j => by have := hQ j; omega) (fun j => by have := hN j; omega) (fun b1 h1 => ?_)
  dsimp only
  generalize hg : fd_mm p (fd_r a 9) (fd_r a nw) = g at *
  have gr : fd_rd p g := by rw [← hg]; exact fd_mm_rd hp _ _
  have g12 : ∀ i, 12 ≤ i → g i = 0 := fun i hi => by rw [← hg]; simp only [fd_mm]; rw [if_neg (by omega)]
  have r1b : fd_r b1 bf = fd_r a bf := by rw [h1, fd_u_n b8, fd_u_n (by omega)]
  have r1n : fd_r b1 nw = fd_r a nw := by rw [h1, fd_u_n w8, fd_u_n (by omega)]
  have r18 : fd_r b1 8 = g := by rw [h1, fd_u_s]
  refine pk_loop (fun n i s => wX_stepBack_11 post (nI bf) (nI nw) fc mo pr lc dc n (nI i) s a2 a3 a4 a5 a6) (fun i s => fd_r s = fd_u (fd_u (fd_r b1) bf (fd_mix i (fd_r a nw) (fd_r a bf))) nw (fd_mix i (fun j => (fd_r a bf j - g j) % p) (fd_r a nw))) 12 0 b1 (by omega) ?_
    (fun n s h => pk_le 12 12 (fun _ => H s ?_) (fun z => absurd z (by omega)))
    (fun n i s hi h hw' => pk_le 12 i (fun z => absurd z (by omega)) (fun _ => ?_))
  · rw [fd_mix_0, fd_mix_0, ← r1b, fd_u_id, ← r1n, fd_u_id]
  · rw [h, fd_mix_e (fun i hi => by rw [fd_r_12 a nw i hi, fd_r_12 a bf i hi]), fd_mix_e (fun i hi => by rw [fd_r_12 a nw i hi, fd_r_12 a bf i hi, g12 i hi]; exact Int.zero_emod _), h1]
  · have e8 : (96 + nI i : Int32) = nI (12 * 8 + i) := by rw [show (96 : Int32) = nI 96 from rfl, nI_add]
    have gb : (s (12 * bf + i)).toInt = fd_r a bf i := by rw [← fd_r_i hi, h, fd_u_n hbw, fd_u_s, fd_mix_i]
    have gn : (s (12 * nw + i)).toInt = fd_r a nw i := by rw [← fd_r_i hi, h, fd_u_s, fd_mix_i]
    have g8 : (s (12 * 8 + i)).toInt = g i := by rw [← fd_r_i hi, h, fd_u_n (by omega), fd_u_n (by omega), r18]
    have q1 := hB i
    have q2 := gr i
    refine ⟨pk_in (12 * bf + i) 312 (by omega) (li_ix bf i), pk_in (12 * 8 + i) 312 (by omega) e8, ?_⟩
    rw [e8, li_ix, li_ix, nI_clamp (by omega), nI_clamp (by omega), nI_clamp (by omega)]
    refine fd_rest (by omega) (fun r hr => ⟨pk_in (12 * nw + i) 312 (by omega) rfl, pk_in (12 * bf + i) 312 (by omega) rfl, nm_e ⟨pk_in (12 * nw + i) 312 (by omega) rfl, nm_e (nm_r (nI_1 i) (hw' _ ?_))⟩⟩)
    rw [li_sub (by rw [gb, g8]; omega) (by rw [gb, g8]; omega), gb, g8, hmo] at hr
    have k1 : fd_r (vp_updL s (12 * bf + i) (s (12 * nw + i))) = fd_u (fd_u (fd_r b1) bf (fd_mix (i + 1) (fd_r a nw) (fd_r a bf))) nw (fd_mix i (fun j => (fd_r a bf j - g j) % p) (fd_r a nw)) := by
      rw [fd_upd hi, h, fd_u_n hbw, fd_u_s, gn, fd_mix_s rfl, fd_u_c (show nw ≠ bf by omega), fd_u_u]
    rw [fd_upd hi, k1, fd_u_s, fd_u_u, fd_mix_s hr]
end
end
section
/-! findBezout -/
def bz_fr (a a' : Nat → Int64) : Prop := ∀ s, s ≠ 6 → s ≠ 7 → s ≠ 8 → s ≠ 9 → s ≠ 10 → s ≠ 17 → s ≠ 18 → s ≠ 20 → s ≠ 21 → s ≠ 25 → fd_r a' s = fd_r a s
theorem ga_bz {R : Type} [Lean.Grind.CommRing R] {m A B q r S U T V u w x y z S' T' c d : R} (hA : A = S * u + T * w + m * x) (hB : B = U * u + V * w + m * y) (h : A = q * B + r + m * z) (hS : S' = S - q * U + m * c) (hT : T' = T - q * V + m * d) : r = S' * u + T' * w + m * (x - q * y - z - c * u - d * w) := by grind
theorem ga_bzf {R : Type} [Lean.Grind.CommRing R] {m A S T u w s t b x1 x2 x3 x4 o : R} (h1 : s = S * b + m * x1) (h2 : t = T * b + m * x2) (h3 : A = S * u + T * w + m * x3) (h4 : b * A = o + m * x4) : s * u + t * w = o + m * (x4 - b * x3 + x1 * u + x2 * w) := by grind
/-- the state of the extended Euclid: rows 6, 7, 17, 20, 18, 21 -/
def bz_I (p : Int) (u w : po_P) (nu nw : Nat) (A B S U T V : po_P) (D1 : Nat) : Prop :=
  fd_rd p A ∧ fd_rd p B ∧ fd_rd p S ∧ fd_rd p U ∧ fd_rd p T ∧ fd_rd p V ∧ A D1 ≠ 0 ∧ (∀ i, D1 < i → A i = 0) ∧
  po_eq p A (po_add (po_mul S u) (po_mul T w)) ∧ po_eq p B (po_add (po_mul U u) (po_mul V w)) ∧ po_cb p A B u ∧ po_cb p A B w ∧
  (∀ i, nw < i + D1 → U i = 0) ∧ (∀ i, nu < i + D1 → V i = 0) ∧ (∀ i, nw < i → S i = 0) ∧ (∀ i, nu < i → T i = 0) ∧
  (∀ D2, B D2 ≠ 0 → (∀ i, D2 < i → B i = 0) → (∀ i, nw < i + D2 → S i = 0) ∧ (∀ i, nu < i + D2 → T i = 0))
theorem fd_sub_eq {p : Int} {f g h : po_P} (e : po_eq p g h) : po_eq p (fun i => (f i - g i) % p) (po_sub f h) := fun i => by
  have a := fd_em_eq p (fun i => f i - g i) i
  have b := e i
  have := Int.dvd_sub a b
  rwa [show fd_em p (fun i => f i - g i) i - (f i - g i) - (g i - h i) = (f i - g i) % p - po_sub f h i by simp only [fd_em, po_sub]; omega] at this
theorem bz_step {p : Int} (hp : 1 < p) {u w : po_P} {nu nw : Nat} {A B S U T V q r : po_P} {D1 D2 : Nat} (hnu : nu ≤ 5) (hnw : nw ≤ 5) (h : bz_I p u w nu nw A B S U T V D1) (hD : B D2 ≠ 0) (hD' : ∀ i, D2 < i → B i = 0) (hq : fd_rd p q) (hr : fd_rd p r) (he : po_eq p A (po_add (po_mul q B) r)) (hr0 : ∀ i, D2 ≤ i → r i = 0) (hq0 : ∀ i, D1 < i + D2 → q i = 0) (hD1 : D1 < 12) :
    bz_I p u w nu nw B r U (fun i => (S i - fd_mm p q U i) % p) V (fun i => (T i - fd_mm p q V i) % p) D2 := by
  obtain ⟨a1, a2, a3, a4, a5, a6, a7, a8, a9, a10, a11, a12, a13, a14, a15, a16, a17⟩ := h
  obtain ⟨s1, s2⟩ := a17 D2 hD hD'
  have fq : po_fin p q := po_fin_0 (n := D1 + 1) (fun i hi => hq0 i (by omega))
  obtain ⟨c1, c2⟩ := po_cb_s fq he
  -- if D1 < D2 the quotient is zero
  have qz : D1 < D2 → ∀ i, q i = 0 := fun z i => hq0 i (by omega)
  have dq : ∀ (W : po_P) (N : Nat), N ≤ 5 → (∀ i, N < i + D1 → W i = 0) → po_eq p (fd_mm p q W) (po_mul q W) ∧ ∀ i, N < i + D2 → fd_mm p q W i = 0 := by
    intro W N hN hW
    by_cases z : D1 < D2
    · have q0 : q = fun _ => 0 := funext (qz z)
      have mz : fd_mm p q W = fun _ => 0 := by
        funext i; simp only [fd_mm]; split
        · rw [q0, po_mul_zL, Int.zero_emod]
        · rfl
      refine ⟨fun i => ?_, fun i _ => by rw [mz]⟩
      rw [mz, q0, po_mul_zL]; simp
    · by_cases zN : D1 ≤ N
      · have e1 : ∀ i, D1 - D2 < i → q i = 0 := fun i hi => hq0 i (by omega)
        have e2 : ∀ i, N - D1 < i → W i = 0 := fun i hi => hW i (by omega)
        exact ⟨fd_mm_eq e1 e2 (by omega), fun i hi => fd_mm_0 e1 e2 i (by omega)⟩
      · have w0 : W = fun _ => 0 := funext (fun i => hW i (by omega))
        have mz : fd_mm p q W = fun _ => 0 := by
          funext i; simp only [fd_mm]; split
          · rw [w0, po_mul_comm, po_mul_zL, Int.zero_emod]
          · rfl
        refine ⟨fun i => ?_, fun i _ => by rw [mz]⟩
        rw [mz, w0, po_mul_comm, po_mul_zL]; simp
  obtain ⟨dU, zU⟩ := dq U nw hnw a13
  obtain ⟨dV, zV⟩ := dq V nu hnu a14
  have eS := fd_sub_eq (f := S) dU
  have eT := fd_sub_eq (f := T) dV
  obtain ⟨x, hx⟩ := po_eq_ex a9
  obtain ⟨y, hy⟩ := po_eq_ex a10
  obtain ⟨z, hz⟩ := po_eq_ex he
  obtain ⟨c, hc⟩ := po_eq_ex eS
  obtain ⟨d, hd⟩ := po_eq_ex eT
  refine ⟨a2, hr, a4, fun i => li_emod (by omega), a6, fun i => li_emod (by omega), hD, hD', a10, po_ex_eq (@ga_bz po_P po_ring _ _ _ _ _ _ _ _ _ _ _ _ _ _ _ _ _ _ hx hy hz hc hd), po_cb_t c1 (po_cb_l _ _ _) a11, po_cb_t c1 (po_cb_l _ _ _) a12, fun i hi => ?_, fun i hi => ?_, fun i hi => a13 i (by omega), fun i hi => a14 i (by omega), fun D3 h3 h4 => ?_⟩
  · dsimp only; rw [s1 i hi, zU i hi, Int.sub_zero, Int.zero_emod]
  · dsimp only; rw [s2 i hi, zV i hi, Int.sub_zero, Int.zero_emod]
  · have d3 : D3 ≤ D1 := by
      have l3 : D3 < D2 := Classical.byContradiction (fun z => h3 (hr0 D3 (by omega)))
      by_cases z : D1 < D2
      · have q0 : q = fun _ => 0 := funext (qz z)
        refine Classical.byContradiction (fun y => h3 (fd_rd_0 r hr ?_))
        have e := he D3
        rw [show po_add (po_mul q B) r D3 = r D3 by show po_mul q B D3 + r D3 = r D3; rw [q0, po_mul_zL]; omega, a8 D3 (by omega)] at e
        have := Int.dvd_neg.mpr e
        rwa [show -(0 - r D3) = r D3 by omega] at this
      · omega
    exact ⟨fun i hi => a13 i (by omega), fun i hi => a14 i (by omega)⟩
section
variable {fc lc dc : Int32} {mo pr : Int64} {a2 : Nat → Int32} {a3 : Nat → Int64} {a4 a5 a6 : Nat → Int32}
theorem fd_bz57 {post : St1 → Prop} {p : Int} {u w : po_P} {nu nw : Nat} {a0 : Nat → Int64} (hmo : mo.toInt = p) (hpr : pr.toInt = p) (hp : po_prime p) (hp2 : p ≤ 2147483648) (hnu : nu ≤ 5) (hnw : nw ≤ 5) (hcop : po_cb p u w (po_C 1))
    (H : ∀ a' s t, bz_fr a0 a' → fd_r a' 17 = s → fd_r a' 18 = t → fd_rd p s → fd_rd p t → (∀ i, nw < i → s i = 0) → (∀ i, nu < i → t i = 0) → po_eq p (po_add (po_mul s u) (po_mul t w)) (po_C 1) → post (fc, mo, pr, lc, dc, a', a2, a3, a4, a5, a6)) :
    ∀ (N : Nat) (a : Nat → Int64) (D1 : Nat), bz_fr a0 a → (∀ i, N ≤ i → fd_r a 7 i = 0) → bz_I p u w nu nw (fd_r a 6) (fd_r a 7) (fd_r a 17) (fd_r a 20) (fd_r a 18) (fd_r a 21) D1 → wX_findBezout_57 post (N + 1) fc mo pr lc dc a a2 a3 a4 a5 a6 := by
  intro N
  have hp1 := hp.1
  have np : ¬ p ∣ 1 := fun z => by have := Int.le_of_dvd (by omega) z; omega
  have fin : ∀ (a : Nat → Int64) (D1 : Nat), bz_fr a0 a → (∀ i, fd_r a 7 i = 0) → bz_I p u w nu nw (fd_r a 6) (fd_r a 7) (fd_r a 17) (fd_r a 20) (fd_r a 18) (fd_r a 21) D1 → wpX_leadOf (fun r_151 => (wpX_inverse (fun r_152 => (wpX_scale (fun u => match u with | (f0_factorCount_154, f0_modulus_155, f0_prime_156, f0_liftCount_157, f0_degreeCount_158, am1281_161, am1282_164, am1283_167, am1284_170, am1285_173, am1286_176) => (wpX_scale (fun u => match u with | (f0_factorCount_178, f0_modulus_179, f0_prime_180, f0_liftCount_181, f0_degreeCount_182, am1361_185, am1362_188, am1363_191, am1364_194, am1365_197, am1366_200) => (post (f0_factorCount_178, f0_modulus_179, f0_prime_180, f0_liftCount_181, f0_degreeCount_182, am1361_185, am1362_188, am1363_191, am1364_194, am1365_197, am1366_200))) (f0_factorCount_154, f0_modulus_155, f0_prime_156, f0_liftCount_157, f0_degreeCount_158, am1281_161, am1282_164, am1283_167, am1284_170, am1285_173, am1286_176) 18 r_152)) (fc, mo, pr, lc, dc, a, a2, a3, a4, a5, a6) 17 r_152)) (fc, mo, pr, lc, dc, a, a2, a3, a4, a5, a6) r_151)) (fc, mo, pr, lc, dc, a, a2, a3, a4, a5, a6) 6 := by
    intro a D1 hfr h7 hI
    obtain ⟨b1, b2, b3, b4, b5, b6, b7, b8, b9, b10, b11, b12, b13, b14, b15, b16, b17⟩ := hI
    have dA : ∀ f, po_cb p (fd_r a 6) (fd_r a 7) f → po_dv p (fd_r a 6) f := fun f hf => po_dv_cb (po_dv_r _ _) (po_dv_0 p _ (fun j => by rw [h7 j]; exact Int.dvd_zero p)) hf
    have d1 : po_dv p (fd_r a 6) (po_C 1) := po_dv_cb (dA u b11) (dA w b12) hcop
    -- so row 6 is a number
    have D0 : D1 = 0 := by
      refine Classical.byContradiction (fun z => np ?_)
      obtain ⟨q, ⟨dq, hdq⟩, hq⟩ := d1
      have hq' : po_eq p (po_C 1) (po_mul q (fd_r a 6)) := po_eq_t hq (po_eq_e (by funext i; exact po_mul_comm _ _ i))
      have dom := po_prime_dom hp
      have qz := po_quot (m := p) (A := po_C 1) (B := fd_r a 6) (e := D1) (D := 0) (fun i hi => by rw [b8 i (by omega)]; exact Int.dvd_zero p) (fun x hx => (dom.2 _ _ hx).elim id (fun y => absurd (fd_rd_0 _ b1 y) b7)) (fun i hi => by simp only [po_C]; rw [if_neg (by omega)]; exact Int.dvd_zero p) dq q hdq hq'
      have := (po_eq_i hq' 0).mpr (po_mul_dv 0 q (fun j => qz j (by omega)))
      rwa [show po_C 1 0 = 1 from rfl] at this
    subst D0
    refine fd_leadOf (s := 6) (by omega) (fun h0 => absurd (h0 0) b7) (fun d x hd hx h1 h2 => ?_)
    have d0 : d = 0 := Classical.byContradiction (fun z => h1 (b8 d (by omega)))
    subst d0
    obtain ⟨l1, l2⟩ := b1 0
    refine fd_inverse (p := p) hpr hp (by omega) (by rw [hx]; exact l1) (fun z => b7 (fd_rd_0 _ b1 (by rw [← hx]; exact z))) (fun b c1 c2 c3 => ?_)
    rw [hx] at c3
    have mmb : ∀ f : po_P, fd_rd p f → ∀ i, -9223372036854775808 ≤ f i * b.toInt ∧ f i * b.toInt < 9223372036854775808 := fun f hf i => by
      obtain ⟨z1, z2⟩ := hf i
      have := li_mm z1 (show 0 ≤ b.toInt by omega) z2 c2 hp2
      exact ⟨by omega, this.2⟩
    refine fd_scale (t := 17) (by omega) (by omega) (mmb _ b3) (fun e1 h3 => ?_)
    dsimp only
    have e18 : fd_r e1 18 = fd_r a 18 := by rw [h3, fd_u_n (by omega)]
    refine fd_scale (t := 18) (by omega) (by omega) (by rw [e18]; exact mmb _ b5) (fun e2 h4 => ?_)
    rw [e18] at h4
    rw [hmo] at h3 h4
    have f1 : po_eq p (fun i => fd_r a 17 i * b.toInt % p) (po_mul (fd_r a 17) (po_C b.toInt)) := fun i => by
      rw [po_mul_comm, po_mul_C, Int.mul_comm]; exact fd_em_eq p (fun i => fd_r a 17 i * b.toInt) i
    have f2 : po_eq p (fun i => fd_r a 18 i * b.toInt % p) (po_mul (fd_r a 18) (po_C b.toInt)) := fun i => by
      rw [po_mul_comm, po_mul_C, Int.mul_comm]; exact fd_em_eq p (fun i => fd_r a 18 i * b.toInt) i
    refine H e2 _ _ (fun s s6 s7 s8 s9 s10 s17 s18 s20 s21 s25 => ?_) (by rw [h4, fd_u_n (by omega), h3, fd_u_s]) (by rw [h4, fd_u_s]) (fun i => li_emod (by omega)) (fun i => li_emod (by omega)) (fun i hi => by rw [b15 i hi, Int.zero_mul, Int.zero_emod]) (fun i hi => by rw [b16 i hi, Int.zero_mul, Int.zero_emod]) ?_
    · rw [h4, fd_u_n s18, h3, fd_u_n s17]; exact hfr s s6 s7 s8 s9 s10 s17 s18 s20 s21 s25
    · obtain ⟨x1, k1⟩ := po_eq_ex f1
      obtain ⟨x2, k2⟩ := po_eq_ex f2
      obtain ⟨x3, k3⟩ := po_eq_ex b9
      have A0 : po_eq p (po_mul (po_C b.toInt) (fd_r a 6)) (po_C 1) := fun i => by
        rw [po_mul_C]
        by_cases e : i = 0
        · rw [e]; exact c3
        · rw [b8 i (by omega), Int.mul_zero]; simp [po_C, e]
      obtain ⟨x4, k4⟩ := po_eq_ex A0
      exact po_ex_eq (@ga_bzf po_P po_ring _ _ _ _ _ _ _ _ _ _ _ _ _ _ k1 k2 k3 k4)
  induction N with
  | zero =>
    intro a D1 hfr h7 hI
    refine fd_degreeOf (s := 7) (by omega) (fun h0 => br_t (by decide) (fin a D1 hfr h0 hI)) (fun d hd h1 h2 => absurd (h7 d (by omega)) h1)
  | succ N ih =>
    intro a D1 hfr h7 hI
    refine fd_degreeOf (s := 7) (by omega) (fun h0 => br_t (by decide) (fin a D1 hfr h0 hI)) (fun d hd h1 h2 => br_f (nI_pos (by omega)) ?_)
    have hI0 := hI
    obtain ⟨b1, b2, b3, b4, b5, b6, b7, b8, b9, b10, b11, b12, b13, b14, b15, b16, b17⟩ := hI0
    refine fd_divideModulo (x := 6) (y := 7) (e := d) (p := p) (by omega) (by omega) (by omega) (by omega) hmo hpr hp hp2 b1 b2 h1 h2 (fun e1 q r k1 hq hr heq hr0 hq0 => ?_)
    dsimp only
    have D12 : D1 < 12 := Classical.byContradiction (fun z => b7 (fd_r_12 a 6 D1 (by omega)))
    have hs := bz_step hp1 hnu hnw hI h1 h2 hq hr heq hr0 (hq0 D1 b8) D12
    have g7 : fd_r e1 7 = fd_r a 7 := by rw [k1, fd_u_n (by omega), fd_u_n (by omega)]
    refine fd_copy (t := 6) (f := 7) (by omega) (by omega) (fun e2 k2 => ?_)
    dsimp only
    rw [g7] at k2
    have g10 : fd_r e2 10 = r := by rw [k2, fd_u_n (by omega), k1, fd_u_n (by omega), fd_u_s]
    refine fd_copy (t := 7) (f := 10) (by omega) (by omega) (fun e3 k3 => ?_)
    dsimp only
    rw [g10] at k3
    have r3 : ∀ s, s ≠ 6 → s ≠ 7 → s ≠ 9 → s ≠ 10 → fd_r e3 s = fd_r a s := fun s s6 s7 s9 s10 => by rw [k3, fd_u_n s7, k2, fd_u_n s6, k1, fd_u_n s9, fd_u_n s10]
    have r39 : fd_r e3 9 = q := by rw [k3, fd_u_n (by omega), k2, fd_u_n (by omega), k1, fd_u_s]
    have r317 := r3 17 (by omega) (by omega) (by omega) (by omega)
    have r320 := r3 20 (by omega) (by omega) (by omega) (by omega)
    have r318 := r3 18 (by omega) (by omega) (by omega) (by omega)
    have r321 := r3 21 (by omega) (by omega) (by omega) (by omega)
    refine fd_stepBack (bf := 17) (nw := 20) (p := p) (by omega) (by omega) (by omega) (by omega) (by omega) (by omega) (by omega) (by omega) hp2 hmo (by rw [r39]; exact hq) (by rw [r317]; exact b3) (by rw [r320]; exact b4) (fun e4 k4 => ?_)
    dsimp only
    rw [r39, r317, r320] at k4
    have r49 : fd_r e4 9 = q := by rw [k4, fd_u_n (by omega), fd_u_n (by omega), fd_u_n (by omega), fd_u_n (by omega), r39]
    have r418 : fd_r e4 18 = fd_r a 18 := by rw [k4, fd_u_n (by omega), fd_u_n (by omega), fd_u_n (by omega), fd_u_n (by omega), r318]
    have r421 : fd_r e4 21 = fd_r a 21 := by rw [k4, fd_u_n (by omega), fd_u_n (by omega), fd_u_n (by omega), fd_u_n (by omega), r321]
    refine fd_stepBack (bf := 18) (nw := 21) (p := p) (by omega) (by omega) (by omega) (by omega) (by omega) (by omega) (by omega) (by omega) hp2 hmo (by rw [r49]; exact hq) (by rw [r418]; exact b5) (by rw [r421]; exact b6) (fun e5 k5 => ?_)
    dsimp only
    rw [r49, r418, r421] at k5
    have dN : d ≤ N := Classical.byContradiction (fun z => h1 (h7 d (by omega)))
    have z6 : fd_r e5 6 = fd_r a 7 := by
      rw [k5, fd_u_n (by omega), fd_u_n (by omega), fd_u_n (by omega), fd_u_n (by omega), k4, fd_u_n (by omega), fd_u_n (by omega), fd_u_n (by omega), fd_u_n (by omega), k3, fd_u_n (by omega), k2, fd_u_s]
    have z7 : fd_r e5 7 = r := by
      rw [k5, fd_u_n (by omega), fd_u_n (by omega), fd_u_n (by omega), fd_u_n (by omega), k4, fd_u_n (by omega), fd_u_n (by omega), fd_u_n (by omega), fd_u_n (by omega), k3, fd_u_s]
    have z17 : fd_r e5 17 = fd_r a 20 := by
      rw [k5, fd_u_n (by omega), fd_u_n (by omega), fd_u_n (by omega), fd_u_n (by omega), k4, fd_u_n (by omega), fd_u_s]
    have z20 : fd_r e5 20 = fun i => (fd_r a 17 i - fd_mm p q (fd_r a 20) i) % p := by
      rw [k5, fd_u_n (by omega), fd_u_n (by omega), fd_u_n (by omega), fd_u_n (by omega), k4, fd_u_s]
    have z18 : fd_r e5 18 = fd_r a 21 := by rw [k5, fd_u_n (by omega), fd_u_s]
    have z21 : fd_r e5 21 = fun i => (fd_r a 18 i - fd_mm p q (fd_r a 21) i) % p := by rw [k5, fd_u_s]
    refine ih e5 d (fun s s6 s7 s8 s9 s10 s17 s18 s20 s21 s25 => ?_) (fun i hi => by rw [z7]; exact hr0 i (by omega)) (by rw [z6, z7, z17, z20, z18, z21]; exact hs)
    rw [k5, fd_u_n s21, fd_u_n s18, fd_u_n s8, fd_u_n s25, k4, fd_u_n s20, fd_u_n s17, fd_u_n s8, fd_u_n s25, r3 s s6 s7 s9 s10]
    exact hfr s s6 s7 s8 s9 s10 s17 s18 s20 s21 s25
theorem fd_findBezout {post : St1 → Prop} {a : Nat → Int64} {ur : Nat} {p : Int} {nu nw : Nat} (hur : ur < 16) (hur2 : 11 ≤ ur) (hmo : mo.toInt = p) (hpr : pr.toInt = p) (hp : po_prime p) (hp2 : p ≤ 2147483648) (hnu : nu ≤ 5) (hnw : nw ≤ 5) (hu : fd_rd p (fd_r a ur)) (hw : fd_rd p (fd_r a 16)) (u1 : fd_r a ur nu ≠ 0) (u2 : ∀ i, nu < i → fd_r a ur i = 0) (w1 : fd_r a 16 nw ≠ 0) (w2 : ∀ i, nw < i → fd_r a 16 i = 0) (hcop : po_cb p (fd_r a ur) (fd_r a 16) (po_C 1))
    (H : ∀ a' s t, bz_fr a a' → fd_r a' 17 = s → fd_r a' 18 = t → fd_rd p s → fd_rd p t → (∀ i, nw < i → s i = 0) → (∀ i, nu < i → t i = 0) → po_eq p (po_add (po_mul s (fd_r a ur)) (po_mul t (fd_r a 16))) (po_C 1) → post (fc, mo, pr, lc, dc, a', a2, a3, a4, a5, a6)) :
    wpX_findBezout post (fc, mo, pr, lc, dc, a, a2, a3, a4, a5, a6) (nI ur) := by
  have hp1 := hp.1
  unfold wpX_findBezout
  dsimp only
  refine fd_copy (t := 6) (by omega) (by omega) (fun b1 h1 => ?_)
  dsimp only
  refine fd_copy (t := 7) (f := 16) (by omega) (by omega) (fun b2 h2 => ?_)
  dsimp only
  refine fd_clear (t := 17) (by omega) (fun b3 h3 => ?_)
  dsimp only
  refine fd_clear (t := 20) (by omega) (fun b4 h4 => ?_)
  dsimp only
  refine fd_clear (t := 18) (by omega) (fun b5 h5 => ?_)
  dsimp only
  refine fd_clear (t := 21) (by omega) (fun b6 h6 => ?_)
  dsimp only
  refine nm_e (nm_e ?_)
  have e1 : fd_r (vp_updL b6 204 1) = fd_u (fd_r b6) 17 (po_C 1) := by
    rw [show (204 : Nat) = 12 * 17 + 0 from rfl, fd_upd (by omega)]
    congr 1
    have : fd_r b6 17 = fun _ => 0 := by rw [h6, fd_u_n (by omega), h5, fd_u_n (by omega), h4, fd_u_n (by omega), h3, fd_u_s]
    rw [this]; rfl
  have e2 : fd_r (vp_updL (vp_updL b6 204 1) 252 1) = fd_u (fd_u (fd_r b6) 17 (po_C 1)) 21 (po_C 1) := by
    rw [show (252 : Nat) = 12 * 21 + 0 from rfl, fd_upd (by omega), e1]
    congr 1
    have : fd_u (fd_r b6) 17 (po_C 1) 21 = fun _ => 0 := by rw [fd_u_n (by omega), h6, fd_u_s]
    rw [this]; rfl
  generalize vp_updL (vp_updL b6 204 1) 252 1 = c at *
  have o : ∀ s, s ≠ 6 → s ≠ 7 → s ≠ 17 → s ≠ 18 → s ≠ 20 → s ≠ 21 → fd_r c s = fd_r a s := fun s s6 s7 s17 s18 s20 s21 => by
    rw [e2, fd_u_n s21, fd_u_n s17, h6, fd_u_n s21, h5, fd_u_n s18, h4, fd_u_n s20, h3, fd_u_n s17, h2, fd_u_n s7, h1, fd_u_n s6]
  have c6 : fd_r c 6 = fd_r a ur := by rw [e2, fd_u_n (by omega), fd_u_n (by omega), h6, fd_u_n (by omega), h5, fd_u_n (by omega), h4, fd_u_n (by omega), h3, fd_u_n (by omega), h2, fd_u_n (by omega), h1, fd_u_s]
  have c7 : fd_r c 7 = fd_r a 16 := by rw [e2, fd_u_n (by omega), fd_u_n (by omega), h6, fd_u_n (by omega), h5, fd_u_n (by omega), h4, fd_u_n (by omega), h3, fd_u_n (by omega), h2, fd_u_s, h1, fd_u_n (by omega)]
  have c17 : fd_r c 17 = po_C 1 := by rw [e2, fd_u_n (by omega), fd_u_s]
  have c21 : fd_r c 21 = po_C 1 := by rw [e2, fd_u_s]
  have c20 : fd_r c 20 = fun _ => 0 := by rw [e2, fd_u_n (by omega), fd_u_n (by omega), h6, fd_u_n (by omega), h5, fd_u_n (by omega), h4, fd_u_s]
  have c18 : fd_r c 18 = fun _ => 0 := by rw [e2, fd_u_n (by omega), fd_u_n (by omega), h6, fd_u_n (by omega), h5, fd_u_s]
  have r1 : fd_rd p (po_C 1) := fun i => by simp only [po_C]; split <;> omega
  have r0 : fd_rd p (fun _ => 0) := fun i => ⟨Int.le_refl 0, by show (0 : Int) < p; omega⟩
  refine ⟨13, fd_bz57 (a0 := a) (nu := nu) (nw := nw) hmo hpr hp hp2 hnu hnw hcop H 12 c nu (fun s s6 s7 s8 s9 s10 s17 s18 s20 s21 s25 => o s s6 s7 s17 s18 s20 s21) (fun i hi => fd_r_12 c 7 i hi) ?_⟩
  rw [c6, c7, c17, c18, c20, c21]
  refine ⟨hu, hw, r1, r0, r0, r1, u1, u2, po_eq_e ?_, po_eq_e ?_, po_cb_l _ _ _, po_cb_r _ _ _, fun _ _ => rfl, fun i hi => ?_, fun i hi => ?_, fun _ _ => rfl, fun D2 d1 d2 => ⟨fun i hi => ?_, fun _ _ => rfl⟩⟩
  · funext i; show _ = po_mul _ _ i + po_mul _ _ i; rw [po_mul_C, po_mul_zL]; omega
  · funext i; show _ = po_mul _ _ i + po_mul _ _ i; rw [po_mul_C, po_mul_zL]; omega
  · simp only [po_C]; rw [if_neg (by omega)]
  · simp only [po_C]; rw [if_neg (by omega)]
  · have : D2 ≤ nw := Classical.byContradiction (fun z => d1 (w2 D2 (by omega)))
    have : nw ≤ D2 := Classical.byContradiction (fun z => w1 (d2 nw (by omega)))
    simp only [po_C]; rw [if_neg (by omega)]
end
end
section
/-! one step of lifting -/
theorem ga_hs {R : Type} [Lean.Grind.CommRing R] {p b c U C T F s t q r h u0 w0 x0 x1 x2 x3 x4 x5 o : R} (hb : b = p * c) (h0 : T = U * C + b * F + b * p * x0) (h1 : U = u0 + p * x1) (h2 : C = w0 + p * x2) (h3 : s * u0 + t * w0 = o + p * x3) (ho : o = 1) (h4 : t * F = q * u0 + r + p * x4) (h5 : h = q * w0 + s * F + p * x5) :
    (U + b * r) * (C + b * h) = T + b * p * (0 - x0 + F * x3 + u0 * x5 - w0 * x4 + x1 * h + x2 * r + c * r * h) := by
  have e : u0 * h + w0 * r = F + p * (F * x3 + u0 * x5 - w0 * x4) := by grind
  have e2 : (U + b * r) * (C + b * h) = U * C + b * (u0 * h + w0 * r) + b * p * (x1 * h + x2 * r) + b * b * (r * h) := by grind
  have e3 : b * b * (r * h) = b * p * (c * r * h) := by grind
  grind
theorem ga_hd {R : Type} [Lean.Grind.CommRing R] {p F s t q r h u0 w0 x3 x4 x5 o : R} (h3 : s * u0 + t * w0 = o + p * x3) (ho : o = 1) (h4 : t * F = q * u0 + r + p * x4) (h5 : h = q * w0 + s * F + p * x5) : F - w0 * r = h * u0 + p * (0 - F * x3 - u0 * x5 + w0 * x4) := by grind
theorem li_dps (P : Nat) {j : Nat} (hj : 1 ≤ j) : (P : Int) ∣ (P : Int) ^ j := by
  obtain ⟨k, rfl⟩ : ∃ k, j = k + 1 := ⟨j - 1, by omega⟩
  rw [Int.pow_succ]; exact Int.dvd_mul_left _ _
/-- lifted so far, to the j-th power of P -/
def hl_J (P j : Nat) (u0 w0 T : po_P) (nu nw : Nat) (ld : Int) (U C : po_P) : Prop :=
  (∀ i, 0 ≤ U i ∧ U i < (P : Int) ^ j) ∧ U nu = 1 ∧ (∀ i, nu < i → U i = 0) ∧ (∀ i, i ≠ nw → 0 ≤ C i ∧ C i < (P : Int) ^ j) ∧ C nw = ld ∧ (∀ i, nw < i → C i = 0) ∧ po_eq P U u0 ∧ po_eq P C w0 ∧ po_eq ((P : Int) ^ j) (po_mul U C) T
theorem hl_step {P j : Nat} {u0 w0 T : po_P} {nu nw : Nat} {ld : Int} {U C F s t q r h : po_P} (hP : 1 < P) (hj : 1 ≤ j) (hJ : hl_J P j u0 w0 T nu nw ld U C) (mu : po_mo P nu u0) (dw : po_dl P (nw + 1) w0) (fs : po_fin P s) (fq : po_fin P q) (hr : fd_rd P r) (hh : fd_rd P h) (hF0 : ∀ i, nu + nw ≤ i → F i = 0) (hr0 : ∀ i, nu ≤ i → r i = 0)
    (h0 : po_eq ((P : Int) ^ (j + 1)) T (po_add (po_mul U C) (po_mul (po_C ((P : Int) ^ j)) F))) (h3 : po_eq P (po_add (po_mul s u0) (po_mul t w0)) (po_C 1)) (h4 : po_eq P (po_mul t F) (po_add (po_mul q u0) r)) (h5 : po_eq P h (po_add (po_mul q w0) (po_mul s F))) :
    (∀ i, nw ≤ i → h i = 0) ∧ hl_J P (j + 1) u0 w0 T nu nw ld (fun i => U i + (P : Int) ^ j * r i) (fun i => C i + (P : Int) ^ j * h i) := by
  obtain ⟨j1, j2, j3, j4, j5, j6, j7, j8, j9⟩ := hJ
  have fF : po_fin P F := po_fin_0 hF0
  have ppos : (0 : Int) < (P : Int) ^ j := Int.pow_pos (by omega)
  have ps : (P : Int) ^ (j + 1) = (P : Int) ^ j * P := Int.pow_succ _ _
  obtain ⟨x3, e3⟩ := po_eq_ex h3
  obtain ⟨x4, e4⟩ := po_eq_ex h4
  obtain ⟨x5, e5⟩ := po_eq_ex h5
  -- the degree of h
  have eh : po_eq P (po_sub F (po_mul w0 r)) (po_mul h u0) := po_ex_eq (@ga_hd po_P po_ring _ _ _ _ _ _ _ _ _ _ _ _ (po_C 1) e3 rfl e4 e5)
  have dl0 : po_dl P (nu + nw) (po_sub F (po_mul w0 r)) := by
    intro i hi
    show (P : Int) ∣ F i - po_mul w0 r i
    rw [hF0 i hi]
    cases nu with
    | zero =>
      have : r = fun _ => 0 := funext (fun i => hr0 i (by omega))
      rw [this, po_mul_comm, po_mul_zL]; simp
    | succ k =>
      have := (po_dl_mul (m := P) (e := k) (g := r) (fun i hi => by rw [hr0 i (by omega)]; exact Int.dvd_zero _) nw w0 dw).1 i (by omega)
      rw [Int.zero_sub]; exact Int.dvd_neg.mpr this
  have hz : ∀ i, nw ≤ i → h i = 0 := by
    intro i hi
    refine fd_rd_0 h hh ?_
    obtain ⟨dh, hdh⟩ : po_fin P h := po_fin_eq (po_eq_s h5) (po_fin_add (po_fin_mul fq ⟨_, dw⟩) (po_fin_mul fs fF))
    by_cases z : nu + nw = 0
    · have this : ∀ i, (P : Int) ∣ po_mul h u0 i := fun k => (po_eq_i eh k).mp (dl0 k (by omega))
      have q := po_quot (m := P) (A := fun _ => 0) (B := u0) (e := nu) (D := 0) mu.1 (po_mo_unit mu) (fun i hi => Int.dvd_zero _) (dh + 1) h (po_dl_le (by omega) hdh) (fun k => by rw [Int.zero_sub]; exact Int.dvd_neg.mpr (this k))
      by_cases i0 : i = 0
      · subst i0
        have t := (this : ∀ i, (P : Int) ∣ po_mul h u0 i) 0
        have nu0 : nu = 0 := by omega
        subst nu0
        rw [po_mul_0] at t
        exact po_mo_unit mu _ t
      · exact q i (by omega)
    · exact po_quot (m := P) (A := po_sub F (po_mul w0 r)) (B := u0) (e := nu) (D := nu + nw - 1) mu.1 (po_mo_unit mu) (by rw [show nu + nw - 1 + 1 = nu + nw by omega]; exact dl0) dh h hdh eh i (by omega)
  refine ⟨hz, fun i => ?_, ?_, fun i hi => ?_, fun i hi => ?_, ?_, fun i hi => ?_, ?_, ?_, ?_⟩
  · have a := j1 i
    have b := hr i
    have b1 : (P : Int) ^ j * r i ≤ (P : Int) ^ j * (P - 1) := Int.mul_le_mul_of_nonneg_left (by omega) (by omega)
    have b2 : 0 ≤ (P : Int) ^ j * r i := Int.mul_nonneg (by omega) b.1
    have b3 : (P : Int) ^ j * (P - 1) = (P : Int) ^ j * P - (P : Int) ^ j := by grind
    dsimp only; rw [ps]; constructor <;> omega
  · show U nu + _ * r nu = 1
    rw [j2, hr0 nu (Nat.le_refl nu), Int.mul_zero]; rfl
  · show U i + _ * r i = 0
    rw [j3 i hi, hr0 i (by omega), Int.mul_zero]; rfl
  · have a := j4 i hi
    have b := hh i
    have b1 : (P : Int) ^ j * h i ≤ (P : Int) ^ j * (P - 1) := Int.mul_le_mul_of_nonneg_left (by omega) (by omega)
    have b2 : 0 ≤ (P : Int) ^ j * h i := Int.mul_nonneg (by omega) b.1
    have b3 : (P : Int) ^ j * (P - 1) = (P : Int) ^ j * P - (P : Int) ^ j := by grind
    dsimp only; rw [ps]; constructor <;> omega
  · show C nw + _ * h nw = ld
    rw [j5, hz nw (Nat.le_refl nw), Int.mul_zero]; omega
  · show C i + _ * h i = 0
    rw [j6 i hi, hz i (by omega), Int.mul_zero]; rfl
  · have dp : (P : Int) ∣ (P : Int) ^ j := li_dps P hj
    refine po_eq_t (fun i => ?_) j7
    rw [show U i + (P : Int) ^ j * r i - U i = (P : Int) ^ j * r i by omega]
    exact Int.dvd_mul_of_dvd_left dp
  · have dp : (P : Int) ∣ (P : Int) ^ j := li_dps P hj
    refine po_eq_t (fun i => ?_) j8
    rw [show C i + (P : Int) ^ j * h i - C i = (P : Int) ^ j * h i by omega]
    exact Int.dvd_mul_of_dvd_left dp
  · obtain ⟨k, rfl⟩ : ∃ k, j = k + 1 := ⟨j - 1, by omega⟩
    obtain ⟨x1, e1⟩ := po_eq_ex j7
    obtain ⟨x2, e2⟩ := po_eq_ex j8
    obtain ⟨x0, e0⟩ := po_eq_ex h0
    have cb : po_C ((P : Int) ^ (k + 1)) = po_mul (po_C P) (po_C ((P : Int) ^ k)) := by rw [← po_C_mul, Int.pow_succ, Int.mul_comm]
    have cb2 : po_C ((P : Int) ^ (k + 1 + 1)) = po_mul (po_C ((P : Int) ^ (k + 1))) (po_C P) := by rw [← po_C_mul, Int.pow_succ]
    rw [cb2] at e0
    have g := @ga_hs po_P po_ring (po_C P) (po_C ((P : Int) ^ (k + 1))) (po_C ((P : Int) ^ k)) U C T F s t q r h u0 w0 x0 x1 x2 x3 x4 x5 (po_C 1) cb e0 e1 e2 e3 rfl e4 e5
    have gU : (fun i => U i + (P : Int) ^ (k + 1) * r i) = po_add U (po_mul (po_C ((P : Int) ^ (k + 1))) r) := by
      funext i; show _ = U i + po_mul _ _ i; rw [po_mul_C]
    have gC : (fun i => C i + (P : Int) ^ (k + 1) * h i) = po_add C (po_mul (po_C ((P : Int) ^ (k + 1))) h) := by
      funext i; show _ = C i + po_mul _ _ i; rw [po_mul_C]
    rw [gU, gC]
    refine po_ex_eq (c := ?_) ?_
    rotate_left
    · rw [cb2]; exact g
end
section
/-! shareOut -/
theorem fd_em_0 {m : Int} {f : po_P} {i : Nat} (h : f i = 0) : fd_em m f i = 0 := by
  show f i % m = 0
  rw [h, Int.zero_emod]
section
variable {fc lc dc : Int32} {mo pr : Int64} {a : Nat → Int64} {a2 : Nat → Int32} {a3 : Nat → Int64} {a4 a5 a6 : Nat → Int32}
theorem fd_so76 {post : St1 → Prop} {ur : Nat} {pw : Int64} {w P : Int} (hur : ur < 16) (hur2 : 11 ≤ ur) (hP : 1 < P) (hP2 : P < 1000) (hmo : mo.toInt = P) (hpw : pw.toInt = w) (w1 : 0 ≤ w) (w2 : w * P ≤ 2147483648) (hU : ∀ i, 0 ≤ fd_r a ur i ∧ fd_r a ur i < 2147483648) (hC : ∀ i, 0 ≤ fd_r a 16 i ∧ fd_r a 16 i < 2147483648) (h20 : fd_rd P (fd_r a 20)) (h21 : fd_rd P (fd_r a 21)) (h19 : fd_rd P (fd_r a 19))
    (H : ∀ a', fd_r a' = fd_u (fd_u (fd_r a) ur (fun i => fd_r a ur i + w * fd_r a 20 i)) 16 (fun i => fd_r a 16 i + w * ((fd_r a 21 i + fd_r a 19 i) % P)) → post (fc, mo, pr, lc, dc, a', a2, a3, a4, a5, a6)) :
    ∃ n, wX_shareOut_76 post (nI ur) pw fc mo pr lc dc n 0 a a2 a3 a4 a5 a6 := by
  refine pk_loop (fun n i s => wX_shareOut_76 post (nI ur) pw fc mo pr lc dc n (nI i) s a2 a3 a4 a5 a6) (fun i s => fd_r s = fd_u (fd_u (fd_r a) ur (fd_mix i (fun i => fd_r a ur i + w * fd_r a 20 i) (fd_r a ur))) 16 (fd_mix i (fun i => fd_r a 16 i + w * ((fd_r a 21 i + fd_r a 19 i) % P)) (fd_r a 16))) 12 0 a (by omega) ?_
    (fun n s h => pk_le 12 12 (fun _ => H s ?_) (fun z => absurd z (by omega)))
    (fun n i s hi h hw => pk_le 12 i (fun z => absurd z (by omega)) (fun _ => ?_))
  · rw [fd_mix_0, fd_mix_0, fd_u_id, fd_u_id]
  · rw [h, fd_mix_e (fun i hi => by rw [fd_r_12 a ur i hi, fd_r_12 a 20 i hi, Int.mul_zero]; rfl), fd_mix_e (fun i hi => by rw [fd_r_12 a 16 i hi, fd_r_12 a 21 i hi, fd_r_12 a 19 i hi]; simp)]
  · have e20 : (240 + nI i : Int32) = nI (12 * 20 + i) := by rw [show (240 : Int32) = nI 240 from rfl, nI_add]
    have e16 : (192 + nI i : Int32) = nI (12 * 16 + i) := by rw [show (192 : Int32) = nI 192 from rfl, nI_add]
    have e21 : (252 + nI i : Int32) = nI (12 * 21 + i) := by rw [show (252 : Int32) = nI 252 from rfl, nI_add]
    have e19 : (228 + nI i : Int32) = nI (12 * 19 + i) := by rw [show (228 : Int32) = nI 228 from rfl, nI_add]
    have gu : (s (12 * ur + i)).toInt = fd_r a ur i := by rw [← fd_r_i hi, h, fd_u_n (by omega), fd_u_s, fd_mix_i]
    have g20 : (s (12 * 20 + i)).toInt = fd_r a 20 i := by rw [← fd_r_i hi, h, fd_u_n (by omega), fd_u_n (by omega)]
    have b20 := h20 i
    have b21 := h21 i
    have b19 := h19 i
    have bu := hU i
    have bc := hC i
    have p1 : ∀ x, 0 ≤ x → x < P → 0 ≤ w * x ∧ w * x ≤ 2147483648 := fun x x1 x2 => by
      have : w * x ≤ w * P := Int.mul_le_mul_of_nonneg_left (by omega) w1
      exact ⟨Int.mul_nonneg w1 x1, by omega⟩
    have m20 := p1 _ b20.1 b20.2
    have em : (pw * s (12 * 20 + i)).toInt = w * fd_r a 20 i := by rw [li_mul (by rw [hpw, g20]; omega) (by rw [hpw, g20]; omega), hpw, g20]
    have ea : (s (12 * ur + i) + pw * s (12 * 20 + i)).toInt = fd_r a ur i + w * fd_r a 20 i := by rw [li_add (by rw [em, gu]; omega) (by rw [em, gu]; omega), em, gu]
    refine ⟨pk_in (12 * ur + i) 312 (by omega) (li_ix ur i), pk_in (12 * 20 + i) 312 (by omega) e20, pk_in (12 * ur + i) 312 (by omega) (li_ix ur i), ?_⟩
    rw [li_ix, e20, e16, e21, e19, nI_clamp (by omega), nI_clamp (by omega), nI_clamp (by omega), nI_clamp (by omega), nI_clamp (by omega)]
    have k1 : fd_r (vp_updL s (12 * ur + i) (s (12 * ur + i) + pw * s (12 * 20 + i))) = fd_u (fd_u (fd_r a) ur (fd_mix (i + 1) (fun i => fd_r a ur i + w * fd_r a 20 i) (fd_r a ur))) 16 (fd_mix i (fun i => fd_r a 16 i + w * ((fd_r a 21 i + fd_r a 19 i) % P)) (fd_r a 16)) := by
      rw [fd_upd hi, h, fd_u_n (show ur ≠ 16 by omega), fd_u_s, ea, fd_mix_s rfl, fd_u_c (show (16 : Nat) ≠ ur by omega), fd_u_u]
    generalize vp_updL s (12 * ur + i) (s (12 * ur + i) + pw * s (12 * 20 + i)) = v at *
    have g21 : (v (12 * 21 + i)).toInt = fd_r a 21 i := by rw [← fd_r_i hi, k1, fd_u_n (by omega), fd_u_n (by omega)]
    have g19 : (v (12 * 19 + i)).toInt = fd_r a 19 i := by rw [← fd_r_i hi, k1, fd_u_n (by omega), fd_u_n (by omega)]
    have g16 : (v (12 * 16 + i)).toInt = fd_r a 16 i := by rw [← fd_r_i hi, k1, fd_u_s, fd_mix_i]
    refine nm_e ⟨pk_in (12 * 16 + i) 312 (by omega) rfl, pk_in (12 * 21 + i) 312 (by omega) rfl, pk_in (12 * 19 + i) 312 (by omega) rfl, fd_rest (by omega) (fun r hr => ⟨pk_in (12 * 16 + i) 312 (by omega) rfl, nm_e (nm_r (nI_1 i) (hw _ ?_))⟩)⟩
    rw [li_add (by rw [g21, g19]; omega) (by rw [g21, g19]; omega), g21, g19, hmo] at hr
    have rl := li_emod (a := fd_r a 21 i + fd_r a 19 i) (show 0 < P by omega)
    have mr := p1 _ rl.1 rl.2
    have em2 : (pw * r).toInt = w * ((fd_r a 21 i + fd_r a 19 i) % P) := by rw [li_mul (by rw [hpw, hr]; omega) (by rw [hpw, hr]; omega), hpw, hr]
    have ea2 : (v (12 * 16 + i) + pw * r).toInt = fd_r a 16 i + w * ((fd_r a 21 i + fd_r a 19 i) % P) := by rw [li_add (by rw [em2, g16]; omega) (by rw [em2, g16]; omega), em2, g16]
    rw [fd_upd hi, k1, fd_u_s, fd_u_u, ea2, fd_mix_s rfl]
def so_fr (ur : Nat) (a a' : Nat → Int64) : Prop := ∀ s, s ≠ ur → s ≠ 6 → s ≠ 7 → s ≠ 9 → s ≠ 10 → s ≠ 16 → s ≠ 19 → s ≠ 20 → s ≠ 21 → s ≠ 25 → fd_r a' s = fd_r a s
theorem fd_shareOut {post : St1 → Prop} {ur nu nw : Nat} {pw : Int64} {w P : Int} (hur : ur < 16) (hur2 : 11 ≤ ur) (hp : po_prime P) (hP2 : P < 1000) (hmo : mo.toInt = P) (hpr : pr.toInt = P) (hpw : pw.toInt = w) (w1 : 0 ≤ w) (w2 : w * P ≤ 2147483648) (hnu : 1 ≤ nu) (hnw : 1 ≤ nw) (hnn : nu + nw ≤ 5)
    (hU : ∀ i, 0 ≤ fd_r a ur i ∧ fd_r a ur i < 2147483648) (U1 : fd_r a ur nu = 1) (U2 : ∀ i, nu < i → fd_r a ur i = 0) (hC : ∀ i, 0 ≤ fd_r a 16 i ∧ fd_r a 16 i < 2147483648) (C2 : ∀ i, nw < i → fd_r a 16 i = 0) (hs : fd_rd P (fd_r a 17)) (hs2 : ∀ i, nw < i → fd_r a 17 i = 0) (ht : fd_rd P (fd_r a 18)) (ht2 : ∀ i, nu < i → fd_r a 18 i = 0) (hF : fd_rd P (fd_r a 19)) (hF2 : ∀ i, nu + nw ≤ i → fd_r a 19 i = 0)
    (H : ∀ a' q r h, so_fr ur a a' → fd_r a' ur = (fun i => fd_r a ur i + w * r i) → fd_r a' 16 = (fun i => fd_r a 16 i + w * h i) → po_fin P q → fd_rd P r → fd_rd P h → (∀ i, nu ≤ i → r i = 0) → po_eq P (po_mul (fd_r a 18) (fd_r a 19)) (po_add (po_mul q (fd_r a ur)) r) → po_eq P h (po_add (po_mul q (fd_r a 16)) (po_mul (fd_r a 17) (fd_r a 19))) → post (fc, mo, pr, lc, dc, a', a2, a3, a4, a5, a6)) :
    wpX_shareOut post (fc, mo, pr, lc, dc, a, a2, a3, a4, a5, a6) (nI ur) pw := by
  have hp1 := hp.1
  have rdb : ∀ f : po_P, fd_rd P f → ∀ j, 0 ≤ f j ∧ f j < 2147483648 := fun f hf j => by have := hf j; omega
  unfold wpX_shareOut
  dsimp only
  refine fd_copy (t := 6) (by omega) (by omega) (fun b1 h1 => ?_)
  dsimp only
  refine fd_reduce (t := 6) (by omega) (by omega) (fun b2 h2 => ?_)
  dsimp only
  have e1 : fd_r b1 6 = fd_r a ur := by rw [h1, fd_u_s]
  rw [e1, hmo, h1, fd_u_u] at h2
  refine fd_copy (t := 7) (f := 16) (by omega) (by omega) (fun b3 h3 => ?_)
  dsimp only
  have e2 : fd_r b2 16 = fd_r a 16 := by rw [h2, fd_u_n (by omega)]
  rw [e2] at h3
  refine fd_reduce (t := 7) (by omega) (by omega) (fun b4 h4 => ?_)
  dsimp only
  have e3 : fd_r b3 7 = fd_r a 16 := by rw [h3, fd_u_s]
  rw [e3, hmo, h3, fd_u_u, h2] at h4
  have o4 : ∀ s, s ≠ 6 → s ≠ 7 → fd_r b4 s = fd_r a s := fun s s6 s7 => by rw [h4, fd_u_n s7, fd_u_n s6]
  have r46 : fd_r b4 6 = fd_em P (fd_r a ur) := by rw [h4, fd_u_n (by omega), fd_u_s]
  have r47 : fd_r b4 7 = fd_em P (fd_r a 16) := by rw [h4, fd_u_s]
  have r418 := o4 18 (by omega) (by omega)
  have r419 := o4 19 (by omega) (by omega)
  refine fd_multiplyModulo (t := 20) (x := 18) (y := 19) (m := P) (by omega) (by omega) (by omega) (by omega) (by omega) (by omega) (by omega) hmo (by rw [r418]; exact rdb _ ht) (by rw [r419]; exact rdb _ hF) (fun b5 h5 => ?_)
  dsimp only
  rw [r418, r419] at h5
  have o5 : ∀ s, s ≠ 20 → s ≠ 25 → fd_r b5 s = fd_r b4 s := fun s s20 s25 => by rw [h5, fd_u_n s20, fd_u_n s25]
  have r520 : fd_r b5 20 = fd_mm P (fd_r a 18) (fd_r a 19) := by rw [h5, fd_u_s]
  have r56 : fd_r b5 6 = fd_em P (fd_r a ur) := by rw [o5 6 (by omega) (by omega), r46]
  have em1 : fd_em P (fd_r a ur) nu = 1 := by show fd_r a ur nu % P = 1; rw [U1]; exact Int.emod_eq_of_lt (by omega) hp1
  have em2 : ∀ i, nu < i → fd_em P (fd_r a ur) i = 0 := fun i hi => fd_em_0 (U2 i hi)
  refine fd_divideModulo (x := 20) (y := 6) (e := nu) (p := P) (by omega) (by omega) (by omega) (by omega) hmo hpr hp (by omega) (by rw [r520]; exact fd_mm_rd (by omega) _ _) (by rw [r56]; exact fd_em_rd (by omega) _) (by rw [r56, em1]; omega) (by rw [r56]; exact em2) (fun b6 q r h6 hq hr heq hr0 hq0 => ?_)
  dsimp only
  rw [r520, r56] at heq
  rw [r520] at hq0
  have mm1 : po_eq P (fd_mm P (fd_r a 18) (fd_r a 19)) (po_mul (fd_r a 18) (fd_r a 19)) := fd_mm_eq (d := nu) (e := nu + nw - 1) ht2 (fun i hi => hF2 i (by omega)) (by omega)
  have mm0 : ∀ i, nu + (nu + nw - 1) < i → fd_mm P (fd_r a 18) (fd_r a 19) i = 0 := fd_mm_0 ht2 (fun i hi => hF2 i (by omega))
  have q0 : ∀ i, nu + nw - 1 < i → q i = 0 := fun i hi => hq0 _ mm0 i (by omega)
  have r610 : fd_r b6 10 = r := by rw [h6, fd_u_n (by omega), fd_u_s]
  refine fd_copy (t := 20) (f := 10) (by omega) (by omega) (fun b7 h7 => ?_)
  dsimp only
  rw [r610] at h7
  have o7 : ∀ s, s ≠ 9 → s ≠ 10 → s ≠ 20 → fd_r b7 s = fd_r b5 s := fun s s9 s10 s20 => by rw [h7, fd_u_n s20, h6, fd_u_n s9, fd_u_n s10]
  have r79 : fd_r b7 9 = q := by rw [h7, fd_u_n (by omega), h6, fd_u_s]
  have r77 : fd_r b7 7 = fd_em P (fd_r a 16) := by rw [o7 7 (by omega) (by omega) (by omega), o5 7 (by omega) (by omega), r47]
  refine fd_multiplyModulo (t := 21) (x := 9) (y := 7) (m := P) (by omega) (by omega) (by omega) (by omega) (by omega) (by omega) (by omega) hmo (by rw [r79]; exact rdb _ hq) (by rw [r77]; exact rdb _ (fd_em_rd (by omega) _)) (fun b8 h8 => ?_)
  dsimp only
  rw [r79, r77] at h8
  have o8 : ∀ s, s ≠ 21 → s ≠ 25 → fd_r b8 s = fd_r b7 s := fun s s21 s25 => by rw [h8, fd_u_n s21, fd_u_n s25]
  have r817 : fd_r b8 17 = fd_r a 17 := by rw [o8 17 (by omega) (by omega), o7 17 (by omega) (by omega) (by omega), o5 17 (by omega) (by omega), o4 17 (by omega) (by omega)]
  have r819 : fd_r b8 19 = fd_r a 19 := by rw [o8 19 (by omega) (by omega), o7 19 (by omega) (by omega) (by omega), o5 19 (by omega) (by omega), o4 19 (by omega) (by omega)]
  refine fd_multiplyModulo (t := 19) (x := 17) (y := 19) (m := P) (by omega) (by omega) (by omega) (by omega) (by omega) (by omega) (by omega) hmo (by rw [r817]; exact rdb _ hs) (by rw [r819]; exact rdb _ hF) (fun b9 h9 => ?_)
  dsimp only
  rw [r817, r819] at h9
  have o9 : ∀ s, s ≠ 19 → s ≠ 25 → fd_r b9 s = fd_r b8 s := fun s s19 s25 => by rw [h9, fd_u_n s19, fd_u_n s25]
  have all : ∀ s, s ≠ 6 → s ≠ 7 → s ≠ 9 → s ≠ 10 → s ≠ 19 → s ≠ 20 → s ≠ 21 → s ≠ 25 → fd_r b9 s = fd_r a s := fun s s6 s7 s9 s10 s19 s20 s21 s25 => by rw [o9 s s19 s25, o8 s s21 s25, o7 s s9 s10 s20, o5 s s20 s25, o4 s s6 s7]
  have z20 : fd_r b9 20 = r := by rw [o9 20 (by omega) (by omega), o8 20 (by omega) (by omega), h7, fd_u_s]
  have z21 : fd_r b9 21 = fd_mm P q (fd_em P (fd_r a 16)) := by rw [o9 21 (by omega) (by omega), h8, fd_u_s]
  have z19 : fd_r b9 19 = fd_mm P (fd_r a 17) (fd_r a 19) := by rw [h9, fd_u_s]
  have zu := all ur (by omega) (by omega) (by omega) (by omega) (by omega) (by omega) (by omega) (by omega)
  have z16 := all 16 (by omega) (by omega) (by omega) (by omega) (by omega) (by omega) (by omega) (by omega)
  refine fd_so76 (P := P) hur hur2 hp1 hP2 hmo hpw w1 w2 (by rw [zu]; exact hU) (by rw [z16]; exact hC) (by rw [z20]; exact hr) (by rw [z21]; exact fd_mm_rd (by omega) _ _) (by rw [z19]; exact fd_mm_rd (by omega) _ _) (fun a' ha' => ?_)
  rw [zu, z16, z20, z21, z19] at ha'
  refine H a' q r (fun i => (fd_mm P q (fd_em P (fd_r a 16)) i + fd_mm P (fd_r a 17) (fd_r a 19) i) % P) (fun s su s6 s7 s9 s10 s16 s19 s20 s21 s25 => ?_) (by rw [ha', fd_u_n (by omega), fd_u_s]) (by rw [ha', fd_u_s]) (po_fin_0 (n := nu + nw) (fun i hi => q0 i (by omega))) hr (fun i => li_emod (by omega)) hr0 ?_ ?_
  · rw [ha', fd_u_n s16, fd_u_n su]; exact all s s6 s7 s9 s10 s19 s20 s21 s25
  · refine po_eq_t (po_eq_s mm1) (po_eq_t heq (po_eq_add (po_eq_mul (po_eq_r _ _) (fd_em_eq P _)) (po_eq_r _ _)))
  · have f1 : po_eq P (fd_mm P q (fd_em P (fd_r a 16))) (po_mul q (fd_r a 16)) := po_eq_t (fd_mm_eq (d := nu + nw - 1) (e := nw) q0 (fun i hi => fd_em_0 (C2 i hi)) (by omega)) (po_eq_mul (po_eq_r _ _) (fd_em_eq P _))
    have f2 : po_eq P (fd_mm P (fd_r a 17) (fd_r a 19)) (po_mul (fd_r a 17) (fd_r a 19)) := fd_mm_eq (d := nw) (e := nu + nw - 1) hs2 (fun i hi => hF2 i (by omega)) (by omega)
    exact po_eq_t (fd_em_eq P (po_add (fd_mm P q (fd_em P (fd_r a 16))) (fd_mm P (fd_r a 17) (fd_r a 19)))) (po_eq_add f1 f2)
end
end
section
/-! liftPair -/
/-- what the product is wrong by, divided by the power reached -/
def hl_F (P j : Nat) (T U C : po_P) : po_P := fun i => (T i - fd_mm ((P : Int) ^ (j + 1)) U C i) % (P : Int) ^ (j + 1) / (P : Int) ^ j
theorem hl_F_ok {P j : Nat} {u0 w0 T : po_P} {nu nw : Nat} {ld : Int} {U C : po_P} (hP : 1 < P) (hnn : nu + nw < 12) (hJ : hl_J P j u0 w0 T nu nw ld U C) (T1 : T (nu + nw) = ld) (T2 : ∀ i, nu + nw < i → T i = 0) : fd_rd P (hl_F P j T U C) ∧ (∀ i, nu + nw ≤ i → hl_F P j T U C i = 0) ∧ po_eq ((P : Int) ^ (j + 1)) T (po_add (po_mul U C) (po_mul (po_C ((P : Int) ^ j)) (hl_F P j T U C))) := by
  obtain ⟨j1, j2, j3, j4, j5, j6, j7, j8, j9⟩ := hJ
  have q0 : (0 : Int) < (P : Int) ^ j := Int.pow_pos (by omega)
  have ps : (P : Int) ^ (j + 1) = (P : Int) ^ j * P := Int.pow_succ _ _
  have m0 : (0 : Int) < (P : Int) ^ (j + 1) := Int.pow_pos (by omega)
  have mm := fd_mm_eq (m := (P : Int) ^ (j + 1)) j3 j6 hnn
  have dq : (P : Int) ^ j ∣ (P : Int) ^ (j + 1) := ⟨P, ps⟩
  have key : ∀ i, (P : Int) ^ j * hl_F P j T U C i = (T i - fd_mm ((P : Int) ^ (j + 1)) U C i) % (P : Int) ^ (j + 1) := by
    intro i
    refine Int.mul_ediv_cancel' ?_
    have a1 : (P : Int) ^ j ∣ T i - po_mul U C i := by
      have := Int.dvd_neg.mpr (j9 i)
      rwa [Int.neg_sub] at this
    have a2 : (P : Int) ^ j ∣ fd_mm ((P : Int) ^ (j + 1)) U C i - po_mul U C i := Int.dvd_trans dq (mm i)
    have a3 : (P : Int) ^ j ∣ (T i - fd_mm ((P : Int) ^ (j + 1)) U C i) % (P : Int) ^ (j + 1) - (T i - fd_mm ((P : Int) ^ (j + 1)) U C i) := Int.dvd_trans dq (fd_em_eq _ (fun i => T i - fd_mm ((P : Int) ^ (j + 1)) U C i) i)
    have a4 := Int.dvd_add a3 (Int.dvd_sub a1 a2)
    rwa [show (T i - fd_mm ((P : Int) ^ (j + 1)) U C i) % (P : Int) ^ (j + 1) - (T i - fd_mm ((P : Int) ^ (j + 1)) U C i) + (T i - po_mul U C i - (fd_mm ((P : Int) ^ (j + 1)) U C i - po_mul U C i)) = (T i - fd_mm ((P : Int) ^ (j + 1)) U C i) % (P : Int) ^ (j + 1) by omega] at a4
  refine ⟨fun i => ?_, fun i hi => ?_, fun i => ?_⟩
  · have rl := li_emod (a := T i - fd_mm ((P : Int) ^ (j + 1)) U C i) m0
    refine ⟨Int.ediv_nonneg rl.1 (by omega), ?_⟩
    refine Int.ediv_lt_of_lt_mul q0 ?_
    rw [Int.mul_comm, ← ps]; exact rl.2
  · simp only [hl_F]
    have : (T i - fd_mm ((P : Int) ^ (j + 1)) U C i) % (P : Int) ^ (j + 1) = 0 := by
      by_cases e : i = nu + nw
      · subst e
        have d := (po_dl_mul (m := 0) (e := nw) (g := C) (fun i hi => by rw [j6 i (by omega)]; exact Int.dvd_zero _) nu U (fun i hi => by rw [j3 i (by omega)]; exact Int.dvd_zero _)).2
        have d' := Int.zero_dvd.mp d
        rw [j2, j5, Int.one_mul] at d'
        refine Int.emod_eq_zero_of_dvd ?_
        have := Int.dvd_neg.mpr (mm (nu + nw))
        rwa [Int.neg_sub, show po_mul U C (nu + nw) = T (nu + nw) by rw [T1]; omega] at this
      · rw [T2 i (by omega), fd_mm_0 j3 j6 i (by omega)]; simp
    rw [this]; exact Int.zero_ediv _
  · show _ ∣ T i - (po_mul U C i + po_mul _ _ i)
    rw [po_mul_C, key i]
    have b1 := fd_em_eq ((P : Int) ^ (j + 1)) (fun i => T i - fd_mm ((P : Int) ^ (j + 1)) U C i) i
    have b2 := Int.dvd_add (Int.dvd_neg.mpr b1) (mm i)
    rwa [show -(fd_em ((P : Int) ^ (j + 1)) (fun i => T i - fd_mm ((P : Int) ^ (j + 1)) U C i) i - (T i - fd_mm ((P : Int) ^ (j + 1)) U C i)) + (fd_mm ((P : Int) ^ (j + 1)) U C i - po_mul U C i) = T i - (po_mul U C i + (T i - fd_mm ((P : Int) ^ (j + 1)) U C i) % (P : Int) ^ (j + 1)) by simp only [fd_em]; omega] at b2
section
variable {fc lc dc : Int32} {mo pr : Int64} {a2 : Nat → Int32} {a3 : Nat → Int64} {a4 a5 a6 : Nat → Int32}
theorem fd_lp36 {post : St1 → Prop} {J : Int64 → Int32 → Int64 → Int64 → Int32 → Int32 → (Nat → Int64) → (Nat → Int32) → (Nat → Int64) → (Nat → Int32) → (Nat → Int32) → (Nat → Int32) → Prop} {a : Nat → Int64} {ur : Nat} {tp pw : Int64} {q m : Int} (hq : pw.toInt = q) (hq1 : 0 < q) (hm : mo.toInt = m) (hm1 : 0 < m) (hm2 : m ≤ 2147483648) (h19 : fd_rd m (fd_r a 19)) (h22 : ∀ i, -1000000000000000000 ≤ fd_r a 22 i ∧ fd_r a 22 i ≤ 1000000000000000000)
    (H : ∀ a', fd_r a' = fd_u (fd_r a) 19 (fun i => (fd_r a 22 i - fd_r a 19 i) % m / q) → wpX_shareOut (fun u => match u with | (f0_factorCount_29, f0_modulus_30, f0_prime_31, f0_liftCount_32, f0_degreeCount_33, am1021_36, am1022_39, am1023_42, am1024_45, am1025_48, am1026_51) => (∀ x4_52 : Int64, x4_52 = pw * f0_prime_31 → (J x4_52 f0_factorCount_29 f0_modulus_30 f0_prime_31 f0_liftCount_32 f0_degreeCount_33 am1021_36 am1022_39 am1023_42 am1024_45 am1025_48 am1026_51))) (fc, pr, pr, lc, dc, a', a2, a3, a4, a5, a6) (nI ur) pw) :
    ∃ n, wX_liftPair_36 post J (nI ur) tp pw fc mo pr lc dc n 0 a a2 a3 a4 a5 a6 := by
  refine pk_loop (fun n i s => wX_liftPair_36 post J (nI ur) tp pw fc mo pr lc dc n (nI i) s a2 a3 a4 a5 a6) (fun i s => fd_r s = fd_u (fd_r a) 19 (fd_mix i (fun i => (fd_r a 22 i - fd_r a 19 i) % m / q) (fd_r a 19))) 12 0 a (by omega) (by rw [fd_mix_0, fd_u_id])
    (fun n s h => pk_le 12 12 (fun _ => H s (fd_end (fd_r_12 a 19) (fun i hi => by rw [fd_r_12 a 22 i hi, fd_r_12 a 19 i hi]; simp) h)) (fun z => absurd z (by omega)))
    (fun n i s hi h hw => pk_le 12 i (fun z => absurd z (by omega)) (fun _ => ?_))
  have e22 : (264 + nI i : Int32) = nI (12 * 22 + i) := by rw [show (264 : Int32) = nI 264 from rfl, nI_add]
  have e19 : (228 + nI i : Int32) = nI (12 * 19 + i) := by rw [show (228 : Int32) = nI 228 from rfl, nI_add]
  have g22 := fd_get (q := 22) hi h
  have g19 := fd_get (q := 19) hi h
  have b1 := h22 i
  have b2 := h19 i
  have rl := li_emod (a := fd_r a 22 i - fd_r a 19 i) hm1
  refine ⟨pk_in (12 * 22 + i) 312 (by omega) e22, pk_in (12 * 19 + i) 312 (by omega) e19, ?_⟩
  rw [e22, e19, nI_clamp (by omega), nI_clamp (by omega)]
  refine fd_rest (by omega) (fun r hr => ⟨li_ne0.mpr (by omega), pk_in (12 * 19 + i) 312 (by omega) rfl, nm_e (nm_r (nI_1 i) (hw _ (fd_fill hi h ?_)))⟩)
  rw [li_sub (by rw [g22, g19]; omega) (by rw [g22, g19]; omega), g22, g19, hm] at hr
  rw [li_div (by omega), hr, hq, Int.tdiv_eq_ediv_of_nonneg rl.1]
theorem fd_liftPair {post : St1 → Prop} {a : Nat → Int64} {ur nu nw P k : Nat} {tp : Int64} {u0 w0 : po_P} {ld : Int} (hur : ur < 16) (hur2 : 11 ≤ ur) (hp : po_prime P) (hP2 : P < 1000) (hpr : pr.toInt = (P : Int)) (htp : tp.toInt = (P : Int) ^ k) (hk : 1 ≤ k) (htp2 : (P : Int) ^ k ≤ 2147483648) (hnu : 1 ≤ nu) (hnw : 1 ≤ nw) (hnn : nu + nw ≤ 5) (hld : 0 < ld) (hld2 : ld < 2147483648)
    (mu : po_mo P nu u0) (dw : po_dl P (nw + 1) w0) (hs : fd_rd P (fd_r a 17)) (hs2 : ∀ i, nw < i → fd_r a 17 i = 0) (ht : fd_rd P (fd_r a 18)) (ht2 : ∀ i, nu < i → fd_r a 18 i = 0) (hbz : po_eq P (po_add (po_mul (fd_r a 17) u0) (po_mul (fd_r a 18) w0)) (po_C 1)) (hT : ∀ i, -1000000000000000000 ≤ fd_r a 22 i ∧ fd_r a 22 i ≤ 1000000000000000000) (T1 : fd_r a 22 (nu + nw) = ld) (T2 : ∀ i, nu + nw < i → fd_r a 22 i = 0) (hJ : hl_J P 1 u0 w0 (fd_r a 22) nu nw ld (fd_r a ur) (fd_r a 16))
    (H : ∀ a', so_fr ur a a' → hl_J P k u0 w0 (fd_r a 22) nu nw ld (fd_r a' ur) (fd_r a' 16) → post (fc, tp, pr, lc, dc, a', a2, a3, a4, a5, a6)) :
    wpX_liftPair post (fc, mo, pr, lc, dc, a, a2, a3, a4, a5, a6) (nI ur) tp := by
  have hp1 := hp.1
  have main : ∀ (f j : Nat) (pw : Int64) (mo : Int64) (b : Nat → Int64), f + j = k + 1 → 1 ≤ j → j ≤ k → pw.toInt = (P : Int) ^ j → so_fr ur a b → hl_J P j u0 w0 (fd_r a 22) nu nw ld (fd_r b ur) (fd_r b 16) → wX_liftPair_6 post (nI ur) tp f pw fc mo pr lc dc b a2 a3 a4 a5 a6 := by
    intro f
    induction f with
    | zero => intro j pw mo b hf h1 h2; omega
    | succ f ih =>
      intro j pw mo b hf hj1 hjk hpw hfr hJb
      have q0 : (0 : Int) < (P : Int) ^ j := Int.pow_pos (by omega)
      have ps : (P : Int) ^ (j + 1) = (P : Int) ^ j * P := Int.pow_succ _ _
      by_cases e : j = k
      · subst e
        exact br_t (by rw [li_le, htp, hpw]; omega) (H b hfr hJb)
      · have le1 : (P : Int) ^ (j + 1) ≤ (P : Int) ^ k := by
          obtain ⟨d, hd⟩ : ∃ d, k = j + 1 + d := ⟨k - (j + 1), by omega⟩
          rw [hd, Int.pow_add (P : Int) (j + 1) d]
          have : (0 : Int) < (P : Int) ^ d := Int.pow_pos (by omega)
          have m1 : (0 : Int) < (P : Int) ^ (j + 1) := Int.pow_pos (by omega)
          have := Int.mul_le_mul_of_nonneg_left (show (1 : Int) ≤ (P : Int) ^ d by omega) (show (0 : Int) ≤ (P : Int) ^ (j + 1) by omega)
          omega
        have lt1 : (P : Int) ^ j < (P : Int) ^ k := by
          have : (P : Int) ^ j * 1 < (P : Int) ^ j * P := Int.mul_lt_mul_of_pos_left hp1 q0
          omega
        refine br_f (by rw [li_le, htp, hpw]; omega) (nm_e ?_)
        have m0 : (0 : Int) < (P : Int) ^ (j + 1) := Int.pow_pos (by omega)
        have m2 : (pw * pr).toInt = (P : Int) ^ (j + 1) := by rw [li_mul (by rw [hpw, hpr, ← ps]; omega) (by rw [hpw, hpr, ← ps]; omega), hpw, hpr, ps]
        have hJb' := hJb
        obtain ⟨j1, j2, j3, j4, j5, j6, j7, j8, j9⟩ := hJb
        have bU : ∀ i, 0 ≤ fd_r b ur i ∧ fd_r b ur i < 2147483648 := fun i => by have := j1 i; omega
        have bC : ∀ i, 0 ≤ fd_r b 16 i ∧ fd_r b 16 i < 2147483648 := fun i => by
          by_cases z : i = nw
          · rw [z, j5]; omega
          · have := j4 i z; omega
        refine fd_multiplyModulo (t := 19) (x := ur) (y := 16) (m := (P : Int) ^ (j + 1)) (by omega) (by omega) (by omega) (by omega) (by omega) m0 (by omega) m2 bU bC (fun b1 h1 => ?_)
        dsimp only
        have r22 : fd_r b 22 = fd_r a 22 := hfr 22 (by omega) (by omega) (by omega) (by omega) (by omega) (by omega) (by omega) (by omega) (by omega) (by omega)
        have o1 : ∀ s, s ≠ 19 → s ≠ 25 → fd_r b1 s = fd_r b s := fun s s19 s25 => by rw [h1, fd_u_n s19, fd_u_n s25]
        have r119 : fd_r b1 19 = fd_mm ((P : Int) ^ (j + 1)) (fd_r b ur) (fd_r b 16) := by rw [h1, fd_u_s]
        have r122 : fd_r b1 22 = fd_r a 22 := by rw [o1 22 (by omega) (by omega), r22]
        refine fd_lp36 (q := (P : Int) ^ j) (m := (P : Int) ^ (j + 1)) hpw q0 m2 m0 (by omega) (by rw [r119]; exact fd_mm_rd m0 _ _) (by rw [r122]; exact hT) (fun b2 h2 => ?_)
        rw [r119, r122] at h2
        have fF : (fun i => (fd_r a 22 i - fd_mm ((P : Int) ^ (j + 1)) (fd_r b ur) (fd_r b 16) i) % (P : Int) ^ (j + 1) / (P : Int) ^ j) = hl_F P j (fd_r a 22) (fd_r b ur) (fd_r b 16) := rfl
        rw [fF] at h2
        obtain ⟨f1, f2, f3⟩ := hl_F_ok (by omega) (by omega) hJb' T1 T2
        have r219 : fd_r b2 19 = hl_F P j (fd_r a 22) (fd_r b ur) (fd_r b 16) := by rw [h2, fd_u_s]
        have o2 : ∀ s, s ≠ 19 → s ≠ 25 → fd_r b2 s = fd_r b s := fun s s19 s25 => by rw [h2, fd_u_n s19, o1 s s19 s25]
        have r2u := o2 ur (by omega) (by omega)
        have r216 := o2 16 (by omega) (by omega)
        have r217 : fd_r b2 17 = fd_r a 17 := by rw [o2 17 (by omega) (by omega)]; exact hfr 17 (by omega) (by omega) (by omega) (by omega) (by omega) (by omega) (by omega) (by omega) (by omega) (by omega)
        have r218 : fd_r b2 18 = fd_r a 18 := by rw [o2 18 (by omega) (by omega)]; exact hfr 18 (by omega) (by omega) (by omega) (by omega) (by omega) (by omega) (by omega) (by omega) (by omega) (by omega)
        refine fd_shareOut (ur := ur) (nu := nu) (nw := nw) (P := P) (w := (P : Int) ^ j) hur hur2 hp (by omega) hpr hpr hpw (by omega) (by omega) hnu hnw hnn (by rw [r2u]; exact bU) (by rw [r2u]; exact j2) (by rw [r2u]; exact j3) (by rw [r216]; exact bC) (by rw [r216]; exact j6) (by rw [r217]; exact hs) (by rw [r217]; exact hs2) (by rw [r218]; exact ht) (by rw [r218]; exact ht2) (by rw [r219]; exact f1) (by rw [r219]; exact f2) (fun b3 q r h fr k1 k2 fq hr hh hr0 heq hhe => ?_)
        rw [r2u] at k1
        rw [r216] at k2
        rw [r218, r219, r2u] at heq
        rw [r216, r217, r219] at hhe
        have e4 := po_eq_t heq (po_eq_add (po_eq_mul (po_eq_r _ q) j7) (po_eq_r _ r))
        have e5 := po_eq_t hhe (po_eq_add (po_eq_mul (po_eq_r _ q) j8) (po_eq_r _ _))
        obtain ⟨_, hJ2⟩ := hl_step (by omega) hj1 hJb' mu dw (fd_r_fin _ a 17) fq hr hh f2 hr0 f3 hbz e4 e5
        refine nm_e (ih (j + 1) _ _ b3 (by omega) (by omega) (by omega) m2 (fun s su s6 s7 s9 s10 s16 s19 s20 s21 s25 => ?_) (by rw [k1, k2]; exact hJ2))
        rw [fr s su s6 s7 s9 s10 s16 s19 s20 s21 s25, o2 s s19 s25]; exact hfr s su s6 s7 s9 s10 s16 s19 s20 s21 s25
  exact ⟨k, main k 1 pr mo a (by omega) (by omega) hk (by rw [hpr]; exact (Int.pow_succ _ _).trans (by simp) |>.symm) (fun _ _ _ _ _ _ _ _ _ _ _ => rfl) hJ⟩
end
end
section
/-! monicModulo; degrees of products -/
theorem mn_step {x ld P t : Int} {b : Int} (hx : x ∣ t) (h : x ∣ ld * b - 1) : x ∣ ld * (b * ((2 - ld * b % t) % t) % t) - 1 := by
  obtain ⟨k1, e1⟩ := Int.dvd_trans hx (fd_em_eq t (fun _ => ld * b) 0)
  obtain ⟨k2, e2⟩ := Int.dvd_trans hx (fd_em_eq t (fun _ => 2 - ld * b % t) 0)
  obtain ⟨k3, e3⟩ := Int.dvd_trans hx (fd_em_eq t (fun _ => b * ((2 - ld * b % t) % t)) 0)
  obtain ⟨k4, e4⟩ := h
  simp only [fd_em] at e1 e2 e3
  refine ⟨ld * k3 + ld * b * (k2 - k1) - k4 * (ld * b - 1), ?_⟩
  generalize ld * b % t = A at *
  generalize (2 - A) % t = B at *
  generalize b * B % t = C at *
  have hC : C = b * B + x * k3 := by omega
  have hB : B = 2 - A + x * k2 := by omega
  have hA : A = ld * b + x * k1 := by omega
  subst hC hB hA
  grind
theorem mn_sq {x y ld t b : Int} (hy : y ∣ t) (hxy : y ∣ x * x) (h : x ∣ ld * b - 1) : y ∣ ld * (b * ((2 - ld * b % t) % t) % t) - 1 := by
  obtain ⟨k1, e1⟩ := Int.dvd_trans hy (fd_em_eq t (fun _ => ld * b) 0)
  obtain ⟨k2, e2⟩ := Int.dvd_trans hy (fd_em_eq t (fun _ => 2 - ld * b % t) 0)
  obtain ⟨k3, e3⟩ := Int.dvd_trans hy (fd_em_eq t (fun _ => b * ((2 - ld * b % t) % t)) 0)
  obtain ⟨k4, e4⟩ := h
  obtain ⟨k5, e5⟩ := hxy
  simp only [fd_em] at e1 e2 e3
  refine ⟨ld * k3 + ld * b * (k2 - k1) - k4 * k4 * k5, ?_⟩
  generalize ld * b % t = A at *
  generalize (2 - A) % t = B at *
  generalize b * B % t = C at *
  have hC : C = b * B + y * k3 := by omega
  have hB : B = 2 - A + y * k2 := by omega
  have hA : A = ld * b + y * k1 := by omega
  subst hC hB hA
  have e6 : (ld * b - 1) * (ld * b - 1) = y * (k4 * k4 * k5) := by rw [e4]; grind
  grind
section
variable {fc lc dc : Int32} {mo pr : Int64} {a : Nat → Int64} {a2 : Nat → Int32} {a3 : Nat → Int64} {a4 a5 a6 : Nat → Int32}
theorem fd_mm31 {post : St1 → Prop} {s P k : Nat} {tp l0 : Int64} {ld : Int} (hs : s < 26) (hP : 1 < P) (hk : k ≤ 20) (htp : tp.toInt = (P : Int) ^ k) (htp2 : (P : Int) ^ k ≤ 2147483648) (hl : l0.toInt = ld) (hl1 : 0 < ld) (hl2 : ld < 2147483648)
    (H : ∀ a' b, 0 ≤ b → b < (P : Int) ^ k → (P : Int) ^ k ∣ ld * b - 1 → fd_r a' = fd_u (fd_r a) s (fun i => fd_r a s i % (P : Int) ^ k * b % (P : Int) ^ k) → post (fc, tp, pr, lc, dc, a', a2, a3, a4, a5, a6)) :
    ∀ (f j : Nat) (b : Int64), f + j = 21 → j ≤ 20 → 0 ≤ b.toInt → b.toInt < (P : Int) ^ k → (P : Int) ^ (min (j + 1) k) ∣ ld * b.toInt - 1 → wX_monicModulo_31 post (nI s) tp l0 fc tp pr lc dc a a2 a3 a4 a5 a6 f b (nI j) := by
  intro f
  have t0 : (0 : Int) < (P : Int) ^ k := Int.pow_pos (by omega)
  induction f with
  | zero => intro j b h1 h2; omega
  | succ f ih =>
    intro j b hf hj b1 b2 b3
    refine pk_le 20 j (fun z => ?_) (fun z => ?_)
    · have : min (j + 1) k = k := by omega
      rw [this] at b3
      refine fd_reduce (t := s) hs (by omega) (fun a1 h1 => ?_)
      dsimp only
      rw [htp] at h1
      have es : fd_r a1 s = fd_em ((P : Int) ^ k) (fd_r a s) := by rw [h1, fd_u_s]
      refine fd_scale (t := s) hs (by omega) (fun i => ?_) (fun a' h2 => H a' b.toInt b1 b2 b3 ?_)
      · rw [es]
        have rl := li_emod (a := fd_r a s i) t0
        have := li_mm rl.1 b1 rl.2 b2 htp2
        exact ⟨by show _ ≤ fd_r a s i % _ * _; omega, this.2⟩
      · rw [h2, es, h1, fd_u_u, htp]; rfl
    · have m1 := li_mm (show 0 ≤ ld by omega) b1 (show ld < 2147483648 by omega) (show b.toInt < 2147483648 by omega) (Int.le_refl _)
      have e1 : (l0 * b).toInt = ld * b.toInt := by rw [li_mul (by rw [hl]; omega) (by rw [hl]; omega), hl]
      have e2 : (l0 * b - l0 * b / tp * tp).toInt = ld * b.toInt % (P : Int) ^ k := by rw [li_remN (by omega), e1, htp]
      have rl := li_emod (a := ld * b.toInt) t0
      have tz : ¬ tp = 0 := li_ne0.mpr (by omega)
      refine ⟨tz, nm_e (fd_rest (by omega) (fun r hr => ⟨tz, nm_e (nm_r (nI_1 j) ?_)⟩))⟩
      have e3 : ((2 : Int64) - (l0 * b - l0 * b / tp * tp)).toInt = 2 - ld * b.toInt % (P : Int) ^ k := by
        have z2 : (2 : Int64).toInt = 2 := rfl
        rw [li_sub (by rw [e2, z2]; omega) (by rw [e2, z2]; omega), e2, z2]
      rw [e3, htp] at hr
      have rl2 := li_emod (a := 2 - ld * b.toInt % (P : Int) ^ k) t0
      have m2 := li_mm b1 rl2.1 b2 rl2.2 htp2
      have e4 : (b * r).toInt = b.toInt * ((2 - ld * b.toInt % (P : Int) ^ k) % (P : Int) ^ k) := by rw [li_mul (by rw [hr]; omega) (by rw [hr]; omega), hr]
      have e5 : (b * r - b * r / tp * tp).toInt = b.toInt * ((2 - ld * b.toInt % (P : Int) ^ k) % (P : Int) ^ k) % (P : Int) ^ k := by rw [li_remN (by omega), e4, htp]
      have rl3 := li_emod (a := b.toInt * ((2 - ld * b.toInt % (P : Int) ^ k) % (P : Int) ^ k)) t0
      refine ih (j + 1) _ (by omega) (by omega) (by rw [e5]; exact rl3.1) (by rw [e5]; exact rl3.2) ?_
      rw [e5]
      refine mn_sq (x := (P : Int) ^ (min (j + 1) k)) ?_ ?_ b3
      · obtain ⟨d, hd⟩ : ∃ d, k = min (j + 1 + 1) k + d := ⟨k - min (j + 1 + 1) k, by omega⟩
        refine ⟨(P : Int) ^ d, ?_⟩
        rw [← Int.pow_add, ← hd]
      · obtain ⟨d, hd⟩ : ∃ d, min (j + 1) k + min (j + 1) k = min (j + 1 + 1) k + d := ⟨min (j + 1) k + min (j + 1) k - min (j + 1 + 1) k, by omega⟩
        refine ⟨(P : Int) ^ d, ?_⟩
        rw [← Int.pow_add, ← Int.pow_add, hd]
theorem fd_monicModulo {post : St1 → Prop} {s P k n : Nat} {tp : Int64} {ld : Int} (hs : s < 26) (hp : po_prime P) (hP2 : P < 1000) (hpr : pr.toInt = (P : Int)) (hk1 : 1 ≤ k) (hk : k ≤ 20) (htp : tp.toInt = (P : Int) ^ k) (htp2 : (P : Int) ^ k ≤ 2147483648) (hl : fd_r a s n = ld) (hl0 : ∀ i, n < i → fd_r a s i = 0) (hl1 : 0 < ld) (hl2 : ld < 2147483648) (hl3 : ¬ (P : Int) ∣ ld)
    (H : ∀ a' b, 0 ≤ b → b < (P : Int) ^ k → (P : Int) ^ k ∣ ld * b - 1 → fd_r a' = fd_u (fd_r a) s (fun i => fd_r a s i % (P : Int) ^ k * b % (P : Int) ^ k) → post (fc, tp, pr, lc, dc, a', a2, a3, a4, a5, a6)) :
    wpX_monicModulo post (fc, mo, pr, lc, dc, a, a2, a3, a4, a5, a6) (nI s) tp := by
  have hp1 := hp.1
  unfold wpX_monicModulo
  dsimp only
  refine fd_leadOf hs (fun h0 => by rw [h0 n] at hl; omega) (fun d x hd hx h1 h2 => ?_)
  have dn : d = n := by
    rcases Nat.lt_trichotomy d n with z | z | z
    · rw [h2 n z] at hl; omega
    · exact z
    · exact absurd (hl0 d z) h1
  subst dn
  rw [hl] at hx
  refine fd_inverse (p := P) hpr hp (by omega) (by omega) (by rw [hx]; exact hl3) (fun b b1 b2 b3 => ⟨21, ?_⟩)
  rw [hx] at b3
  have p1 : (P : Int) ^ 1 = P := by rw [Int.pow_succ, Int.pow_zero, Int.one_mul]
  have tle : (P : Int) ^ 1 ≤ (P : Int) ^ k := by
    obtain ⟨d', hd'⟩ : ∃ d', k = 1 + d' := ⟨k - 1, by omega⟩
    rw [hd', Int.pow_add (P : Int) 1 d']
    have : (0 : Int) < (P : Int) ^ d' := Int.pow_pos (by omega)
    have := Int.mul_le_mul_of_nonneg_left (show (1 : Int) ≤ (P : Int) ^ d' by omega) (show (0 : Int) ≤ (P : Int) ^ 1 by rw [p1]; omega)
    omega
  refine fd_mm31 (ld := ld) hs (by omega) hk htp htp2 hx hl1 hl2 H 21 0 b (by omega) (by omega) (by omega) (by omega) ?_
  rw [show min (0 + 1) k = 1 by omega, p1, Int.mul_comm]; exact b3
end
def po_sd (f : Nat → Nat) : Nat → Nat
  | 0 => 0
  | n + 1 => po_sd f n + f n
theorem po_sd_add (f : Nat → Nat) (a : Nat) : ∀ b, po_sd f (a + b) = po_sd f a + po_sd (fun i => f (a + i)) b
  | 0 => rfl
  | b + 1 => by
    rw [show a + (b + 1) = (a + b) + 1 by omega, po_sd, po_sd_add f a b, po_sd]; omega
theorem po_sd_1 (f : Nat → Nat) (b : Nat) : po_sd f (b + 1) = f 0 + po_sd (fun i => f (i + 1)) b := by
  rw [Nat.add_comm, po_sd_add]
  simp only [po_sd, Nat.zero_add]
  congr 2
  funext i
  rw [Nat.add_comm]
theorem po_sd_le {f : Nat → Nat} {a b : Nat} (h : a ≤ b) : po_sd f a ≤ po_sd f b := by
  obtain ⟨c, rfl⟩ : ∃ c, b = a + c := ⟨b - a, by omega⟩
  rw [po_sd_add]; omega
theorem ga_as {R : Type} [Lean.Grind.CommRing R] {a b c : R} : a * b * c = a * (b * c) := by grind
theorem ga_m1 {R : Type} [Lean.Grind.CommRing R] {a o : R} (ho : o = 1) : a = a * o := by grind
theorem po_prod_add (g : Nat → po_P) (a : Nat) : ∀ b, po_prod g (a + b) = po_mul (po_prod g a) (po_prod (fun i => g (a + i)) b)
  | 0 => @ga_m1 po_P po_ring _ _ rfl
  | b + 1 => by
    rw [show a + (b + 1) = (a + b) + 1 by omega, po_prod, po_prod_add g a b, po_prod]; exact @ga_as po_P po_ring _ _ _
theorem ga_1m {R : Type} [Lean.Grind.CommRing R] {a o : R} (ho : o = 1) : o * a = a := by grind
theorem po_prod_1 (g : Nat → po_P) (b : Nat) : po_prod g (b + 1) = po_mul (g 0) (po_prod (fun i => g (i + 1)) b) := by
  rw [Nat.add_comm, po_prod_add]
  have e : po_prod g 1 = g 0 := @ga_1m po_P po_ring _ _ rfl
  rw [e]
  congr 2
  funext i
  rw [Nat.add_comm]
theorem po_prod_sd {m : Int} {g : Nat → po_P} {dg : Nat → Nat} : ∀ n, (∀ k, k < n → po_mo m (dg k) (g k)) → po_mo m (po_sd dg n) (po_prod g n)
  | 0, _ => po_mo_1 m
  | n + 1, h => po_mo_mul (po_prod_sd n (fun k hk => h k (by omega))) (h n (by omega))
end
section
/-! liftAll: the mathematics of one round -/
theorem nt_bez (a b : Nat) : ∃ x y : Int, (a : Int) * x + b * y = (Nat.gcd a b : Nat) := by
  induction a, b using Nat.gcd.induction with
  | H0 b => exact ⟨0, 1, by rw [Nat.gcd_zero_left]; omega⟩
  | H1 a b ha ih =>
    obtain ⟨x, y, h⟩ := ih
    refine ⟨y - (b / a : Nat) * x, x, ?_⟩
    rw [Nat.gcd_rec, ← h]
    have e : ((b % a : Nat) : Int) = b - a * (b / a : Nat) := by
      have := Nat.div_add_mod b a
      have : ((a * (b / a) + b % a : Nat) : Int) = b := by rw [this]
      rw [Int.natCast_add, Int.natCast_mul] at this
      omega
    rw [e]; grind
theorem nt_inv {p x : Int} (hp : po_prime p) (hx : ¬ p ∣ x) : ∃ e : Int, p ∣ e * x - 1 := by
  obtain ⟨u, v, h⟩ := nt_bez p.natAbs x.natAbs
  rw [hp.2 x hx] at h
  have hp1 := hp.1
  have e1 : (p.natAbs : Int) = p := by omega
  rw [e1] at h
  by_cases z : 0 ≤ x
  · have e2 : (x.natAbs : Int) = x := by omega
    rw [e2] at h
    exact ⟨v, -u, by grind⟩
  · have e2 : (x.natAbs : Int) = -x := by omega
    rw [e2] at h
    exact ⟨-v, -u, by grind⟩
theorem ga_cop {R : Type} [Lean.Grind.CommRing R] {m u w u' w' A B x o : R} (h : o = A * (u * w) + B * (u' * w + u * w') + m * x) : o = (A * w + B * w') * u + (B * u') * w + m * x := by grind
theorem po_cop {m : Int} {u w : po_P} (fu : po_fin m u) (fw : po_fin m w) (h : po_sqf m (po_mul u w)) : po_cb m u w (po_C 1) := by
  obtain ⟨A, B, fA, fB, h⟩ := h
  rw [po_der_mul] at h
  obtain ⟨x, hx⟩ := po_eq_ex h
  exact ⟨_, _, po_fin_add (po_fin_mul fA fw) (po_fin_mul fB (po_der_fin fw)), po_fin_mul fB (po_der_fin fu), po_ex_eq (@ga_cop po_P po_ring _ _ _ _ _ _ _ _ _ hx)⟩
theorem ga_cop2 {R : Type} [Lean.Grind.CommRing R] {m u X Y CO l e A B x y z o i : R} (h : o = A * u + B * (X * Y) + m * x) (hc : CO = l * Y + m * y) (he : e * l = i + m * z) (hi : i = 1) : o = A * u + (B * X * e) * CO + m * (x - B * X * Y * z - B * X * e * y) := by grind
theorem po_cop2 {p : Int} (hp : po_prime p) {u X Y CO : po_P} {l : Int} (fX : po_fin p X) (hl : ¬ p ∣ l) (h : po_cb p u (po_mul X Y) (po_C 1)) (hc : po_eq p CO (po_mul (po_C l) Y)) : po_cb p u CO (po_C 1) := by
  obtain ⟨e, he⟩ := nt_inv hp hl
  obtain ⟨A, B, fA, fB, h⟩ := h
  obtain ⟨x, hx⟩ := po_eq_ex h
  obtain ⟨y, hy⟩ := po_eq_ex hc
  have he' : po_eq p (po_mul (po_C e) (po_C l)) (po_C 1) := by rw [← po_C_mul]; exact po_C_eq he
  obtain ⟨z, hz⟩ := po_eq_ex he'
  exact ⟨A, _, fA, po_fin_mul (po_fin_mul fB fX) (po_fin_C _ _), po_ex_eq (@ga_cop2 po_P po_ring _ _ _ _ _ _ _ _ _ _ _ _ _ (po_C 1) hx hy hz rfl)⟩
theorem po_sqf_eq {m : Int} {F G : po_P} (h : po_sqf m F) (e : po_eq m F G) : po_sqf m G := by
  obtain ⟨A, B, fA, fB, h⟩ := h
  exact ⟨A, B, fA, fB, po_eq_t h (po_eq_add (po_eq_mul (po_eq_r _ _) e) (po_eq_mul (po_eq_r _ _) (po_der_eq e)))⟩
/-- the state before round q of liftAll -/
def la_I (P K : Nat) (L : po_P) (ld : Int) (Pc : Nat → po_P) (dg : Nat → Nat) (l q : Nat) (V : Nat → po_P) (T : po_P) : Prop :=
  (∀ j, j < q → (∀ i, 0 ≤ V j i ∧ V j i < (P : Int) ^ K) ∧ V j (dg j) = 1 ∧ (∀ i, dg j < i → V j i = 0) ∧ po_eq P (V j) (Pc j)) ∧
  T (po_sd (fun i => dg (q + i)) (l - q)) = ld ∧ (∀ i, po_sd (fun i => dg (q + i)) (l - q) < i → T i = 0) ∧ (∀ i, -1000000000000000000 ≤ T i ∧ T i ≤ 1000000000000000000) ∧
  po_eq ((P : Int) ^ K) L (po_mul (po_prod V q) T) ∧ po_eq P T (po_mul (po_C ld) (po_prod (fun i => Pc (q + i)) (l - q)))
theorem ga_la {R : Type} [Lean.Grind.CommRing R] {m L A T U C x y : R} (h : L = A * T + m * x) (k : U * C = T + m * y) : L = A * U * C + m * (x - A * y) := by grind
theorem la_step {P K : Nat} {L : po_P} {ld : Int} {Pc : Nat → po_P} {dg : Nat → Nat} {l q : Nat} {V : Nat → po_P} {T U C w0 : po_P} (hq : q + 1 < l) (htp2 : (P : Int) ^ K ≤ 2147483648) (hld : 0 < ld) (hld2 : ld < 2147483648) (h : la_I P K L ld Pc dg l q V T)
    (hJ : hl_J P K (Pc q) w0 T (dg q) (po_sd (fun i => dg (q + 1 + i)) (l - (q + 1))) ld U C) (hw : po_eq P w0 (po_mul (po_C ld) (po_prod (fun i => Pc (q + 1 + i)) (l - (q + 1))))) : la_I P K L ld Pc dg l (q + 1) (fun j => if j = q then U else V j) C := by
  obtain ⟨h1, h2, h3, h4, h5, h6⟩ := h
  obtain ⟨j1, j2, j3, j4, j5, j6, j7, j8, j9⟩ := hJ
  refine ⟨fun j hj => ?_, j5, j6, fun i => ?_, ?_, po_eq_t j8 hw⟩
  · dsimp only
    by_cases e : j = q
    · rw [if_pos e, e]; exact ⟨j1, j2, j3, j7⟩
    · rw [if_neg e]; exact h1 j (by omega)
  · by_cases z : i = po_sd (fun i => dg (q + 1 + i)) (l - (q + 1))
    · rw [z, j5]; omega
    · have := j4 i z; omega
  · have e1 : po_prod (fun j => if j = q then U else V j) (q + 1) = po_mul (po_prod V q) U := by
      rw [po_prod, po_prod_e (h := V) q (fun k hk => if_neg (by omega)), if_pos rfl]
    rw [e1]
    obtain ⟨x, hx⟩ := po_eq_ex h5
    obtain ⟨y, hy⟩ := po_eq_ex j9
    exact po_ex_eq (@ga_la po_P po_ring _ _ _ _ _ _ _ _ hx hy)
theorem ga_lf {R : Type} [Lean.Grind.CommRing R] {m L A T W l x y : R} (h : L = A * T + m * x) (k : T = l * W + m * y) : L = l * (A * W) + m * (x + A * y) := by grind
theorem la_fin {P K : Nat} (hP : 1 < P) (hK : 1 ≤ K) {L : po_P} {ld : Int} {Pc : Nat → po_P} {dg : Nat → Nat} {l q : Nat} {V : Nat → po_P} {T : po_P} {b : Int} (hq : q + 1 = l) (h : la_I P K L ld Pc dg l q V T) (hb : (P : Int) ^ K ∣ ld * b - 1) :
    (∀ j, j < l → (∀ i, 0 ≤ (fun j => if j = q then (fun i => T i % (P : Int) ^ K * b % (P : Int) ^ K) else V j) j i ∧ (fun j => if j = q then (fun i => T i % (P : Int) ^ K * b % (P : Int) ^ K) else V j) j i < (P : Int) ^ K) ∧ (fun j => if j = q then (fun i => T i % (P : Int) ^ K * b % (P : Int) ^ K) else V j) j (dg j) = 1 ∧ (∀ i, dg j < i → (fun j => if j = q then (fun i => T i % (P : Int) ^ K * b % (P : Int) ^ K) else V j) j i = 0) ∧ po_eq P ((fun j => if j = q then (fun i => T i % (P : Int) ^ K * b % (P : Int) ^ K) else V j) j) (Pc j)) ∧
    po_eq ((P : Int) ^ K) L (po_mul (po_C ld) (po_prod (fun j => if j = q then (fun i => T i % (P : Int) ^ K * b % (P : Int) ^ K) else V j) l)) := by
  obtain ⟨h1, h2, h3, h4, h5, h6⟩ := h
  have t0 : (0 : Int) < (P : Int) ^ K := Int.pow_pos (by omega)
  have lq : l - q = 1 := by omega
  have N1 : po_sd (fun i => dg (q + i)) (l - q) = dg q := by rw [lq]; simp [po_sd]
  rw [N1] at h2 h3
  rw [lq] at h6
  have e1 : po_prod (fun i => Pc (q + i)) 1 = Pc q := @ga_1m po_P po_ring _ _ rfl
  rw [e1] at h6
  have eW : po_eq ((P : Int) ^ K) (fun i => T i % (P : Int) ^ K * b % (P : Int) ^ K) (po_mul (po_C b) T) := fun i => by
    rw [po_mul_C]
    obtain ⟨k1, q1⟩ := fd_em_eq ((P : Int) ^ K) T i
    obtain ⟨k2, q2⟩ := fd_em_eq ((P : Int) ^ K) (fun i => T i % (P : Int) ^ K * b) i
    simp only [fd_em] at q1 q2
    refine ⟨k2 + k1 * b, ?_⟩
    grind
  have eT : po_eq ((P : Int) ^ K) T (po_mul (po_C ld) (fun i => T i % (P : Int) ^ K * b % (P : Int) ^ K)) := fun i => by
    rw [po_mul_C]
    obtain ⟨k1, q1⟩ := eW i
    rw [po_mul_C] at q1
    obtain ⟨k2, q2⟩ := hb
    refine ⟨-(ld * k1) - k2 * T i, ?_⟩
    grind
  refine ⟨fun j hj => ?_, ?_⟩
  · dsimp only
    by_cases e : j = q
    · rw [if_pos e, e]
      refine ⟨fun i => li_emod t0, ?_, fun i hi => ?_, ?_⟩
      · have z := eW (dg q)
        rw [po_mul_C, h2] at z
        have z2 := Int.dvd_add z (by rw [Int.mul_comm]; exact hb : (P : Int) ^ K ∣ b * ld - 1)
        rw [show T (dg q) % (P : Int) ^ K * b % (P : Int) ^ K - b * ld + (b * ld - 1) = T (dg q) % (P : Int) ^ K * b % (P : Int) ^ K - 1 by omega] at z2
        have lt1 : (1 : Int) < (P : Int) ^ K := by
          have : (P : Int) ∣ (P : Int) ^ K := li_dps P hK
          have := Int.le_of_dvd t0 this
          omega
        have rl := li_emod (a := T (dg q) % (P : Int) ^ K * b) t0
        have s2 : (T (dg q) % (P : Int) ^ K * b % (P : Int) ^ K) % (P : Int) ^ K = 1 % (P : Int) ^ K := Int.emod_eq_emod_iff_emod_sub_eq_zero.mpr (Int.emod_eq_zero_of_dvd z2)
        rw [Int.emod_emod, Int.emod_eq_of_lt (a := 1) (by omega) lt1] at s2
        exact s2
      · rw [h3 i hi]; simp
      · have dp : (P : Int) ∣ (P : Int) ^ K := li_dps P hK
        obtain ⟨k2, q2⟩ := Int.dvd_trans dp hb
        refine fun i => ?_
        obtain ⟨k1, q1⟩ := po_eq_dvd dp eW i
        obtain ⟨k3, q3⟩ := h6 i
        rw [po_mul_C] at q1 q3
        refine ⟨k1 + b * k3 + k2 * Pc q i, ?_⟩
        grind
    · rw [if_neg e]; exact h1 j (by omega)
  · have e2 : po_prod (fun j => if j = q then (fun i => T i % (P : Int) ^ K * b % (P : Int) ^ K) else V j) l = po_mul (po_prod V q) (fun i => T i % (P : Int) ^ K * b % (P : Int) ^ K) := by
      rw [← hq, po_prod, po_prod_e (h := V) q (fun k hk => if_neg (by omega)), if_pos rfl]
    rw [e2]
    obtain ⟨x, hx⟩ := po_eq_ex h5
    obtain ⟨y, hy⟩ := po_eq_ex eT
    exact po_ex_eq (@ga_lf po_P po_ring _ _ _ _ _ _ _ _ hx hy)
end
section
/-! liftAll: the walk -/
theorem ga_co {R : Type} [Lean.Grind.CommRing R] {m C l A Q x D y : R} (h : C = l * A + m * x) (k : D = C * Q + m * y) : D = l * (A * Q) + m * (x * Q + y) := by grind
theorem ga_jt {R : Type} [Lean.Grind.CommRing R] {m U C l A T x y : R} (h : C = l * A + m * x) (k : T = l * (U * A) + m * y) : U * C = T + m * (U * x - y) := by grind
theorem ga_sw {R : Type} [Lean.Grind.CommRing R] {a b c : R} : a * (b * c) = b * (a * c) := by grind
section
variable {fc dc : Int32} {mo pr : Int64} {a2 : Nat → Int32} {a3 : Nat → Int64} {a4 a5 a6 : Nat → Int32}
def la_fr (a b : Nat → Int64) : Prop := ∀ s, (s < 6 ∨ s = 23 ∨ s = 24) → fd_r b s = fd_r a s
theorem fd_la83 {post : St1 → Prop} {J : Int32 → Int32 → Int64 → Int64 → Int32 → Int32 → (Nat → Int64) → (Nat → Int32) → (Nat → Int64) → (Nat → Int32) → (Nat → Int32) → (Nat → Int32) → Prop} {a b0 : Nat → Int64} {P K l q : Nat} {tp l0 : Int64} {ld : Int} {L : po_P} {Pc V : Nat → po_P} {dg : Nat → Nat}
    (hp : po_prime P) (hP2 : P < 1000) (hmo : mo.toInt = (P : Int)) (hpr : pr.toInt = (P : Int)) (hK : 1 ≤ K) (htp : tp.toInt = (P : Int) ^ K) (htp2 : (P : Int) ^ K ≤ 2147483648) (hl0 : l0.toInt = ld) (hld : 0 < ld) (hld2 : ld < 2147483648) (hld3 : ¬ (P : Int) ∣ ld) (hq : q + 1 < l) (hl5 : l ≤ 5) (hsd : po_sd dg l ≤ 5)
    (hpc : ∀ j, j < l → fd_rd P (Pc j) ∧ 1 ≤ dg j ∧ Pc j (dg j) = 1 ∧ ∀ i, dg j < i → Pc j i = 0) (hsq : po_sqf P (po_prod Pc l)) (hI : la_I P K L ld Pc dg l q V (fd_r b0 22)) (rV : ∀ j, j < q → fd_r b0 (11 + j) = V j) (rP : ∀ j, q ≤ j → j < l → fd_r b0 (11 + j) = Pc j) (hfr : la_fr a b0)
    (H : ∀ b' V', la_fr a b' → la_I P K L ld Pc dg l (q + 1) V' (fd_r b' 22) → (∀ j, j < q + 1 → fd_r b' (11 + j) = V' j) → (∀ j, q + 1 ≤ j → j < l → fd_r b' (11 + j) = Pc j) → J (nI (q + 1)) fc tp pr (nI l) dc b' a2 a3 a4 a5 a6) :
    ∀ (f j : Nat) (b : Nat → Int64), f + j = l + 1 → q + 1 ≤ j → j ≤ l → (∀ s, s ≠ 16 → s ≠ 25 → fd_r b s = fd_r b0 s) → fd_rd P (fd_r b 16) → (∀ i, po_sd (fun i => dg (q + 1 + i)) (j - (q + 1)) < i → fd_r b 16 i = 0) → po_eq P (fd_r b 16) (po_mul (po_C ld) (po_prod (fun i => Pc (q + 1 + i)) (j - (q + 1)))) → wX_liftAll_83 post J l0 tp (nI q) f (nI j) fc mo pr (nI l) dc b a2 a3 a4 a5 a6 := by
  have hp1 := hp.1
  have e11 : ∀ j, (11 + nI j : Int32) = nI (11 + j) := fun j => by rw [show (11 : Int32) = nI 11 from rfl, nI_add]
  have mo1 : ∀ j, j < l → po_mo P (dg j) (Pc j) := fun j hj => fd_top_mo (hpc j hj).2.2.1 (hpc j hj).2.2.2
  -- the degrees
  have sd1 : po_sd dg l = po_sd dg q + po_sd (fun i => dg (q + i)) (l - q) := by
    have := po_sd_add dg q (l - q)
    rwa [show q + (l - q) = l by omega] at this
  have sd2 : po_sd (fun i => dg (q + i)) (l - q) = dg q + po_sd (fun i => dg (q + 1 + i)) (l - (q + 1)) := by
    have := po_sd_1 (fun i => dg (q + i)) (l - (q + 1))
    rw [show l - (q + 1) + 1 = l - q by omega] at this
    rw [this]
    congr 2
    funext i
    congr 1
    omega
  have pr2 : po_prod (fun i => Pc (q + i)) (l - q) = po_mul (Pc q) (po_prod (fun i => Pc (q + 1 + i)) (l - (q + 1))) := by
    have := po_prod_1 (fun i => Pc (q + i)) (l - (q + 1))
    rw [show l - (q + 1) + 1 = l - q by omega] at this
    rw [this]
    congr 2
    funext i
    congr 1
    omega
  intro f
  induction f with
  | zero => intro j b h1 h2 h3; omega
  | succ f ih =>
    intro j b hf hj1 hjl hb hC1 hC2 hC3
    refine pk_le l j (fun z => ?_) (fun z => ?_)
    · have jl : j = l := by omega
      subst jl
      -- degrees
      generalize hnw : po_sd (fun i => dg (q + 1 + i)) (j - (q + 1)) = nw at *
      have nw1 : 1 ≤ nw := by
        rw [← hnw]
        have := po_sd_le (f := fun i => dg (q + 1 + i)) (show 1 ≤ j - (q + 1) by omega)
        have e0 : po_sd (fun i => dg (q + 1 + i)) 1 = dg (q + 1) := by simp [po_sd]
        have := (hpc (q + 1) (by omega)).2.1
        omega
      obtain ⟨p1, p2, p3, p4⟩ := hpc q (by omega)
      have rq : fd_r b (11 + q) = Pc q := by rw [hb (11 + q) (by omega) (by omega)]; exact rP q (Nat.le_refl q) (by omega)
      have moW : po_mo P nw (po_prod (fun i => Pc (q + 1 + i)) (j - (q + 1))) := by
        rw [← hnw]; exact po_prod_sd _ (fun k hk => mo1 (q + 1 + k) (by omega))
      have cw : (P : Int) ∣ fd_r b 16 nw - ld := by
        have h1 := hC3 nw
        rw [po_mul_C] at h1
        have := Int.dvd_add h1 (Int.dvd_mul_of_dvd_right (b := ld) moW.2)
        rwa [show fd_r b 16 nw - ld * po_prod (fun i => Pc (q + 1 + i)) (j - (q + 1)) nw + ld * (po_prod (fun i => Pc (q + 1 + i)) (j - (q + 1)) nw - 1) = fd_r b 16 nw - ld by grind] at this
      have cw0 : fd_r b 16 nw ≠ 0 := fun e => hld3 (by
        rw [e] at cw
        have := Int.dvd_neg.mpr cw
        rwa [show -(0 - ld) = ld by omega] at this)
      have hcop : po_cb P (fd_r b (11 + q)) (fd_r b 16) (po_C 1) := by
        rw [rq]
        have e1 : po_prod Pc j = po_mul (Pc q) (po_mul (po_prod Pc q) (po_prod (fun i => Pc (q + 1 + i)) (j - (q + 1)))) := by
          have := po_prod_add Pc q (j - q)
          rw [show q + (j - q) = j by omega, pr2] at this
          rw [this]; exact @ga_sw po_P po_ring _ _ _
        rw [e1] at hsq
        have fz : ∀ k, k < j → po_fin P (Pc k) := fun k hk => po_mo_fin (mo1 k hk)
        have f1 : po_fin P (po_prod Pc q) := po_prod_fin q (fun k hk => fz k (by omega))
        have f2 : po_fin P (po_prod (fun i => Pc (q + 1 + i)) (j - (q + 1))) := po_mo_fin moW
        exact po_cop2 hp f1 hld3 (po_cop (fz q (by omega)) (po_fin_mul f1 f2) hsq) hC3
      rw [e11]
      refine fd_findBezout (ur := 11 + q) (nu := dg q) (nw := nw) (p := P) (by omega) (by omega) hmo hpr hp (by omega) (by omega) (by omega) (by rw [rq]; exact p1) hC1 (by rw [rq, p3]; omega) (by rw [rq]; exact p4) cw0 hC2 hcop (fun c s t fr hs17 ht18 hs ht hs2 ht2 hbz => ?_)
      dsimp only
      rw [rq] at hbz
      have c16 : fd_r c 16 = fd_r b 16 := fr 16 (by omega) (by omega) (by omega) (by omega) (by omega) (by omega) (by omega) (by omega) (by omega) (by omega)
      refine fd_degreeOf (s := 16) (by omega) (fun h0 => absurd (by rw [c16] at h0; exact h0 nw) cw0) (fun d hd d1 d2 => ?_)
      rw [c16] at d1 d2
      have dn : d = nw := by
        rcases Nat.lt_trichotomy d nw with y | y | y
        · exact absurd (d2 nw y) cw0
        · exact y
        · exact absurd (hC2 d y) d1
      subst dn
      have e192 : (192 + nI d : Int32) = nI (12 * 16 + d) := by rw [show (192 : Int32) = nI 192 from rfl, nI_add]
      refine ⟨pk_in (12 * 16 + d) 312 (by omega) e192, nm_r (by rw [e192, nI_clamp (by omega)]) ?_⟩
      have hc' : fd_r (vp_updL c (12 * 16 + d) l0) = fd_u (fd_r c) 16 (fd_w (fd_r b 16) d ld) := by rw [fd_upd (by omega), c16, hl0]
      generalize vp_updL c (12 * 16 + d) l0 = c' at *
      have oc : ∀ s, s ≠ 16 → fd_r c' s = fd_r c s := fun s hs => by rw [hc', fd_u_n hs]
      have c22 : fd_r c' 22 = fd_r b0 22 := by
        rw [oc 22 (by omega), fr 22 (by omega) (by omega) (by omega) (by omega) (by omega) (by omega) (by omega) (by omega) (by omega) (by omega)]; exact hb 22 (by omega) (by omega)
      have cq : fd_r c' (11 + q) = Pc q := by
        rw [oc (11 + q) (by omega), fr (11 + q) (by omega) (by omega) (by omega) (by omega) (by omega) (by omega) (by omega) (by omega) (by omega) (by omega)]; exact rq
      have cC : fd_r c' 16 = fd_w (fd_r b 16) d ld := by rw [hc', fd_u_s]
      have c17 : fd_r c' 17 = s := by rw [oc 17 (by omega)]; exact hs17
      have c18 : fd_r c' 18 = t := by rw [oc 18 (by omega)]; exact ht18
      obtain ⟨i1, i2, i3, i4, i5, i6⟩ := hI
      rw [sd2] at i2 i3
      have eCw : po_eq P (fd_w (fd_r b 16) d ld) (fd_r b 16) := fun i => by
        simp only [fd_w]
        by_cases y : i = d
        · rw [if_pos y, y]
          have := Int.dvd_neg.mpr cw
          rwa [Int.neg_sub] at this
        · rw [if_neg y]; simp
      have pw1 : (P : Int) ^ 1 = P := by rw [Int.pow_succ, Int.pow_zero, Int.one_mul]
      have hJ1 : hl_J P 1 (Pc q) (fd_r b 16) (fd_r c' 22) (dg q) d ld (fd_r c' (11 + q)) (fd_r c' 16) := by
        rw [cq, cC, c22]
        refine ⟨fun i => by rw [pw1]; exact p1 i, p3, p4, fun i hi => ?_, by simp [fd_w], fun i hi => ?_, po_eq_r _ _, eCw, ?_⟩
        · rw [pw1]; simp only [fd_w]; rw [if_neg hi]; exact hC1 i
        · simp only [fd_w]; rw [if_neg (by omega)]; exact hC2 i hi
        · rw [pw1]
          rw [pr2] at i6
          obtain ⟨x, hx⟩ := po_eq_ex (po_eq_t eCw hC3)
          obtain ⟨y, hy⟩ := po_eq_ex i6
          exact po_ex_eq (@ga_jt po_P po_ring _ _ _ _ _ _ _ _ hx hy)
      refine fd_liftPair (ur := 11 + q) (nu := dg q) (nw := d) (P := P) (k := K) (u0 := Pc q) (w0 := fd_r b 16) (ld := ld) (by omega) (by omega) hp hP2 hpr htp hK htp2 p2 nw1 (by omega) hld hld2 (mo1 q (by omega)) (fun i hi => by rw [hC2 i (by omega)]; exact Int.dvd_zero _) (by rw [c17]; exact hs) (by rw [c17]; exact hs2) (by rw [c18]; exact ht) (by rw [c18]; exact ht2) (by rw [c17, c18]; exact hbz) (by rw [c22]; exact i4) (by rw [c22]; exact i2) (by rw [c22]; exact i3) hJ1 (fun e so hJK => ?_)
      dsimp only
      refine fd_copy (t := 22) (f := 16) (by omega) (by omega) (fun g hg => nm_r (nI_1 q) ?_)
      rw [c22] at hJK
      have g22 : fd_r g 22 = fd_r e 16 := by rw [hg, fd_u_s]
      have og : ∀ s, s ≠ 22 → fd_r g s = fd_r e s := fun s hs => by rw [hg, fd_u_n hs]
      have hI' := la_step (w0 := fd_r b 16) (U := fd_r e (11 + q)) (C := fd_r e 16) hq htp2 hld hld2 ⟨i1, by rw [sd2]; exact i2, by rw [sd2]; exact i3, i4, i5, i6⟩ (by rw [hnw]; exact hJK) hC3
      refine H g _ (fun s hs => ?_) (by rw [g22]; exact hI') (fun k hk => ?_) (fun k hk1 hk2 => ?_)
      · rw [og s (by omega), so s (by omega) (by omega) (by omega) (by omega) (by omega) (by omega) (by omega) (by omega) (by omega) (by omega), oc s (by omega), fr s (by omega) (by omega) (by omega) (by omega) (by omega) (by omega) (by omega) (by omega) (by omega) (by omega), hb s (by omega) (by omega)]
        exact hfr s hs
      · by_cases y : k = q
        · rw [y, og (11 + q) (by omega), if_pos rfl]
        · rw [if_neg y, og (11 + k) (by omega), so (11 + k) (by omega) (by omega) (by omega) (by omega) (by omega) (by omega) (by omega) (by omega) (by omega) (by omega), oc (11 + k) (by omega), fr (11 + k) (by omega) (by omega) (by omega) (by omega) (by omega) (by omega) (by omega) (by omega) (by omega) (by omega), hb (11 + k) (by omega) (by omega)]
          exact rV k (by omega)
      · rw [og (11 + k) (by omega), so (11 + k) (by omega) (by omega) (by omega) (by omega) (by omega) (by omega) (by omega) (by omega) (by omega) (by omega), oc (11 + k) (by omega), fr (11 + k) (by omega) (by omega) (by omega) (by omega) (by omega) (by omega) (by omega) (by omega) (by omega) (by omega), hb (11 + k) (by omega) (by omega)]
        exact rP k (by omega) hk2
    · rw [e11]
      have rj : fd_r b (11 + j) = Pc j := by rw [hb (11 + j) (by omega) (by omega)]; exact rP j (by omega) z
      obtain ⟨p1, p2, p3, p4⟩ := hpc j z
      have js : j + 1 - (q + 1) = (j - (q + 1)) + 1 := by omega
      have jj : q + 1 + (j - (q + 1)) = j := by omega
      have sdj : po_sd (fun i => dg (q + 1 + i)) (j + 1 - (q + 1)) = po_sd (fun i => dg (q + 1 + i)) (j - (q + 1)) + dg j := by rw [js, po_sd, jj]
      have sdl := po_sd_le (f := fun i => dg (q + 1 + i)) (show j + 1 - (q + 1) ≤ l - (q + 1) by omega)
      refine fd_multiplyModulo (t := 16) (x := 16) (y := 11 + j) (m := P) (by omega) (by omega) (by omega) (by omega) (by omega) (by omega) (by omega) hmo (fun i => by have := hC1 i; omega) (fun i => by rw [rj]; have := p1 i; omega) (fun b1 h1 => ?_)
      dsimp only
      rw [rj] at h1
      have r16 : fd_r b1 16 = fd_mm P (fd_r b 16) (Pc j) := by rw [h1, fd_u_s]
      refine nm_r (nI_1 j) (ih (j + 1) b1 (by omega) (by omega) (by omega) (fun s s16 s25 => by rw [h1, fd_u_n s16, fd_u_n s25]; exact hb s s16 s25) (by rw [r16]; exact fd_mm_rd (by omega) _ _) (fun i hi => ?_) ?_)
      · rw [r16]
        rw [sdj] at hi
        exact fd_mm_0 hC2 p4 i hi
      · rw [r16, js, po_prod, jj]
        obtain ⟨x, hx⟩ := po_eq_ex hC3
        obtain ⟨y, hy⟩ := po_eq_ex (fd_mm_eq (m := P) hC2 p4 (by omega))
        exact po_ex_eq (@ga_co po_P po_ring _ _ _ _ _ _ _ _ hx hy)
end
end
section
/-! liftAll, as a whole -/
theorem li_p3 {P : Nat} (h : 3 ≤ P) : ∀ j : Nat, (3 : Int) ^ j ≤ (P : Int) ^ j
  | 0 => by simp
  | j + 1 => by
    rw [Int.pow_succ, Int.pow_succ]
    have ih := li_p3 h j
    have h3 : (0 : Int) ≤ (3 : Int) ^ j := Int.le_of_lt (Int.pow_pos (by omega))
    have a : (3 : Int) ^ j * 3 ≤ (3 : Int) ^ j * P := Int.mul_le_mul_of_nonneg_left (by omega) h3
    have b : (3 : Int) ^ j * P ≤ (P : Int) ^ j * P := Int.mul_le_mul_of_nonneg_right ih (by omega)
    omega
/-- the lifted pieces -/
def la_V (P K : Nat) (Pc V : Nat → po_P) (dg : Nat → Nat) (l : Nat) : Prop := ∀ j, j < l → (∀ i, 0 ≤ V j i ∧ V j i < (P : Int) ^ K) ∧ V j (dg j) = 1 ∧ (∀ i, dg j < i → V j i = 0) ∧ po_eq P (V j) (Pc j)
section
variable {fc dc : Int32} {mo pr : Int64} {a2 : Nat → Int32} {a3 : Nat → Int64} {a4 a5 a6 : Nat → Int32}
theorem fd_la39 {post : St1 → Prop} {a : Nat → Int64} {P K l : Nat} {tp l0 : Int64} {ld : Int} {L : po_P} {Pc : Nat → po_P} {dg : Nat → Nat}
    (hp : po_prime P) (hP2 : P < 1000) (hpr : pr.toInt = (P : Int)) (hK : 1 ≤ K) (hK2 : K ≤ 20) (htp : tp.toInt = (P : Int) ^ K) (htp2 : (P : Int) ^ K ≤ 2147483648) (hl0 : l0.toInt = ld) (hld : 0 < ld) (hld2 : ld < 2147483648) (hld3 : ¬ (P : Int) ∣ ld) (hl1 : 1 ≤ l) (hl5 : l ≤ 5) (hsd : po_sd dg l ≤ 5)
    (hpc : ∀ j, j < l → fd_rd P (Pc j) ∧ 1 ≤ dg j ∧ Pc j (dg j) = 1 ∧ ∀ i, dg j < i → Pc j i = 0) (hsq : po_sqf P (po_prod Pc l))
    (H : ∀ a' V, la_fr a a' → (∀ j, j < l → fd_r a' (11 + j) = V j) → la_V P K Pc V dg l → po_eq ((P : Int) ^ K) L (po_mul (po_C ld) (po_prod V l)) → post (fc, tp, pr, nI l, dc, a', a2, a3, a4, a5, a6)) :
    ∀ (f q : Nat) (mo : Int64) (b : Nat → Int64) (V : Nat → po_P), f + q = l → q + 1 ≤ l → la_fr a b → la_I P K L ld Pc dg l q V (fd_r b 22) → (∀ j, j < q → fd_r b (11 + j) = V j) → (∀ j, q ≤ j → j < l → fd_r b (11 + j) = Pc j) → wX_liftAll_39 post l0 tp f (nI q) fc mo pr (nI l) dc b a2 a3 a4 a5 a6 := by
  intro f
  have hp1 := hp.1
  induction f with
  | zero => intro q mo b V h1 h2; omega
  | succ f ih =>
    intro q mo b V hf hq hfr hI rV rP
    have em : (nI l - 1 : Int32) = nI (l - 1) := by rw [show (1 : Int32) = nI 1 from rfl, pk_sub hl1]
    have el : ((11 + nI l) - 1 : Int32) = nI (11 + (l - 1)) := by
      rw [show (11 : Int32) = nI 11 from rfl, nI_add, show (1 : Int32) = nI 1 from rfl, pk_sub (by omega)]; congr 1; omega
    refine pk_le (l - 1) q (fun z => ?_) (fun z => ?_) em rfl
    · have ql : q + 1 = l := by omega
      rw [el]
      refine fd_copy (t := 11 + (l - 1)) (f := 22) (by omega) (by omega) (fun c hc => ?_)
      dsimp only
      rw [el]
      have cT : fd_r c (11 + (l - 1)) = fd_r b 22 := by rw [hc, fd_u_s]
      have hI0 := hI
      obtain ⟨i1, i2, i3, i4, i5, i6⟩ := hI0
      have lq : l - q = 1 := by omega
      have N1 : po_sd (fun i => dg (q + i)) (l - q) = dg q := by rw [lq]; simp [po_sd]
      rw [N1] at i2 i3
      refine fd_monicModulo (s := 11 + (l - 1)) (P := P) (k := K) (n := dg q) (ld := ld) (by omega) hp hP2 hpr hK hK2 htp htp2 (by rw [cT]; exact i2) (by rw [cT]; exact i3) hld hld2 hld3 (fun d bb b1 b2 b3 hd => ?_)
      rw [cT] at hd
      obtain ⟨f1, f2⟩ := la_fin (by omega) hK ql hI b3
      refine H d _ (fun s hs => ?_) (fun j hj => ?_) f1 f2
      · rw [hd, fd_u_n (by omega), hc, fd_u_n (by omega)]; exact hfr s hs
      · by_cases y : j = q
        · rw [y, if_pos rfl, hd, show 11 + q = 11 + (l - 1) by omega, fd_u_s]
        · rw [if_neg y, hd, fd_u_n (by omega), hc, fd_u_n (by omega)]; exact rV j (by omega)
    · refine fd_clear (t := 16) (by omega) (fun c hc => ?_)
      dsimp only
      refine fd_rest (by omega) (fun r hr => nm_e (nm_r (nI_1 q) ⟨l - q, ?_⟩))
      rw [hl0, hpr] at hr
      have hc' : fd_r (vp_updL c 192 r) = fd_u (fd_r b) 16 (po_C (ld % P)) := by
        rw [show (192 : Nat) = 12 * 16 + 0 from rfl, fd_upd (by omega), hc, fd_u_s, fd_u_u, hr]; rfl
      have rl := li_emod (a := ld) (show (0 : Int) < P by omega)
      have c22 : fd_r (vp_updL c 192 r) 22 = fd_r b 22 := by rw [hc', fd_u_n (by omega)]
      refine fd_la83 (a := a) (b0 := vp_updL c 192 r) (V := V) (L := L) (ld := ld) hp hP2 hpr hpr hK htp htp2 hl0 hld hld2 hld3 (by omega) hl5 hsd hpc hsq (by rw [c22]; exact hI) (fun j hj => by rw [hc', fd_u_n (by omega)]; exact rV j hj) (fun j h1 h2 => by rw [hc', fd_u_n (by omega)]; exact rP j h1 h2) (fun s hs => by rw [hc', fd_u_n (by omega)]; exact hfr s hs) (fun b' V' k1 k2 k3 k4 => ih (q + 1) _ b' V' (by omega) (by omega) k1 k2 k3 k4) (l - q) (q + 1) (vp_updL c 192 r) (by omega) (by omega) (by omega) (fun _ _ _ => rfl) ?_ (fun i hi => ?_) ?_
      · rw [hc', fd_u_s]
        intro i
        simp only [po_C]
        split
        · exact rl
        · omega
      · rw [hc', fd_u_s]
        simp only [po_C]; rw [if_neg (by omega)]
      · rw [hc', fd_u_s, Nat.sub_self]
        have e : po_mul (po_C ld) (po_prod (fun i => Pc (q + 1 + i)) 0) = po_C ld := by
          funext i
          show po_mul (po_C ld) (po_C 1) i = _
          rw [← po_C_mul, Int.mul_one]
        rw [e]
        refine po_C_eq ?_
        have := fd_em_eq (P : Int) (fun _ => ld) 0
        exact this
theorem fd_liftAll {post : St1 → Prop} {a : Nat → Int64} {P l n : Nat} {ld : Int} {Pc : Nat → po_P} {dg : Nat → Nat}
    (hp : po_prime P) (hP2 : P < 1000) (hP3 : 3 ≤ P) (hpr : pr.toInt = (P : Int)) (hn : n ≤ 5) (hL1 : fd_r a 5 n = ld) (hL2 : ∀ i, n < i → fd_r a 5 i = 0) (hL3 : ∀ i, -1000000000000000000 ≤ fd_r a 5 i ∧ fd_r a 5 i ≤ 1000000000000000000) (hld : 0 < ld) (hld2 : ld < 2147483648) (hld3 : ¬ (P : Int) ∣ ld) (hl1 : 1 ≤ l) (hsd : po_sd dg l = n)
    (hpc : ∀ j, j < l → fd_rd P (Pc j) ∧ 1 ≤ dg j ∧ Pc j (dg j) = 1 ∧ ∀ i, dg j < i → Pc j i = 0) (hl5 : l ≤ 5) (hsq : po_sqf P (po_prod Pc l)) (hLP : po_eq P (fd_r a 5) (po_mul (po_C ld) (po_prod Pc l))) (hrow : ∀ j, j < l → fd_r a (11 + j) = Pc j)
    (H : ∀ a' V K tp, la_fr a a' → 1 ≤ K → tp.toInt = (P : Int) ^ K → 70000 < (P : Int) ^ K → (P : Int) ^ K ≤ 70000 * P → (∀ j, j < l → fd_r a' (11 + j) = V j) → la_V P K Pc V dg l → po_eq ((P : Int) ^ K) (fd_r a 5) (po_mul (po_C ld) (po_prod V l)) → post (fc, tp, pr, nI l, dc, a', a2, a3, a4, a5, a6)) :
    wpX_liftAll post (fc, mo, pr, nI l, dc, a, a2, a3, a4, a5, a6) := by
  have hp1 := hp.1
  unfold wpX_liftAll
  dsimp only
  refine fd_copy (t := 22) (f := 5) (by omega) (by omega) (fun b hb => ?_)
  dsimp only
  have b5 : fd_r b 5 = fd_r a 5 := by rw [hb, fd_u_n (by omega)]
  have b22 : fd_r b 22 = fd_r a 5 := by rw [hb, fd_u_s]
  refine fd_leadOf (s := 5) (by omega) (fun h0 => by rw [b5] at h0; rw [h0 n] at hL1; omega) (fun d x hd hx h1 h2 => ?_)
  rw [b5] at hx h1 h2
  have dn : d = n := by
    rcases Nat.lt_trichotomy d n with y | y | y
    · rw [h2 n y] at hL1; omega
    · exact y
    · exact absurd (hL2 d y) h1
  subst dn
  rw [hL1] at hx
  have main : ∀ (f K : Nat) (tp : Int64), f + K = 13 → 1 ≤ K → K ≤ 12 → tp.toInt = (P : Int) ^ K → (P : Int) ^ K ≤ 70000 * P → wX_liftAll_18 post x fc mo pr (nI l) dc b a2 a3 a4 a5 a6 f tp := by
    intro f
    induction f with
    | zero => intro K tp h1 h2 h3; omega
    | succ f ih =>
      intro K tp hf hK1 hK2 htp hle
      have z7 : (70000 : Int64).toInt = 70000 := rfl
      refine br_c (fun z => ?_) (fun z => ?_)
      · rw [li_lt, z7, htp] at z
        refine ⟨l, fd_la39 (a := a) (P := P) (K := K) (L := fd_r a 5) (ld := ld) (Pc := Pc) (dg := dg) hp hP2 hpr hK1 (by omega) htp (by omega) hx hld hld2 hld3 hl1 hl5 (by omega) hpc hsq (fun a' V k1 k2 k3 k4 => H a' V K tp k1 hK1 htp z hle k2 k3 k4) l 0 mo b (fun _ => po_C 0) (by omega) (by omega) (fun s hs => by rw [hb, fd_u_n (by omega)]) ?_ (fun j hj => absurd hj (by omega)) (fun j _ hj => by rw [hb, fd_u_n (by omega)]; exact hrow j hj)⟩
        rw [b22]
        have e0 : (fun i => dg (0 + i)) = dg := by funext i; rw [Nat.zero_add]
        have e1 : (fun i => Pc (0 + i)) = Pc := by funext i; rw [Nat.zero_add]
        refine ⟨fun j hj => absurd hj (by omega), ?_, ?_, hL3, po_eq_e (@ga_1m po_P po_ring _ _ rfl).symm, ?_⟩
        · rw [e0, Nat.sub_zero, hsd]; exact hL1
        · rw [e0, Nat.sub_zero, hsd]; exact hL2
        · rw [e1, Nat.sub_zero]; exact hLP
      · rw [li_lt, z7, htp] at z
        have k11 : K ≠ 12 := fun e => by
          rw [e] at z
          have := li_p3 hP3 12
          have e3 : (3 : Int) ^ 12 = 531441 := rfl
          omega
        have ps : (P : Int) ^ (K + 1) = (P : Int) ^ K * P := Int.pow_succ _ _
        have t0 : (0 : Int) < (P : Int) ^ K := Int.pow_pos (by omega)
        have le2 : (P : Int) ^ K * P ≤ 70000 * P := Int.mul_le_mul_of_nonneg_right (by omega) (by omega)
        have t1 : 0 ≤ (P : Int) ^ K * P := Int.mul_nonneg (by omega) (by omega)
        have m2 : (tp * pr).toInt = (P : Int) ^ (K + 1) := by rw [li_mul (by rw [htp, hpr]; omega) (by rw [htp, hpr]; omega), htp, hpr, ps]
        exact nm_e (ih (K + 1) _ (by omega) (by omega) (by omega) m2 (by rw [ps]; exact le2))
  have p1 : (P : Int) ^ 1 = P := by rw [Int.pow_succ, Int.pow_zero, Int.one_mul]
  exact ⟨12, main 12 1 pr (by omega) (by omega) (by omega) (by rw [p1]; exact hpr) (by rw [p1]; omega)⟩
end
end
section
/-! onesIn, comesBefore, insertFactor -/
/-- factor k of the list -/
def fl_r (g : Nat → Int32) (k : Nat) : po_P := fun i => if i < 6 then (g (6 * k + i)).toInt else 0
theorem li_i6 (k i : Nat) : (6 * nI k + nI i : Int32) = nI (6 * k + i) := by
  rw [show (6 : Int32) = nI 6 from rfl, pk_mul, nI_add]
theorem fl_6 (g : Nat → Int32) (k i : Nat) (h : 6 ≤ i) : fl_r g k i = 0 := if_neg (by omega)
theorem fl_u {g : Nat → Int32} {k i k' : Nat} {v : Int32} (hi : i < 6) : fl_r (upd g (6 * k + i) v) k' = if k' = k then fd_w (fl_r g k) i v.toInt else fl_r g k' := by
  funext j
  by_cases e : k' = k
  · subst e
    rw [if_pos rfl]
    simp only [fl_r, fd_w]
    by_cases f : j = i
    · subst f; rw [if_pos hi, if_pos rfl, pk_us]
    · rw [if_neg f]
      by_cases hj : j < 6
      · rw [if_pos hj, if_pos hj, pk_un (by omega)]
      · rw [if_neg hj, if_neg hj]
  · rw [if_neg e]
    simp only [fl_r]
    by_cases hj : j < 6
    · rw [if_pos hj, if_pos hj, pk_un (by omega)]
    · rw [if_neg hj, if_neg hj]
def pc_n (s : Nat) : Nat := s % 2 + s / 2 % 2 + s / 4 % 2 + s / 8 % 2 + s / 16 % 2
theorem pc_bit : ∀ s, s < 32 → ∀ k, k < 5 → ((nI s >>> (nI k &&& 31)) &&& 1) = nI (s / 2 ^ k % 2) := by decide +kernel
section
variable {fc lc dc : Int32} {mo pr : Int64} {a : Nat → Int64} {g : Nat → Int32} {a3 : Nat → Int64} {a4 a5 a6 : Nat → Int32}
theorem fd_onesIn {post : Int32 → Prop} {s : Nat} (hs : s < 32) (H : post (nI (pc_n s))) : wpX_onesIn post (fc, mo, pr, lc, dc, a, g, a3, a4, a5, a6) (nI s) := by
  have st : ∀ (n k c : Nat), k < 5 → wX_onesIn_4 post (nI s) fc mo pr lc dc a g a3 a4 a5 a6 n (nI (c + s / 2 ^ k % 2)) (nI (k + 1)) → wX_onesIn_4 post (nI s) fc mo pr lc dc a g a3 a4 a5 a6 (n + 1) (nI c) (nI k) := by
    intro n k c hk h
    refine pk_le 5 k (fun z => absurd z (by omega)) (fun _ => nm_r (by rw [pc_bit s hs k hk, nI_add]) (nm_r (nI_1 k) h))
  refine ⟨6, ?_⟩
  show wX_onesIn_4 post (nI s) fc mo pr lc dc a g a3 a4 a5 a6 6 (nI 0) (nI 0)
  refine st 5 0 0 (by omega) (st 4 1 _ (by omega) (st 3 2 _ (by omega) (st 2 3 _ (by omega) (st 1 4 _ (by omega) (pk_le 5 5 (fun _ => ?_) (fun z => absurd z (by omega)))))))
  have e : 0 + s / 2 ^ 0 % 2 + s / 2 ^ 1 % 2 + s / 2 ^ 2 % 2 + s / 2 ^ 3 % 2 + s / 2 ^ 4 % 2 = pc_n s := by
    simp only [pc_n, Nat.pow_zero, Nat.div_one, Nat.zero_add]
  rw [e]; exact H
theorem fd_cb51 {post : Int32 → Prop} {s k d : Nat} (hs : s < 26) (hk : k < 6) (hd : d < 6) (H0 : ¬ (∃ i, i ≤ d ∧ fd_r a s i < fl_r g k i ∧ ∀ j, i < j → j ≤ d → fd_r a s j = fl_r g k j) → post 0) (H1 : (∃ i, i ≤ d ∧ fd_r a s i < fl_r g k i ∧ ∀ j, i < j → j ≤ d → fd_r a s j = fl_r g k j) → post 1) : ∀ c, c ≤ d + 1 → (∀ j, c ≤ j → j ≤ d → fd_r a s j = fl_r g k j) → wX_comesBefore_51 post (nI s) (nI k) fc mo pr lc dc a g a3 a4 a5 a6 (c + 1) (nI c + (-1)) := by
  intro c
  induction c with
  | zero =>
    intro _ h
    exact br_t (by decide) (H0 (fun z => by
      obtain ⟨i, z1, z2, _⟩ := z
      rw [h i (by omega) z1] at z2; omega))
  | succ c ih =>
    intro hc h
    rw [pk_m1]
    refine br_f (nI_pos (by omega)) ⟨pk_in (6 * k + c) 36 (by omega) (li_i6 k c), ?_⟩
    rw [li_i6, li_ix, nI_clamp (by omega), nI_clamp (by omega)]
    have e1 : (a (12 * s + c)).toInt = fd_r a s c := (fd_r_i (by omega)).symm
    have e2 : ((g (6 * k + c)).toInt64).toInt = fl_r g k c := by rw [Int32.toInt_toInt64]; simp only [fl_r]; rw [if_pos (by omega)]
    refine nm_e ⟨pk_in (12 * s + c) 312 (by omega) rfl, br_c (fun z => nm_e (ih (by omega) (fun j h1 h2 => ?_))) (fun z => ⟨pk_in (12 * s + c) 312 (by omega) rfl, br_c (fun y => H0 (fun w => ?_)) (fun y => H1 ⟨c, by omega, ?_, fun j h1 h2 => h j (by omega) h2⟩)⟩)⟩
    · by_cases e : j = c
      · rw [e, ← e1, ← e2, z]
      · exact h j (by omega) h2
    · have z' : fd_r a s c ≠ fl_r g k c := fun v => z (li_eq.mpr (by rw [e1, e2, v]))
      rw [li_le, e1, e2] at y
      obtain ⟨i, w1, w2, w3⟩ := w
      rcases Nat.lt_trichotomy i c with q | q | q
      · exact z' (w3 c q (by omega))
      · rw [q] at w2; omega
      · rw [h i (by omega) w1] at w2; omega
    · rw [li_le, e1, e2] at y; omega
/-- the order of the list -/
def cb_lt (T f : po_P) : Prop := ∃ d e, T d ≠ 0 ∧ (∀ i, d < i → T i = 0) ∧ f e ≠ 0 ∧ (∀ i, e < i → f i = 0) ∧ (d < e ∨ (d = e ∧ ∃ i, i ≤ d ∧ T i < f i ∧ ∀ j, i < j → j ≤ d → T j = f j))
theorem fd_comesBefore {post : Int32 → Prop} {s k : Nat} (hs : s < 26) (hk : k < 6) (hf : ∃ i, fl_r g k i ≠ 0) (h0 : ∃ i, fd_r a s i ≠ 0) (H0 : ¬ cb_lt (fd_r a s) (fl_r g k) → post 0) (H1 : cb_lt (fd_r a s) (fl_r g k) → post 1) : wpX_comesBefore post (fc, mo, pr, lc, dc, a, g, a3, a4, a5, a6) (nI s) (nI k) := by
  unfold wpX_comesBefore
  dsimp only
  obtain ⟨i0, hi0⟩ := h0
  refine fd_degreeOf hs (fun z => absurd (z i0) hi0) (fun d hd d1 d2 => ?_)
  have main : ∀ (c : Nat), c ≤ 6 → (∀ i, c ≤ i → fl_r g k i = 0) → wX_comesBefore_9 post (nI s) (nI k) (nI d) fc mo pr lc dc a g a3 a4 a5 a6 c (nI c + (-1)) := by
    intro c
    induction c with
    | zero =>
      intro _ h
      obtain ⟨i, hi⟩ := hf
      exact absurd (h i (by omega)) hi
    | succ c ih =>
      intro hc h
      rw [pk_m1]
      refine ⟨pk_in (6 * k + c) 36 (by omega) (li_i6 k c), ?_⟩
      rw [li_i6, nI_clamp (by omega)]
      refine br_c (fun z => nm_e (ih (by omega) (fun i hi => ?_))) (fun z => ?_)
      · by_cases e : i = c
        · rw [e]; simp only [fl_r]; rw [if_pos (by omega), z]; rfl
        · exact h i (by omega)
      · have fc0 : fl_r g k c ≠ 0 := by
          simp only [fl_r]; rw [if_pos (by omega)]
          exact fun w => z (Int32.toInt_inj.mp w)
        have uq : ∀ (x y : Nat), fd_r a s x ≠ 0 → (∀ i, x < i → fd_r a s i = 0) → fl_r g k y ≠ 0 → (∀ i, y < i → fl_r g k i = 0) → x = d ∧ y = c := fun x y x1 x2 y1 y2 => by
          constructor
          · rcases Nat.lt_trichotomy x d with w | w | w
            · exact absurd (x2 d w) d1
            · exact w
            · exact absurd (d2 x w) x1
          · rcases Nat.lt_trichotomy y c with w | w | w
            · exact absurd (y2 c w) fc0
            · exact w
            · exact absurd (h y (by omega)) y1
        refine pk_eq d c (fun e => ⟨d + 2, ?_⟩) (fun e => pk_le c d (fun w => H0 (fun v => ?_)) (fun w => H1 ⟨d, c, d1, d2, fc0, fun i hi => h i (by omega), Or.inl w⟩))
        · have := fd_cb51 (post := post) (fc := fc) (mo := mo) (pr := pr) (lc := lc) (dc := dc) (a := a) (g := g) (a3 := a3) (a4 := a4) (a5 := a5) (a6 := a6) (d := d) hs hk (by omega) (fun v => H0 (fun w => v ?_)) (fun v => H1 ⟨d, c, d1, d2, fc0, fun i hi => h i (by omega), Or.inr ⟨e, v⟩⟩) (d + 1) (Nat.le_refl _) (fun j h1 h2 => by omega)
          · rw [pk_m1] at this
            exact this
          · obtain ⟨x, y, x1, x2, y1, y2, o⟩ := w
            obtain ⟨rfl, rfl⟩ := uq x y x1 x2 y1 y2
            rcases o with o | ⟨_, o⟩
            · omega
            · exact o
        · obtain ⟨x, y, x1, x2, y1, y2, o⟩ := v
          obtain ⟨rfl, rfl⟩ := uq x y x1 x2 y1 y2
          rcases o with o | ⟨o, _⟩ <;> omega
  have := main 6 (Nat.le_refl 6) (fl_6 g k)
  rw [pk_m1] at this
  exact ⟨6, this⟩
end
section
variable {fc lc dc : Int32} {mo pr : Int64} {a : Nat → Int64} {a3 : Nat → Int64} {a4 a5 a6 : Nat → Int32}
theorem fd_if67 {post : St1 → Prop} {s pl n : Nat} {g : Nat → Int32} (hs : s < 26) (hpl : pl < 6) (hT : ∀ i, -2147483648 ≤ fd_r a s i ∧ fd_r a s i < 2147483648) (hT6 : ∀ i, 6 ≤ i → fd_r a s i = 0)
    (H : ∀ g', fl_r g' pl = fd_r a s → (∀ k, k ≠ pl → fl_r g' k = fl_r g k) → post (nI (n + 1), mo, pr, lc, dc, a, g', a3, a4, a5, a6)) : ∃ f, wX_insertFactor_67 post (nI s) (nI pl) (nI n) mo pr lc dc f 0 a g a3 a4 a5 a6 := by
  refine pk_loop (fun f i h => wX_insertFactor_67 post (nI s) (nI pl) (nI n) mo pr lc dc f (nI i) a h a3 a4 a5 a6) (fun i h => fl_r h pl = fd_mix i (fd_r a s) (fl_r g pl) ∧ ∀ k, k ≠ pl → fl_r h k = fl_r g k) 6 0 g (by omega) ⟨by rw [fd_mix_0], fun _ _ => rfl⟩
    (fun f h hh => pk_le 6 6 (fun _ => nm_r (nI_1 n) (H h (by rw [hh.1]; exact fd_mix_e (fun i hi => by rw [hT6 i hi, fl_6 g pl i hi])) hh.2)) (fun z => absurd z (by omega)))
    (fun f i h hi hh hw => pk_le 6 i (fun z => absurd z (by omega)) (fun _ => ⟨pk_in (12 * s + i) 312 (by omega) (li_ix s i), pk_in (6 * pl + i) 36 (by omega) (li_i6 pl i), ?_⟩))
  rw [li_ix, li_i6, nI_clamp (by omega), nI_clamp (by omega)]
  have b := hT i
  have e : ((a (12 * s + i)).toInt32).toInt = fd_r a s i := by
    rw [Int64.toInt_toInt32, ← fd_r_i (show i < 12 by omega), Int.bmod_def]; omega
  refine nm_e (nm_r (nI_1 i) (hw _ ⟨?_, fun k hk => ?_⟩))
  · rw [fl_u hi, if_pos rfl, hh.1, e, fd_mix_s rfl]
  · rw [fl_u hi, if_neg hk]; exact hh.2 k hk
theorem fd_if22 {post : St1 → Prop} {J : Int32 → (Nat → Int64) → (Nat → Int32) → (Nat → Int64) → (Nat → Int32) → (Nat → Int32) → (Nat → Int32) → Prop} {s pl : Nat} {g : Nat → Int32} (hpl : pl + 1 < 6)
    (H : ∀ g', fl_r g' (pl + 1) = fl_r g pl → (∀ k, k ≠ pl + 1 → fl_r g' k = fl_r g k) → J (nI pl) a g' a3 a4 a5 a6) : ∃ f, wX_insertFactor_22 post J (nI s) (nI (pl + 1)) fc mo pr lc dc f 0 a g a3 a4 a5 a6 := by
  refine pk_loop (fun f i h => wX_insertFactor_22 post J (nI s) (nI (pl + 1)) fc mo pr lc dc f (nI i) a h a3 a4 a5 a6) (fun i h => fl_r h (pl + 1) = fd_mix i (fl_r g pl) (fl_r g (pl + 1)) ∧ ∀ k, k ≠ pl + 1 → fl_r h k = fl_r g k) 6 0 g (by omega) ⟨by rw [fd_mix_0], fun _ _ => rfl⟩
    (fun f h hh => pk_le 6 6 (fun _ => nm_r (pk_m1 pl) (H h (by rw [hh.1]; exact fd_mix_e (fun i hi => by rw [fl_6 g pl i hi, fl_6 g (pl + 1) i hi])) hh.2)) (fun z => absurd z (by omega)))
    (fun f i h hi hh hw => pk_le 6 i (fun z => absurd z (by omega)) (fun _ => ?_))
  have e1 : ((6 * nI (pl + 1) - 6) + nI i : Int32) = nI (6 * pl + i) := by
    rw [show (6 : Int32) = nI 6 from rfl, pk_mul, pk_sub (by omega), nI_add]; congr 1
  refine ⟨pk_in (6 * pl + i) 36 (by omega) e1, pk_in (6 * (pl + 1) + i) 36 (by omega) (li_i6 (pl + 1) i), ?_⟩
  rw [e1, li_i6, nI_clamp (by omega), nI_clamp (by omega)]
  have e : (h (6 * pl + i)).toInt = fl_r g pl i := by
    have := congrFun (hh.2 pl (by omega)) i
    simp only [fl_r] at this ⊢
    rw [if_pos hi, if_pos hi] at this
    rw [if_pos hi]; exact this
  refine nm_e (nm_r (nI_1 i) (hw _ ⟨?_, fun k hk => ?_⟩))
  · rw [fl_u hi, if_pos rfl, hh.1, e, fd_mix_s rfl]
  · rw [fl_u hi, if_neg hk]; exact hh.2 k hk
/-- the list g' is the list g of n factors with T put in -/
def fl_ins (g g' : Nat → Int32) (n : Nat) (T : po_P) : Prop := ∃ pl, pl ≤ n ∧ (∀ j, j < pl → fl_r g' j = fl_r g j) ∧ fl_r g' pl = T ∧ (∀ j, pl ≤ j → j < n → fl_r g' (j + 1) = fl_r g j) ∧ (∀ j, pl ≤ j → j < n → cb_lt T (fl_r g j)) ∧ (0 < pl → ¬ cb_lt T (fl_r g (pl - 1)))
theorem fd_insertFactor {post : St1 → Prop} {s n : Nat} {g : Nat → Int32} (hs : s < 26) (hn : n < 6) (hT : ∀ i, -2147483648 ≤ fd_r a s i ∧ fd_r a s i < 2147483648) (hT6 : ∀ i, 6 ≤ i → fd_r a s i = 0) (hT0 : ∃ i, fd_r a s i ≠ 0) (hg : ∀ k, k < n → ∃ i, fl_r g k i ≠ 0)
    (H : ∀ g', fl_ins g g' n (fd_r a s) → post (nI (n + 1), mo, pr, lc, dc, a, g', a3, a4, a5, a6)) : wpX_insertFactor post (nI n, mo, pr, lc, dc, a, g, a3, a4, a5, a6) (nI s) := by
  have main : ∀ (f pl : Nat) (h : Nat → Int32), f = pl + 1 → pl ≤ n → (∀ j, j < pl → fl_r h j = fl_r g j) → (∀ j, pl ≤ j → j < n → fl_r h (j + 1) = fl_r g j) → (∀ j, pl ≤ j → j < n → cb_lt (fd_r a s) (fl_r g j)) → wX_insertFactor_5 post (nI s) (nI n) mo pr lc dc f (nI pl) a h a3 a4 a5 a6 := by
    intro f
    induction f with
    | zero => intro pl h h1; omega
    | succ f ih =>
      intro pl h hf hpl h1 h2 h3
      have fin : (0 < pl → ¬ cb_lt (fd_r a s) (fl_r g (pl - 1))) → ∃ f, wX_insertFactor_67 post (nI s) (nI pl) (nI n) mo pr lc dc f 0 a h a3 a4 a5 a6 := fun hl => fd_if67 hs (by omega) hT hT6 (fun g' k1 k2 => H g' ⟨pl, hpl, fun j hj => by rw [k2 j (by omega)]; exact h1 j hj, k1, fun j hj1 hj2 => by rw [k2 (j + 1) (by omega)]; exact h2 j hj1 hj2, h3, hl⟩)
      cases pl with
      | zero => exact br_t (by decide) (fin (fun z => absurd z (by omega)))
      | succ pl =>
        refine br_f (nI_nle (by omega) (by omega)) ?_
        rw [nI_pred]
        refine fd_comesBefore hs (by omega) (by rw [h1 pl (by omega)]; exact hg pl (by omega)) hT0 (fun z => br_t rfl (fin (fun _ => by rw [h1 pl (by omega)] at z; exact z))) (fun z => br_f (by decide) (fd_if22 (by omega) (fun g' k1 k2 => ih pl g' (by omega) (by omega) (fun j hj => ?_) (fun j hj1 hj2 => ?_) (fun j hj1 hj2 => ?_))))
        · rw [k2 j (by omega)]; exact h1 j (by omega)
        · by_cases e : j = pl
          · rw [e, k1]; exact h1 pl (by omega)
          · rw [k2 (j + 1) (by omega)]; exact h2 j (by omega) hj2
        · by_cases e : j = pl
          · rw [e, ← h1 pl (by omega)]; exact z
          · exact h3 j (by omega) hj2
  exact ⟨n + 1, main (n + 1) n g rfl (Nat.le_refl n) (fun _ _ => rfl) (fun j h1 h2 => by omega) (fun j h1 h2 => by omega)⟩
theorem fl_ins_u {g h g' h' : Nat → Int32} {n : Nat} {T : po_P} (e : ∀ k, k < n → fl_r g k = fl_r h k) (a : fl_ins g g' n T) (b : fl_ins h h' n T) : ∀ k, k < n + 1 → fl_r g' k = fl_r h' k := by
  obtain ⟨p, a1, a2, a3, a4, a5, a6⟩ := a
  obtain ⟨q, b1, b2, b3, b4, b5, b6⟩ := b
  have pq : p = q := by
    rcases Nat.lt_trichotomy p q with z | z | z
    · have h1 := a5 (q - 1) (by omega) (by omega)
      rw [e (q - 1) (by omega)] at h1
      exact absurd h1 (b6 (by omega))
    · exact z
    · have h1 := b5 (p - 1) (by omega) (by omega)
      rw [← e (p - 1) (by omega)] at h1
      exact absurd h1 (a6 (by omega))
  subst pq
  intro k hk
  rcases Nat.lt_trichotomy k p with z | z | z
  · rw [a2 k z, b2 k z]; exact e k (by omega)
  · rw [z, a3, b3]
  · obtain ⟨j, rfl⟩ : ∃ j, k = j + 1 := ⟨k - 1, by omega⟩
    rw [a4 j (by omega) (by omega), b4 j (by omega) (by omega)]; exact e j (by omega)
end
end
section
/-! addFactor -/
theorem ga_ins {R : Type} [Lean.Grind.CommRing R] {a b t : R} : a * (t * b) = a * b * t := by grind
theorem fl_prod {g g' : Nat → Int32} {n : Nat} {T : po_P} (h : fl_ins g g' n T) : po_prod (fl_r g') (n + 1) = po_mul (po_prod (fl_r g) n) T := by
  obtain ⟨pl, h1, h2, h3, h4, _, _⟩ := h
  have e1 := po_prod_add (fl_r g') pl (n - pl + 1)
  rw [show pl + (n - pl + 1) = n + 1 by omega] at e1
  have e2 := po_prod_add (fl_r g) pl (n - pl)
  rw [show pl + (n - pl) = n by omega] at e2
  rw [e1, e2, po_prod_1, Nat.add_zero, h3, po_prod_e pl (fun k hk => h2 k hk)]
  have e3 : po_prod (fun i => fl_r g' (pl + (i + 1))) (n - pl) = po_prod (fun i => fl_r g (pl + i)) (n - pl) := po_prod_e _ (fun k hk => by
    have := h4 (pl + k) (by omega) (by omega)
    rwa [show pl + k + 1 = pl + (k + 1) by omega] at this)
  rw [e3]
  exact @ga_ins po_P po_ring _ _ _
theorem ga_cyc {R : Type} [Lean.Grind.CommRing R] {z t w : R} : z * t * w = z * (w * t) := by grind
/-- a factor of the list: of degree 1 to 5, its leading coefficient above 0 -/
def fl_ok (f : po_P) : Prop := ∃ d, 1 ≤ d ∧ d ≤ 5 ∧ 0 < f d ∧ ∀ i, d < i → f i = 0
theorem fl_ok_n0 {f : po_P} (h : fl_ok f) : ∃ i, f i ≠ 0 := by
  obtain ⟨d, _, _, h, _⟩ := h
  exact ⟨d, by omega⟩
theorem fl_ins_ok {g g' : Nat → Int32} {n : Nat} {T : po_P} (h : fl_ins g g' n T) (hT : fl_ok T) (hg : ∀ k, k < n → fl_ok (fl_r g k)) : ∀ k, k < n + 1 → fl_ok (fl_r g' k) := by
  obtain ⟨pl, h1, h2, h3, h4, _, _⟩ := h
  intro k hk
  rcases Nat.lt_trichotomy k pl with z | z | z
  · rw [h2 k z]; exact hg k (by omega)
  · rw [z, h3]; exact hT
  · obtain ⟨j, rfl⟩ : ∃ j, k = j + 1 := ⟨k - 1, by omega⟩
    rw [h4 j (by omega) (by omega)]; exact hg j (by omega)
/-- the list g of n factors, with the product Z -/
def fl_I (g : Nat → Int32) (n : Nat) (Z : po_P) : Prop := (∀ k, k < n → fl_ok (fl_r g k)) ∧ po_prod (fl_r g) n = Z
/-- the place of T among n factors, and the list with T put in -/
noncomputable def fl_pl (T : po_P) (ls : Nat → po_P) : Nat → Nat
  | 0 => 0
  | n + 1 => @ite _ (cb_lt T (ls n)) (Classical.propDecidable _) (fl_pl T ls n) (n + 1)
noncomputable def fl_put (T : po_P) (ls : Nat → po_P) (n : Nat) : Nat → po_P := fun j => if j < fl_pl T ls n then ls j else if j = fl_pl T ls n then T else ls (j - 1)
noncomputable def fl_puts (T : po_P) : Nat → Nat → (Nat → po_P) → Nat → po_P
  | 0, _, ls => ls
  | e + 1, n, ls => fl_puts T e (n + 1) (fl_put T ls n)
theorem fl_pl_e {T : po_P} {ls : Nat → po_P} {p : Nat} : ∀ n, p ≤ n → (∀ j, p ≤ j → j < n → cb_lt T (ls j)) → (0 < p → ¬ cb_lt T (ls (p - 1))) → fl_pl T ls n = p
  | 0, h1, _, _ => by rw [fl_pl]; omega
  | n + 1, h1, h2, h3 => by
    rw [fl_pl]
    by_cases e : p = n + 1
    · rw [if_neg (by rw [e] at h3; exact h3 (by omega)), e]
    · rw [if_pos (h2 n (by omega) (by omega))]
      exact fl_pl_e n (by omega) (fun j a b => h2 j a (by omega)) h3
theorem fl_ins_put {g g' : Nat → Int32} {n : Nat} {T : po_P} {ls : Nat → po_P} (h : fl_ins g g' n T) (e : ∀ k, k < n → fl_r g k = ls k) : ∀ k, k < n + 1 → fl_r g' k = fl_put T ls n k := by
  obtain ⟨p, a1, a2, a3, a4, a5, a6⟩ := h
  have pe : fl_pl T ls n = p := fl_pl_e n a1 (fun j h1 h2 => by rw [← e j h2]; exact a5 j h1 h2) (fun h => by rw [← e (p - 1) (by omega)]; exact a6 h)
  intro k hk
  simp only [fl_put]
  rw [pe]
  rcases Nat.lt_trichotomy k p with z | z | z
  · rw [if_pos z, a2 k z, e k (by omega)]
  · rw [if_neg (by omega), if_pos z, z, a3]
  · rw [if_neg (by omega), if_neg (by omega)]
    obtain ⟨j, rfl⟩ : ∃ j, k = j + 1 := ⟨k - 1, by omega⟩
    rw [a4 j (by omega) (by omega), e j (by omega)]; rfl
theorem fl_puts_x (T : po_P) : ∀ (e n : Nat) (ls : Nat → po_P), fl_puts T (e + 1) n ls = fl_put T (fl_puts T e n ls) (n + e)
  | 0, _, _ => rfl
  | e + 1, n, ls => by
    rw [fl_puts, fl_puts_x T e (n + 1), show n + 1 + e = n + (e + 1) by omega]; rfl
section
variable {lc dc : Int32} {mo pr : Int64} {a3 : Nat → Int64} {a4 a5 a6 : Nat → Int32}
def af_fr (a a' : Nat → Int64) : Prop := ∀ s, s ≠ 4 → s ≠ 9 → s ≠ 10 → s ≠ 23 → fd_r a' s = fd_r a s
theorem fd_addFactor {post : St1 → Prop} {a : Nat → Int64} {s n e : Nat} {g : Nat → Int32} {Wc : Nat → po_P} {Z : po_P} {ls : Nat → po_P} (hls : ∀ k, k < n → fl_r g k = ls k) (hs : s < 26) (hne : n + e ≤ 6) (hT : ∀ i, -2147483648 ≤ fd_r a s i ∧ fd_r a s i < 2147483648) (hTok : fl_ok (fd_r a s)) (hg : fl_I g n Z) (hW : fd_r a 4 = Wc e) (hch : ∀ i, i < e → fd_TQ (Wc (i + 1)) (fd_r a s) (Wc i)) (hno : ¬ fd_D (Wc 0) (fd_r a s))
    (H : ∀ a' g', af_fr a a' → fd_r a' 4 = Wc 0 → (∃ Z', fl_I g' (n + e) Z' ∧ po_mul Z' (Wc 0) = po_mul Z (Wc e)) → (∀ k, k < n + e → fl_r g' k = fl_puts (fd_r a s) e n ls k) → post (nI (n + e), mo, pr, lc, dc, a', g', a3, a4, a5, a6)) :
    wpX_addFactor post (nI n, mo, pr, lc, dc, a, g, a3, a4, a5, a6) (nI s) := by
  obtain ⟨d, d1, d2, d3, d4⟩ := hTok
  unfold wpX_addFactor
  dsimp only
  refine fd_copy (t := 23) (by omega) hs (fun b hb => ?_)
  dsimp only
  have main : ∀ (f i : Nat) (c : Nat → Int64) (h : Nat → Int32) (Z1 : po_P), f = i + 1 → i ≤ e → af_fr a c → fd_r c 23 = fd_r a s → fd_r c 4 = Wc i → fl_I h (n + (e - i)) Z1 → po_mul Z1 (Wc i) = po_mul Z (Wc e) → (∀ k, k < n + (e - i) → fl_r h k = fl_puts (fd_r a s) (e - i) n ls k) → wX_addFactor_7 post f (nI (n + (e - i))) mo pr lc dc c h a3 a4 a5 a6 := by
    intro f
    induction f with
    | zero => intro i c h Z1 h1; omega
    | succ f ih =>
      intro i c h Z1 hf hi hfr h23 h4 hh hZ hl
      cases i with
      | zero =>
        refine fd_divideC (x := 4) (y := 23) (e := d) (by omega) (by omega) (by omega) (by omega) (by rw [h23]; exact d3) (by rw [h23]; exact d4) (fun _ c' q r hc' => ?_) (fun c' q hc' k1 k2 k3 => ?_)
        · dsimp only
          refine br_t rfl (H c' h (fun s' s4 s9 s10 s23 => ?_) ?_ ⟨Z1, hh, hZ⟩ hl)
          · rw [hc', fd_u_n s9, fd_u_n s10]; exact hfr s' s4 s9 s10 s23
          · rw [hc', fd_u_n (by omega), fd_u_n (by omega)]; exact h4
        · exfalso
          rw [h23, h4] at k1
          rw [h23] at k2
          rw [h4] at k3
          exact hno ⟨q, d, d3, d4, k1, k2, k3⟩
      | succ i =>
        obtain ⟨q1, q2, q3⟩ := hch i (by omega)
        refine fd_divideT (x := 4) (y := 23) (e := d) (Q := Wc i) (by omega) (by omega) (by omega) (by omega) (by rw [h23]; exact d3) (by rw [h23]; exact d4) q1 (by rw [h4, h23]; exact q2) (by rw [h23]; exact q3 d d3 d4) (fun c' hc' => ?_)
        dsimp only
        have c9 : fd_r c' 9 = Wc i := by rw [hc', fd_u_s]
        refine br_f (by decide) (fd_copy (t := 4) (f := 9) (by omega) (by omega) (fun c2 hc2 => ?_))
        dsimp only
        rw [c9] at hc2
        have c23 : fd_r c2 23 = fd_r a s := by rw [hc2, fd_u_n (by omega), hc', fd_u_n (by omega), fd_u_n (by omega), h23]
        refine fd_insertFactor (s := 23) (by omega) (by omega) (by rw [c23]; exact hT) (fun k hk => by rw [c23]; exact d4 k (by omega)) (by rw [c23]; exact ⟨d, by omega⟩) (fun k hk => fl_ok_n0 (hh.1 k hk)) (fun h' hins => ?_)
        dsimp only
        rw [c23] at hins
        have en : n + (e - (i + 1)) + 1 = n + (e - i) := by omega
        rw [en]
        refine ih i c2 h' (po_mul Z1 (fd_r a s)) (by omega) (by omega) (fun s' s4 s9 s10 s23 => ?_) c23 (by rw [hc2, fd_u_s]) ⟨?_, ?_⟩ ?_ ?_
        · rw [hc2, fd_u_n s4, hc', fd_u_n s9, fd_u_n s10]; exact hfr s' s4 s9 s10 s23
        · rw [← en]; exact fl_ins_ok hins ⟨d, d1, d2, d3, d4⟩ hh.1
        · rw [← en, fl_prod hins, hh.2]
        · rw [← hZ, q2]
          exact @ga_cyc po_P po_ring _ _ _
        · rw [show e - i = (e - (i + 1)) + 1 by omega, fl_puts_x]
          exact fl_ins_put hins hl
  refine ⟨e + 1, ?_⟩
  have := main (e + 1) e b g Z rfl (Nat.le_refl e) (fun s' s4 s9 s10 s23 => by rw [hb, fd_u_n s23]) (by rw [hb, fd_u_s]) (by rw [hb, fd_u_n (by omega)]; exact hW) (by rw [Nat.sub_self]; exact hg) rfl (by rw [Nat.sub_self]; exact hls)
  rw [Nat.sub_self] at this
  exact this
end
end
section
/-! tryProduct -/
def po_ps (V : Nat → po_P) (s : Nat) : Nat → po_P
  | 0 => po_C 1
  | k + 1 => if s / 2 ^ k % 2 = 1 then po_mul (po_ps V s k) (V k) else po_ps V s k
def po_psd (dg : Nat → Nat) (s : Nat) : Nat → Nat
  | 0 => 0
  | k + 1 => if s / 2 ^ k % 2 = 1 then po_psd dg s k + dg k else po_psd dg s k
theorem po_psd_le (dg : Nat → Nat) (s : Nat) : ∀ l, po_psd dg s l ≤ po_sd dg l
  | 0 => Nat.le_refl _
  | l + 1 => by
    rw [po_psd, po_sd]
    have := po_psd_le dg s l
    split <;> omega
theorem po_psd_m (dg : Nat → Nat) (s : Nat) {a : Nat} : ∀ b, po_psd dg s a ≤ po_psd dg s (a + b)
  | 0 => Nat.le_refl _
  | b + 1 => by
    rw [show a + (b + 1) = (a + b) + 1 by omega, po_psd]
    have := po_psd_m dg s (a := a) b
    split <;> omega
theorem po_ps_mo {m : Int} {V : Nat → po_P} {dg : Nat → Nat} (s : Nat) : ∀ l, (∀ k, k < l → po_mo m (dg k) (V k)) → po_mo m (po_psd dg s l) (po_ps V s l)
  | 0, _ => po_mo_1 m
  | l + 1, h => by
    rw [po_psd, po_ps]
    have := po_ps_mo s l (fun k hk => h k (by omega))
    split
    · exact po_mo_mul this (h l (by omega))
    · exact this
/-- the trial divisor made of the pieces in the set s -/
def tp_T (m ld : Int) (V : Nat → po_P) (dg : Nat → Nat) (s l : Nat) (T : po_P) : Prop := ∃ X, fd_rd m X ∧ po_eq m X (po_mul (po_C ld) (po_ps V s l)) ∧ (∀ i, po_psd dg s l < i → X i = 0) ∧ X (po_psd dg s l) = ld ∧ fd_pp (fd_cn m X) T
theorem ga_pss {R : Type} [Lean.Grind.CommRing R] {m X l A V x Y y : R} (h : X = l * A + m * x) (k : Y = X * V + m * y) : Y = l * (A * V) + m * (x * V + y) := by grind
section
variable {dc : Int32} {pr : Int64} {a3 : Nat → Int64} {a4 a5 a6 : Nat → Int32}
theorem fd_tryProduct {post : Int32 → St1 → Prop} {a : Nat → Int64} {g : Nat → Int32} {tp : Int64} {n l s nL : Nat} {m ld : Int} {V : Nat → po_P} {dg : Nat → Nat} {Z : po_P} {ls : Nat → po_P} {R : po_P → po_P → Nat → po_P → Prop}
    (hls : ∀ k, k < n → fl_r g k = ls k) (hs : s < 32) (hl5 : l ≤ 5) (hsd : po_sd dg l ≤ 5) (htp : tp.toInt = m) (hm0 : 2 ≤ m) (hm : m ≤ 2147483648) (hL1 : fd_r a 5 nL = ld) (hL2 : ∀ i, nL < i → fd_r a 5 i = 0) (hld : 0 < ld) (hld2 : 2 * ld ≤ m) (hV : ∀ j, j < l → fd_r a (11 + j) = V j) (hV2 : ∀ j, j < l → (∀ i, 0 ≤ V j i ∧ V j i < m) ∧ V j (dg j) = 1 ∧ ∀ i, dg j < i → V j i = 0) (hg : fl_I g n Z)
    (M : ∀ T, tp_T m ld V dg s l T → (fd_D (fd_r a 5) T ∨ fd_TD (fd_r a 5) T) → ∃ (Q : po_P) (e : Nat) (Wc : Nat → po_P), fd_TQ (fd_r a 5) T Q ∧ fl_ok T ∧ (∀ i, -2147483648 ≤ T i ∧ T i < 2147483648) ∧ n + e ≤ 6 ∧ fd_r a 4 = Wc e ∧ (∀ i, i < e → fd_TQ (Wc (i + 1)) T (Wc i)) ∧ ¬ fd_D (Wc 0) T ∧ R T Q e (Wc 0))
    (H0 : ∀ a' T, tp_T m ld V dg s l T → ¬ fd_TD (fd_r a 5) T → (∀ q, q ≠ 9 → q ≠ 10 → q ≠ 22 → q ≠ 25 → fd_r a' q = fd_r a q) → post 0 (nI n, tp, pr, nI l, dc, a', g, a3, a4, a5, a6))
    (H1 : ∀ a' g' T Q e Y, tp_T m ld V dg s l T → (∀ q, q ≠ 4 → q ≠ 5 → q ≠ 9 → q ≠ 10 → q ≠ 22 → q ≠ 23 → q ≠ 25 → fd_r a' q = fd_r a q) → fd_r a' 5 = Q → fd_r a' 4 = Y → (∃ Z', fl_I g' (n + e) Z' ∧ po_mul Z' Y = po_mul Z (fd_r a 4)) → (∀ k, k < n + e → fl_r g' k = fl_puts T e n ls k) → R T Q e Y → post 1 (nI (n + e), tp, pr, nI l, dc, a', g', a3, a4, a5, a6)) :
    wpX_tryProduct post (nI n, tp, pr, nI l, dc, a, g, a3, a4, a5, a6) (nI s) := by
  have e11 : ∀ j, (11 + nI j : Int32) = nI (11 + j) := fun j => by rw [show (11 : Int32) = nI 11 from rfl, nI_add]
  have moV : ∀ k, k < l → po_mo m (dg k) (V k) := fun k hk => fd_top_mo (hV2 k hk).2.1 (hV2 k hk).2.2
  unfold wpX_tryProduct
  dsimp only
  refine fd_clear (t := 22) (by omega) (fun b hb => ?_)
  dsimp only
  have b5 : fd_r b 5 = fd_r a 5 := by rw [hb, fd_u_n (by omega)]
  refine fd_leadOf (s := 5) (by omega) (fun h0 => by rw [b5] at h0; rw [h0 nL] at hL1; omega) (fun d x hd hx h1 h2 => nm_e ⟨l + 1, ?_⟩)
  rw [b5] at hx h1 h2
  have dn : d = nL := by
    rcases Nat.lt_trichotomy d nL with y | y | y
    · rw [h2 nL y] at hL1; omega
    · exact y
    · exact absurd (hL2 d y) h1
  subst dn
  rw [hL1] at hx
  have hc : fd_r (vp_updL b 264 x) = fd_u (fd_r a) 22 (po_C ld) := by
    rw [show (264 : Nat) = 12 * 22 + 0 from rfl, fd_upd (by omega), hb, fd_u_s, fd_u_u, hx]; rfl
  -- what is done with the finished product
  have fin : ∀ (c : Nat → Int64) (X : po_P), (∀ q, q ≠ 22 → q ≠ 25 → fd_r c q = fd_r a q) → fd_r c 22 = X → fd_rd m X → po_eq m X (po_mul (po_C ld) (po_ps V s l)) → (∀ i, po_psd dg s l < i → X i = 0) → wX_tryProduct_21 post (nI s) 1 (nI l) (nI n) tp pr (nI l) dc c g a3 a4 a5 a6 := by
    intro c X ho h22 hX hXe hX0
    refine pk_le l l (fun _ => ?_) (fun z => absurd z (by omega))
    have XD : X (po_psd dg s l) = ld := by
      have mo := po_ps_mo s l moV
      have e1 := hXe (po_psd dg s l)
      rw [po_mul_C] at e1
      have e2 := Int.dvd_add e1 (Int.dvd_mul_of_dvd_right (b := ld) mo.2)
      rw [show X (po_psd dg s l) - ld * po_ps V s l (po_psd dg s l) + ld * (po_ps V s l (po_psd dg s l) - 1) = X (po_psd dg s l) - ld by grind] at e2
      have e3 : X (po_psd dg s l) % m = ld % m := Int.emod_eq_emod_iff_emod_sub_eq_zero.mpr (Int.emod_eq_zero_of_dvd e2)
      obtain ⟨x1, x2⟩ := hX (po_psd dg s l)
      rwa [Int.emod_eq_of_lt x1 x2, Int.emod_eq_of_lt (by omega) (by omega)] at e3
    refine fd_center (t := 22) (by omega) (by omega) (by rw [h22, htp]; exact hX) (by omega) (fun c1 k1 => ?_)
    dsimp only
    rw [h22, htp] at k1
    have c122 : fd_r c1 22 = fd_cn m X := by rw [k1, fd_u_s]
    have cnD : fd_cn m X (po_psd dg s l) = ld := by simp only [fd_cn]; rw [XD, if_pos hld2]
    have cnb : ∀ i, -m ≤ fd_cn m X i ∧ fd_cn m X i < m := fun i => by
      have := hX i
      simp only [fd_cn]; split <;> constructor <;> omega
    refine fd_makePrimitive (s := 22) (by omega) (fun i => by rw [c122]; have := cnb i; omega) (fun h0 => by rw [c122] at h0; rw [h0 _] at cnD; omega) (fun c2 T k2 hT => ?_)
    dsimp only
    rw [c122] at hT
    have c222 : fd_r c2 22 = T := by rw [k2, fd_u_s]
    have o2 : ∀ q, q ≠ 22 → q ≠ 25 → fd_r c2 q = fd_r a q := fun q q22 q25 => by rw [k2, fd_u_n q22, k1, fd_u_n q22]; exact ho q q22 q25
    have c25 := o2 5 (by omega) (by omega)
    have hTT : tp_T m ld V dg s l T := ⟨X, hX, hXe, hX0, XD, hT⟩
    obtain ⟨c0, _, _, _, e, e12, e1, e2⟩ := hT
    by_cases htd : fd_TD (fd_r a 5) T
    · obtain ⟨Q, ee, Wc, m1, m2, m3, m4, m5, m6, m7, m8⟩ := M T hTT (Or.inr htd)
      obtain ⟨q1, q2, q3⟩ := m1
      refine fd_divideT (x := 5) (y := 22) (e := e) (Q := Q) (by omega) (by omega) (by omega) (by omega) (by rw [c222]; exact e1) (by rw [c222]; exact e2) q1 (by rw [c25, c222]; exact q2) (by rw [c222]; exact q3 e e1 e2) (fun c3 k3 => ?_)
      dsimp only
      have c39 : fd_r c3 9 = Q := by rw [k3, fd_u_s]
      refine br_f (by decide) (fd_copy (t := 5) (f := 9) (by omega) (by omega) (fun c4 k4 => ?_))
      dsimp only
      rw [c39] at k4
      have o4 : ∀ q, q ≠ 5 → q ≠ 9 → q ≠ 10 → fd_r c4 q = fd_r c2 q := fun q q5 q9 q10 => by rw [k4, fd_u_n q5, k3, fd_u_n q9, fd_u_n q10]
      have c422 : fd_r c4 22 = T := by rw [o4 22 (by omega) (by omega) (by omega), c222]
      have c44 : fd_r c4 4 = fd_r a 4 := by rw [o4 4 (by omega) (by omega) (by omega)]; exact o2 4 (by omega) (by omega)
      refine fd_addFactor (s := 22) (e := ee) (Wc := Wc) (Z := Z) (ls := ls) hls (by omega) m4 (by rw [c422]; exact m3) (by rw [c422]; exact m2) hg (by rw [c44]; exact m5) (by rw [c422]; exact m6) (by rw [c422]; exact m7) (fun c5 g' fr5 w5 z5 l5 => ?_)
      rw [c422] at l5
      refine H1 c5 g' T Q ee (Wc 0) hTT (fun q q4 q5 q9 q10 q22 q23 q25 => ?_) ?_ w5 (by rw [m5]; exact z5) l5 m8
      · rw [fr5 q q4 q9 q10 q23, o4 q q5 q9 q10]; exact o2 q q22 q25
      · rw [fr5 5 (by omega) (by omega) (by omega) (by omega), k4, fd_u_s]
    · refine fd_divideC (x := 5) (y := 22) (e := e) (by omega) (by omega) (by omega) (by omega) (by rw [c222]; exact e1) (by rw [c222]; exact e2) (fun _ c3 q r k3 => ?_) (fun c3 q k3 j1 j2 j3 => ?_)
      · dsimp only
        refine br_t rfl (H0 c3 T hTT htd (fun q' q9 q10 q22 q25 => ?_))
        rw [k3, fd_u_n q9, fd_u_n q10]; exact o2 q' q22 q25
      · exfalso
        rw [c25, c222] at j1
        rw [c222] at j2
        rw [c25] at j3
        obtain ⟨Q, _, _, m1, _⟩ := M T hTT (Or.inl ⟨q, e, e1, e2, j1, j2, j3⟩)
        exact htd ⟨Q, m1⟩
  have main : ∀ (f k : Nat) (c : Nat → Int64) (X : po_P), f + k = l + 1 → k ≤ l → (∀ q, q ≠ 22 → q ≠ 25 → fd_r c q = fd_r a q) → fd_r c 22 = X → fd_rd m X → po_eq m X (po_mul (po_C ld) (po_ps V s k)) → (∀ i, po_psd dg s k < i → X i = 0) → wX_tryProduct_21 post (nI s) f (nI k) (nI n) tp pr (nI l) dc c g a3 a4 a5 a6 := by
    intro f
    induction f with
    | zero => intro k c X h1 h2; omega
    | succ f ih =>
      intro k c X hf hk ho h22 hX hXe hX0
      by_cases e : k = l
      · subst e
        have : f = 0 := by omega
        subst this
        exact fin c X ho h22 hX hXe hX0
      · refine pk_le l k (fun z => absurd z (by omega)) (fun z => ?_)
        rw [pc_bit s hs k (by omega)]
        refine pk_eq (s / 2 ^ k % 2) 0 (fun w => nm_r (nI_1 k) (ih (k + 1) c X (by omega) (by omega) ho h22 hX ?_ ?_)) (fun w => ?_) rfl rfl (by omega)
        · rw [po_ps, if_neg (by omega)]; exact hXe
        · rw [po_psd, if_neg (by omega)]; exact hX0
        · have w1 : s / 2 ^ k % 2 = 1 := by omega
          rw [e11]
          have ck : fd_r c (11 + k) = V k := by rw [ho (11 + k) (by omega) (by omega)]; exact hV k z
          obtain ⟨v1, v2, v3⟩ := hV2 k z
          have dle : po_psd dg s k + dg k ≤ 5 := by
            have h1 := po_psd_m dg s (a := k + 1) (l - (k + 1))
            rw [show k + 1 + (l - (k + 1)) = l by omega, po_psd, if_pos w1] at h1
            have := po_psd_le dg s l
            omega
          refine fd_multiplyModulo (t := 22) (x := 22) (y := 11 + k) (m := m) (by omega) (by omega) (by omega) (by omega) (by omega) (by omega) hm htp (fun i => by rw [h22]; have := hX i; omega) (fun i => by rw [ck]; have := v1 i; omega) (fun c1 k1 => ?_)
          dsimp only
          rw [h22, ck] at k1
          refine nm_r (nI_1 k) (ih (k + 1) c1 (fd_mm m X (V k)) (by omega) (by omega) (fun q q22 q25 => by rw [k1, fd_u_n q22, fd_u_n q25]; exact ho q q22 q25) (by rw [k1, fd_u_s]) (fd_mm_rd (by omega) _ _) ?_ (fun i hi => ?_))
          · rw [po_ps, if_pos w1]
            obtain ⟨x, hx⟩ := po_eq_ex hXe
            obtain ⟨y, hy⟩ := po_eq_ex (fd_mm_eq (m := m) hX0 v3 (by omega))
            exact po_ex_eq (@ga_pss po_P po_ring _ _ _ _ _ _ _ _ hx hy)
          · rw [po_psd, if_pos w1] at hi
            exact fd_mm_0 hX0 v3 i hi
  refine main (l + 1) 0 _ (po_C ld) (by omega) (by omega) (fun q q22 q25 => by rw [hc, fd_u_n q22]) (by rw [hc, fd_u_s]) (fun i => ?_) ?_ (fun i hi => ?_)
  · simp only [po_C]; split <;> omega
  · have e : po_mul (po_C ld) (po_ps V s 0) = po_C ld := by
      show po_mul (po_C ld) (po_C 1) = _
      rw [← po_C_mul, Int.mul_one]
    rw [e]; exact po_eq_r _ _
  · have : po_psd dg s 0 = 0 := rfl
    simp only [po_C]; rw [if_neg (by omega)]
end
end
section
/-! recombine, over any invariant -/
theorem rc_and : ∀ s, s < 32 → ∀ c, c < 32 → (nI s &&& (nI c ^^^ (-1))) = nI (s &&& (31 ^^^ c)) := by decide +kernel
theorem rc_lt : ∀ s, s < 32 → ∀ c, c < 32 → s &&& (31 ^^^ c) < 32 := by decide +kernel
theorem rc_sh : ∀ l, l < 6 → ((1 : Int32) <<< (nI l &&& 31)) - 1 = nI (2 ^ l - 1) := by decide +kernel
theorem rc_n5 : ∀ s, s < 32 → pc_n s ≤ 5 := by decide +kernel
/-- T divides L truly, and W by T as often as e says; the rest of W is not divisible by T any more -/
def rc_ch (L W T Q : po_P) (n e : Nat) (Y : po_P) : Prop := fl_ok T ∧ (∀ i, -2147483648 ≤ T i ∧ T i < 2147483648) ∧ n + e ≤ 6 ∧ ∃ Wc : Nat → po_P, W = Wc e ∧ (∀ i, i < e → fd_TQ (Wc (i + 1)) T (Wc i)) ∧ ¬ fd_D (Wc 0) T ∧ Y = Wc 0
section
variable {dc : Int32} {pr : Int64} {a3 : Nat → Int64} {a4 a5 a6 : Nat → Int32}
def rc_fr (a a' : Nat → Int64) : Prop := ∀ q, q ≠ 4 → q ≠ 5 → q ≠ 9 → q ≠ 10 → q ≠ 22 → q ≠ 23 → q ≠ 25 → fd_r a' q = fd_r a q
theorem fd_recombine {post : St1 → Prop} {a : Nat → Int64} {g : Nat → Int32} {tp : Int64} {n l : Nat} {m : Int} {V : Nat → po_P} {dg : Nat → Nat} {Z W0 : po_P} {ls0 : Nat → po_P} {Inv : Nat → Nat → Nat → po_P → po_P → Nat → (Nat → po_P) → Prop} {Fin : po_P → Nat → (Nat → po_P) → Prop}
    (hl1 : 1 ≤ l) (hl5 : l ≤ 5) (hsd : po_sd dg l ≤ 5) (htp : tp.toInt = m) (hm0 : 2 ≤ m) (hm : m ≤ 2147483648) (hV : ∀ j, j < l → fd_r a (11 + j) = V j) (hV2 : ∀ j, j < l → (∀ i, 0 ≤ V j i ∧ V j i < m) ∧ V j (dg j) = 1 ∧ ∀ i, dg j < i → V j i = 0) (hg : fl_I g n Z) (hZ : po_mul Z (fd_r a 4) = W0) (hls : ∀ k, k < n → fl_r g k = ls0 k) (h0 : Inv 1 1 (2 ^ l - 1) (fd_r a 5) (fd_r a 4) n ls0)
    (OB : ∀ sz st pc L W n ls, Inv sz st pc L W n ls → pc < 32 ∧ ∃ nL, 0 < L nL ∧ (∀ i, nL < i → L i = 0) ∧ 2 * L nL ≤ m)
    (OT : ∀ sz st pc L W n ls nL, Inv sz st pc L W n ls → 0 < L nL → (∀ i, nL < i → L i = 0) → 1 ≤ sz → 1 ≤ st → st < 32 → st &&& (31 ^^^ pc) = 0 → pc_n st = sz → 2 * sz ≤ pc_n pc → ∀ T, tp_T m (L nL) V dg st l T → (fd_D L T ∨ fd_TD L T) → ∃ Q e Y, fd_TQ L T Q ∧ rc_ch L W T Q n e Y ∧ Inv sz (st + 1) (pc &&& (31 ^^^ st)) Q Y (n + e) (fl_puts T e n ls))
    (OF : ∀ sz st pc L W n ls nL, Inv sz st pc L W n ls → 0 < L nL → (∀ i, nL < i → L i = 0) → 1 ≤ sz → 1 ≤ st → st < 32 → st &&& (31 ^^^ pc) = 0 → pc_n st = sz → 2 * sz ≤ pc_n pc → ∀ T, tp_T m (L nL) V dg st l T → ¬ fd_TD L T → Inv sz (st + 1) pc L W n ls)
    (OS : ∀ sz st pc L W n ls, Inv sz st pc L W n ls → 1 ≤ sz → st < 32 → (¬ st &&& (31 ^^^ pc) = 0 ∨ pc_n st ≠ sz) → Inv sz (st + 1) pc L W n ls)
    (OX : ∀ sz st pc L W n ls, Inv sz st pc L W n ls → 1 ≤ sz → (32 ≤ st ∨ pc_n pc < 2 * sz) → Inv (sz + 1) 1 pc L W n ls)
    (OE : ∀ sz pc L W n ls, Inv sz 1 pc L W n ls → 1 ≤ sz → pc_n pc < 2 * sz → (∃ d, 1 ≤ d ∧ L d ≠ 0) ∧ ∃ e Y, rc_ch L W L L n e Y ∧ Fin Y (n + e) (fl_puts L e n ls))
    (H : ∀ a' g' n' Y Z' ls', rc_fr a a' → fl_I g' n' Z' → po_mul Z' Y = W0 → (∀ k, k < n' → fl_r g' k = ls' k) → Fin Y n' ls' → post (nI n', tp, pr, nI l, dc, a', g', a3, a4, a5, a6)) :
    wpX_recombine post (nI n, tp, pr, nI l, dc, a, g, a3, a4, a5, a6) := by
  have inner : ∀ (J : Int32 → Int32 → Int32 → Int64 → Int64 → Int32 → Int32 → (Nat → Int64) → (Nat → Int32) → (Nat → Int64) → (Nat → Int32) → (Nat → Int32) → (Nat → Int32) → Prop) (sz : Nat), 1 ≤ sz → sz ≤ 3 → (∀ pc n b h Z1 ls, rc_fr a b → fl_I h n Z1 → po_mul Z1 (fd_r b 4) = W0 → (∀ k, k < n → fl_r h k = ls k) → Inv (sz + 1) 1 pc (fd_r b 5) (fd_r b 4) n ls → J (nI pc) (nI (sz + 1)) (nI n) tp pr (nI l) dc b h a3 a4 a5 a6) →
      ∀ (f st pc n : Nat) (b : Nat → Int64) (h : Nat → Int32) (Z1 : po_P) (ls : Nat → po_P), f + st = 33 → 1 ≤ st → st ≤ 32 → rc_fr a b → fl_I h n Z1 → po_mul Z1 (fd_r b 4) = W0 → (∀ k, k < n → fl_r h k = ls k) → Inv sz st pc (fd_r b 5) (fd_r b 4) n ls → wX_recombine_24 post J (nI sz) f (nI pc) (nI st) (nI n) tp pr (nI l) dc b h a3 a4 a5 a6 := by
    intro J sz hsz hsz3 HJ f
    induction f with
    | zero => intro st pc n b h Z1 ls h1 h2 h3; omega
    | succ f ih =>
      intro st pc n b h Z1 ls hf hst1 hst2 hfr hh hz hl hI
      obtain ⟨hpc, nL, L1, L2, L3⟩ := OB _ _ _ _ _ _ _ hI
      have next : Inv sz (st + 1) pc (fd_r b 5) (fd_r b 4) n ls → st < 32 → ∀ y : Int32, y = nI st + 1 → wX_recombine_24 post J (nI sz) f (nI pc) y (nI n) tp pr (nI l) dc b h a3 a4 a5 a6 := fun hi hlt => nm_r (nI_1 st) (ih (st + 1) pc n b h Z1 ls (by omega) (by omega) (by omega) hfr hh hz hl hi)
      refine pk_le 32 st (fun z => nm_r (nI_1 sz) (HJ pc n b h Z1 ls hfr hh hz hl (OX _ _ _ _ _ _ _ hI hsz (Or.inl z)))) (fun z => ?_)
      have e2 : (2 * nI sz : Int32) = nI (2 * sz) := by rw [show (2 : Int32) = nI 2 from rfl, pk_mul]
      have n5 := rc_n5 pc hpc
      have s5 := rc_n5 st z
      refine fd_onesIn hpc ?_
      refine pk_lt (pc_n pc) (2 * sz) (fun w => nm_r (nI_1 sz) (HJ pc n b h Z1 ls hfr hh hz hl (OX _ _ _ _ _ _ _ hI hsz (Or.inr w)))) (fun w => ?_) rfl e2
      rw [rc_and st z pc hpc]
      have lt1 := rc_lt st z pc hpc
      refine pk_eq (st &&& (31 ^^^ pc)) 0 (fun y => ?_) (fun y => next (OS _ _ _ _ _ _ _ hI hsz z (Or.inl y)) z) rfl rfl (by omega)
      refine fd_onesIn z (pk_eq (pc_n st) sz (fun x => ?_) (fun x => next (OS _ _ _ _ _ _ _ hI hsz z (Or.inr x)) z))
      refine fd_tryProduct (m := m) (V := V) (dg := dg) (Z := Z1) (ld := fd_r b 5 nL) (nL := nL) (R := fun T Q e Y => Inv sz (st + 1) (pc &&& (31 ^^^ st)) Q Y (n + e) (fl_puts T e n ls)) (ls := ls) hl z hl5 hsd htp hm0 hm rfl L2 L1 L3 (fun j hj => by rw [hfr (11 + j) (by omega) (by omega) (by omega) (by omega) (by omega) (by omega) (by omega)]; exact hV j hj) hV2 hh (fun T hT hD => ?_) (fun b' T hT hn fr => ?_) (fun b' h' T Q e Y hT fr b5 b4 hl' hll hR => ?_)
      · obtain ⟨Q, e, Y, t1, ⟨t2, t3, t4, Wc, t5, t6, t7, t8⟩, t9⟩ := OT _ _ _ _ _ _ _ nL hI L1 L2 hsz hst1 z y x w T hT hD
        exact ⟨Q, e, Wc, t1, t2, t3, t4, t5, t6, t7, by rw [t8] at t9; exact t9⟩
      · dsimp only
        have f5 := fr 5 (by omega) (by omega) (by omega) (by omega)
        have f4 := fr 4 (by omega) (by omega) (by omega) (by omega)
        have hI' := OF _ _ _ _ _ _ _ nL hI L1 L2 hsz hst1 z y x w T hT hn
        refine br_t rfl (nm_r (nI_1 st) (ih (st + 1) pc n b' h Z1 ls (by omega) (by omega) (by omega) (fun q q4 q5 q9 q10 q22 q23 q25 => ?_) hh (by rw [f4]; exact hz) hl (by rw [f5, f4]; exact hI')))
        rw [fr q q9 q10 q22 q25]; exact hfr q q4 q5 q9 q10 q22 q23 q25
      · dsimp only
        obtain ⟨Z2, z1, z2⟩ := hl'
        refine br_f (by decide) (nm_r (rc_and pc hpc st z) (nm_r (nI_1 st) (ih (st + 1) _ (n + e) b' h' Z2 (fl_puts T e n ls) (by omega) (by omega) (by omega) (fun q q4 q5 q9 q10 q22 q23 q25 => ?_) z1 (by rw [b4, z2]; exact hz) hll (by rw [b5, b4]; exact hR))))
        rw [fr q q4 q5 q9 q10 q22 q23 q25]; exact hfr q q4 q5 q9 q10 q22 q23 q25
  have outer : ∀ (f sz pc n : Nat) (b : Nat → Int64) (h : Nat → Int32) (Z1 : po_P) (ls : Nat → po_P), f + sz = 4 → 1 ≤ sz → sz ≤ 3 → rc_fr a b → fl_I h n Z1 → po_mul Z1 (fd_r b 4) = W0 → (∀ k, k < n → fl_r h k = ls k) → Inv sz 1 pc (fd_r b 5) (fd_r b 4) n ls → wX_recombine_11 post f (nI pc) (nI sz) (nI n) tp pr (nI l) dc b h a3 a4 a5 a6 := by
    intro f
    induction f with
    | zero => intro sz pc n b h Z1 ls h1 h2 h3; omega
    | succ f ih =>
      intro sz pc n b h Z1 ls hf hsz1 hsz2 hfr hh hz hl hI
      obtain ⟨hpc, nL, L1, L2, L3⟩ := OB _ _ _ _ _ _ _ hI
      have e2 : (2 * nI sz : Int32) = nI (2 * sz) := by rw [show (2 : Int32) = nI 2 from rfl, pk_mul]
      have n5 := rc_n5 pc hpc
      refine fd_onesIn hpc (pk_lt (pc_n pc) (2 * sz) (fun w => ?_) (fun w => ?_) rfl e2)
      · obtain ⟨⟨d0, d1, d2⟩, e, Y, ⟨t2, t3, t4, Wc, t5, t6, t7, t8⟩, t9⟩ := OE _ _ _ _ _ _ hI hsz1 w
        refine fd_degreeOf (s := 5) (by omega) (fun z => absurd (z d0) d2) (fun d hd k1 k2 => ?_)
        have dpos : 1 ≤ d := Classical.byContradiction (fun z => d2 (k2 d0 (by omega)))
        refine br_f (nI_nle (by omega) (by omega)) (fd_addFactor (s := 5) (e := e) (Wc := Wc) (Z := Z1) (ls := ls) hl (by omega) t4 t3 t2 hh t5 t6 t7 (fun b' h' fr w4 hl' hll => ?_))
        obtain ⟨Z2, z1, z2⟩ := hl'
        refine H b' h' (n + e) (Wc 0) Z2 _ (fun q q4 q5 q9 q10 q22 q23 q25 => ?_) z1 (by rw [z2, ← t5]; exact hz) hll (by rw [← t8]; exact t9)
        rw [fr q q4 q9 q10 q23]; exact hfr q q4 q5 q9 q10 q22 q23 q25
      · have sz2 : sz ≤ 2 := by omega
        exact ⟨32, inner (wX_recombine_11 post f) sz hsz1 (by omega) (fun pc' n' b' h' Z2 ls' k1 k2 k3 k4 k5 => ih (sz + 1) pc' n' b' h' Z2 ls' (by omega) (by omega) (by omega) k1 k2 k3 k4 k5) 32 1 pc n b h Z1 ls (by omega) (by omega) (by omega) hfr hh hz hl hI⟩
  exact nm_r (rc_sh l (by omega)) ⟨3, outer 3 1 (2 ^ l - 1) n a g Z ls0 (by omega) (by omega) (by omega) (fun _ _ _ _ _ _ _ _ => rfl) hg hZ hls h0⟩
end
end
section
/-! the operations on registers: they keep the registers small -/
def rg_r (f : po_P) : Prop := ∀ i, -20 ≤ f i ∧ f i ≤ 20 ∧ (6 ≤ i → f i = 0)
def rg_I (a : Nat → Int64) : Prop := ∀ r, r < 4 → rg_r (fd_r a r)
theorem rg_put {a a' : Nat → Int64} {d : Nat} {f : po_P} (h : rg_I a) (e : fd_r a' = fd_u (fd_r a) d f) (hf : rg_r f) : rg_I a' := fun r hr => by
  rw [e]
  by_cases z : r = d
  · rw [z, fd_u_s]; exact hf
  · rw [fd_u_n z]; exact h r hr
theorem rg_fr {a a' : Nat → Int64} (h : rg_I a) (e : ∀ s, s < 4 → fd_r a' s = fd_r a s) : rg_I a' := fun r hr => by rw [e r hr]; exact h r hr
theorem po_topN {f : po_P} : ∀ n, (∀ i, n ≤ i → f i = 0) → (∃ i, f i ≠ 0) → ∃ e, f e ≠ 0 ∧ ∀ i, e < i → f i = 0
  | 0, h, ⟨i, hi⟩ => absurd (h i (by omega)) hi
  | n + 1, h, hh => by
    by_cases e : f n = 0
    · exact po_topN n (fun i hi => by
        by_cases z : i = n
        · rw [z]; exact e
        · exact h i (by omega)) hh
    · exact ⟨n, e, fun i hi => h i (by omega)⟩
theorem po_top {f : po_P} {n : Nat} (h : ∃ i, f i ≠ 0) (k : ∀ i, n ≤ i → f i = 0) : ∃ e, f e ≠ 0 ∧ ∀ i, e < i → f i = 0 := po_topN n k h
section
variable {fc lc dc : Int32} {mo pr : Int64} {a : Nat → Int64} {a2 : Nat → Int32} {a3 : Nat → Int64} {a4 a5 a6 : Nat → Int32}
theorem fd_isReg {post : Int32 → Prop} {r : Nat} (hr : r < 4) (H : post 1) : wpX_isRegister post (fc, mo, pr, lc, dc, a, a2, a3, a4, a5, a6) (nI r) :=
  br_f (nI_pos (by omega)) (pk_lt 3 r (fun z => absurd z (by omega)) (fun _ => H))
theorem fd_keep {post : Int32 → St1 → Prop} {d f : Nat} (hd : d < 26) (hf : f < 26) (H0 : post (-1001) (fc, mo, pr, lc, dc, a, a2, a3, a4, a5, a6))
    (Hz : ∀ a', fd_r a' = fd_u (fd_r a) d (fd_r a f) → (∀ i, fd_r a f i = 0) → post (-1) (fc, mo, pr, lc, dc, a', a2, a3, a4, a5, a6))
    (H1 : ∀ a' e, fd_r a' = fd_u (fd_r a) d (fd_r a f) → e ≤ 5 → fd_r a f e ≠ 0 → (∀ i, e < i → fd_r a f i = 0) → rg_r (fd_r a f) → post (nI e) (fc, mo, pr, lc, dc, a', a2, a3, a4, a5, a6)) :
    wpX_keep post (fc, mo, pr, lc, dc, a, a2, a3, a4, a5, a6) (nI d) (nI f) := by
  unfold wpX_keep
  dsimp only
  refine fd_degreeOf hf (fun z => br_t (by decide) ⟨1, br_t (by decide) ?_⟩) (fun e he e1 e2 => ?_)
  · exact fd_copy hd hf (fun a' ha' => Hz a' ha' z)
  · refine pk_le e 5 (fun z => ?_) (fun z => H0)
    refine pk_loop (σ := Unit) (fun n i _ => wX_keep_18 post (nI d) (nI f) (nI e) fc mo pr lc dc a a2 a3 a4 a5 a6 n (nI i)) (fun i _ => ∀ j, j < i → -20 ≤ fd_r a f j ∧ fd_r a f j ≤ 20) (e + 1) 0 () (by omega) (fun j hj => absurd hj (by omega))
      (fun n _ h => pk_lt e (e + 1) (fun _ => ?_) (fun w => absurd w (by omega)))
      (fun n i _ hi h hw => pk_lt e i (fun w => absurd w (by omega)) (fun _ => ⟨pk_in (12 * f + i) 312 (by omega) (li_ix f i), ?_⟩))
    · refine fd_copy hd hf (fun a' ha' => H1 a' e ha' z e1 e2 (fun i => ?_))
      by_cases w : i < e + 1
      · have := h i w
        exact ⟨this.1, this.2, fun y => absurd y (by omega)⟩
      · rw [e2 i (by omega)]; exact ⟨by omega, by omega, fun _ => rfl⟩
    · rw [li_ix, nI_clamp (by omega)]
      have m20 : (-20 : Int64).toInt = -20 := rfl
      have p20 : (20 : Int64).toInt = 20 := rfl
      refine br_c (fun _ => H0) (fun w => ⟨pk_in (12 * f + i) 312 (by omega) rfl, br_c (fun y => nm_r (nI_1 i) (hw () (fun j hj => ?_))) (fun _ => H0)⟩)
      rw [li_lt, m20, ← fd_r_i (show i < 12 by omega)] at w
      rw [li_le, p20, ← fd_r_i (show i < 12 by omega)] at y
      by_cases x : j = i
      · rw [x]; omega
      · exact h j (by omega)
theorem rg_0 {f : po_P} (h : ∀ i, f i = 0) : rg_r f := fun i => by rw [h i]; exact ⟨by omega, by omega, fun _ => rfl⟩
/-- keep, when only the registers matter -/
theorem fd_keepR {post : Int32 → St1 → Prop} {a0 : Nat → Int64} {d f : Nat} (hd : d < 4) (hf : f < 26) (h0 : rg_I a0) (hfr : ∀ s, s < 4 → fd_r a s = fd_r a0 s) (H : ∀ r a', rg_I a' → post r (fc, mo, pr, lc, dc, a', a2, a3, a4, a5, a6)) :
    wpX_keep post (fc, mo, pr, lc, dc, a, a2, a3, a4, a5, a6) (nI d) (nI f) :=
  fd_keep (by omega) hf (H _ a (rg_fr h0 hfr)) (fun a' ha' z => H _ a' (rg_put (rg_fr h0 hfr) ha' (rg_0 z))) (fun a' e ha' _ _ _ z => H _ a' (rg_put (rg_fr h0 hfr) ha' z))
theorem fd_set {post : Int32 → St1 → Prop} {r i : Nat} {c : Int32} (hr : r < 4) (hi : i < 6) (h0 : rg_I a) (H : ∀ r a', rg_I a' → post r (fc, mo, pr, lc, dc, a', a2, a3, a4, a5, a6)) : wpX_set post (fc, mo, pr, lc, dc, a, a2, a3, a4, a5, a6) (nI r) (nI i) c := by
  unfold wpX_set
  dsimp only
  refine fd_isReg hr (br_f (by decide) (br_f (nI_pos (by omega)) (pk_lt 5 i (fun z => absurd z (by omega)) (fun _ => br_c (fun _ => H _ a h0) (fun z => br_c (fun y => ⟨pk_in (12 * r + i) 312 (by omega) (li_ix r i), nm_r (by rw [li_ix, nI_clamp (by omega)]) (H _ (vp_updL a (12 * r + i) c.toInt64) ?_)⟩) (fun _ => H _ a h0))))))
  have m20 : (-20 : Int32).toInt = -20 := rfl
  have p20 : (20 : Int32).toInt = 20 := rfl
  rw [Int32.lt_iff_toInt_lt, m20] at z
  rw [Int32.le_iff_toInt_le, p20] at y
  refine rg_put h0 (fd_upd (by omega)) (fun j => ?_)
  have hh := h0 r hr j
  simp only [fd_w]
  split
  · rw [Int32.toInt_toInt64]; exact ⟨by omega, by omega, fun w => by omega⟩
  · exact hh
theorem fd_ml39 {post : St1 → Prop} {J : Int32 → (Nat → Int64) → (Nat → Int32) → (Nat → Int64) → (Nat → Int32) → (Nat → Int32) → (Nat → Int32) → Prop} {t x y i : Nat} {s0 : Nat → Int64} (hx : x < 26) (hy : y < 26) (hi : i < 12)
    (H : ∀ a', (∀ s, s ≠ 25 → fd_r a' s = fd_r s0 s) → J (nI (i + 1)) a' a2 a3 a4 a5 a6) : ∃ n, wX_multiply_39 post J (nI t) (nI x) (nI y) (nI i) fc mo pr lc dc n 0 s0 a2 a3 a4 a5 a6 :=
  pk_loop (fun n k s => wX_multiply_39 post J (nI t) (nI x) (nI y) (nI i) fc mo pr lc dc n (nI k) s a2 a3 a4 a5 a6) (fun k s => ∀ q, q ≠ 25 → fd_r s q = fd_r s0 q) (12 - i) 0 s0 (by omega) (fun _ _ => rfl)
    (fun n s h => pk_le 12 (i + (12 - i)) (fun _ => nm_r (nI_1 i) (H s h)) (fun z => absurd z (by omega)) rfl (nI_add i (12 - i)))
    (fun n k s hk h hw => pk_le 12 (i + k) (fun z => absurd z (by omega)) (fun _ => by
      have ei : ((300 + nI i) + nI k : Int32) = nI (12 * 25 + (i + k)) := by
        rw [show (300 : Int32) = nI 300 from rfl, nI_add, nI_add]; congr 1; omega
      refine ⟨pk_in (12 * 25 + (i + k)) 312 (by omega) ei, pk_in (12 * x + i) 312 (by omega) (li_ix x i), pk_in (12 * y + k) 312 (by omega) (li_ix y k), pk_in (12 * 25 + (i + k)) 312 (by omega) ei, ?_⟩
      rw [ei, nI_clamp (by omega)]
      refine nm_e (nm_r (nI_1 k) (hw _ (fun q hq => ?_)))
      rw [fd_upd (by omega), fd_u_n hq]; exact h q hq) rfl (nI_add i k))
theorem fd_multiply {post : St1 → Prop} {t x y : Nat} (ht : t < 26) (hx : x < 26) (hy : y < 26) (H : ∀ a', (∀ s, s ≠ 25 → s ≠ t → fd_r a' s = fd_r a s) → post (fc, mo, pr, lc, dc, a', a2, a3, a4, a5, a6)) : wpX_multiply post (fc, mo, pr, lc, dc, a, a2, a3, a4, a5, a6) (nI t) (nI x) (nI y) := by
  unfold wpX_multiply
  dsimp only
  refine fd_clear (t := 25) (by omega) (fun b h1 => ⟨13, ?_⟩)
  have main : ∀ (f i : Nat) (s : Nat → Int64), f + i = 13 → i ≤ 12 → (∀ q, q ≠ 25 → fd_r s q = fd_r a q) → wX_multiply_9 post (nI t) (nI x) (nI y) fc mo pr lc dc f (nI i) s a2 a3 a4 a5 a6 := by
    intro f
    induction f with
    | zero => intro i s h1 h2; omega
    | succ f ih =>
      intro i s hf hi hs
      refine pk_le 12 i (fun z => ?_) (fun z => ⟨pk_in (12 * x + i) 312 (by omega) (li_ix x i), br_c (fun w => nm_r (nI_1 i) (ih (i + 1) s (by omega) (by omega) hs)) (fun w => ?_)⟩)
      · exact fd_copy (f := 25) ht (by omega) (fun a' ha' => H a' (fun q q25 qt => by rw [ha', fd_u_n qt]; exact hs q q25))
      · exact fd_ml39 hx hy z (fun a' ha' => ih (i + 1) a' (by omega) (by omega) (fun q hq => by rw [ha' q hq]; exact hs q hq))
  exact main 13 0 b (by omega) (by omega) (fun q hq => by rw [h1, fd_u_n hq])
theorem fd_ap169 {post : Int32 → St1 → Prop} {o : Int32} {d x y : Nat} (hd : d < 4) (hx : x < 26) (hy : y < 26) (h0 : rg_I a) (H : ∀ r a', rg_I a' → post r (fc, mo, pr, lc, dc, a', a2, a3, a4, a5, a6)) : ∃ n, wX_apply_169 post o (nI d) (nI x) (nI y) fc mo pr lc dc n 0 a a2 a3 a4 a5 a6 :=
  pk_loop (fun n i s => wX_apply_169 post o (nI d) (nI x) (nI y) fc mo pr lc dc n (nI i) s a2 a3 a4 a5 a6) (fun i s => ∀ q, q < 4 → fd_r s q = fd_r a q) 12 0 a (by omega) (fun _ _ => rfl)
    (fun n s h => pk_le 12 12 (fun _ => fd_keepR (f := 6) hd (by omega) h0 h H) (fun z => absurd z (by omega)))
    (fun n i s hi h hw => pk_le 12 i (fun z => absurd z (by omega)) (fun _ => by
      have ei : (72 + nI i : Int32) = nI (12 * 6 + i) := by rw [show (72 : Int32) = nI 72 from rfl, nI_add]
      refine ⟨pk_in (12 * x + i) 312 (by omega) (li_ix x i), br_c (fun _ => ⟨pk_in (12 * y + i) 312 (by omega) (li_ix y i), pk_in (12 * 6 + i) 312 (by omega) ei, ?_⟩) (fun _ => ⟨pk_in (12 * y + i) 312 (by omega) (li_ix y i), pk_in (12 * 6 + i) 312 (by omega) ei, ?_⟩)⟩
      · rw [ei, nI_clamp (by omega)]
        exact nm_e (nm_r (nI_1 i) (hw _ (fun q hq => by rw [fd_upd hi, fd_u_n (by omega)]; exact h q hq)))
      · rw [ei, nI_clamp (by omega)]
        exact nm_e (nm_r (nI_1 i) (hw _ (fun q hq => by rw [fd_upd hi, fd_u_n (by omega)]; exact h q hq)))))
theorem fd_apply {post : Int32 → St1 → Prop} {o d x y : Nat} (ho : o < 6) (hd : d < 4) (hx : x < 4) (hy : y < 4) (h0 : rg_I a) (H : ∀ r mo' pr' a', rg_I a' → post r (fc, mo', pr', lc, dc, a', a2, a3, a4, a5, a6)) : wpX_apply post (fc, mo, pr, lc, dc, a, a2, a3, a4, a5, a6) (nI o) (nI d) (nI x) (nI y) := by
  have bx : ∀ i, -1000 ≤ fd_r a x i ∧ fd_r a x i ≤ 1000 := fun i => by have := h0 x hx i; omega
  have byy : ∀ i, -1000 ≤ fd_r a y i ∧ fd_r a y i ≤ 1000 := fun i => by have := h0 y hy i; omega
  have dv : ∀ (post' : Int32 → St1 → Prop) (e : Nat), fd_r a y e ≠ 0 → (∀ i, e < i → fd_r a y i = 0) → (∀ r a', (∀ s, s < 4 → fd_r a' s = fd_r a s) → post' r (fc, mo, pr, lc, dc, a', a2, a3, a4, a5, a6)) → wpX_divide post' (fc, mo, pr, lc, dc, a, a2, a3, a4, a5, a6) (nI x) (nI y) := fun post' e e1 e2 h =>
    fd_divide (by omega) (by omega) (by omega) (by omega) e1 e2 (fun a' q r ha' => h _ a' (fun s hs => by rw [ha', fd_u_n (by omega), fd_u_n (by omega)])) (fun a' q ha' _ _ _ => h _ a' (fun s hs => by rw [ha', fd_u_n (by omega), fd_u_n (by omega)]))
  have a56 : (4 ≤ o → ∃ i, fd_r a y i ≠ 0) → wX_apply_56 post (nI o) (nI d) (nI x) (nI y) fc mo pr lc dc a a2 a3 a4 a5 a6 := by
    intro hz
    refine pk_eq o 4 (fun z => ?_) (fun z => pk_eq o 5 (fun w => ?_) (fun w => pk_eq o 3 (fun u => ?_) (fun u => pk_eq o 2 (fun t => ?_) (fun t => ?_))))
    · have hy0 : ∃ e, fd_r a y e ≠ 0 ∧ ∀ i, e < i → fd_r a y i = 0 := po_top (hz (by omega)) (fd_r_12 a y)
      obtain ⟨e, e1, e2⟩ := hy0
      refine dv _ e e1 e2 (fun r a' fr => br_c (fun _ => H _ _ _ a' (rg_fr h0 fr)) (fun _ => ?_))
      exact fd_keepR (f := 9) hd (by omega) h0 fr (fun r a' h => H _ _ _ a' h)
    · have hy0 : ∃ e, fd_r a y e ≠ 0 ∧ ∀ i, e < i → fd_r a y i = 0 := po_top (hz (by omega)) (fd_r_12 a y)
      obtain ⟨e, e1, e2⟩ := hy0
      have g116 : wX_apply_116 post (nI d) (nI x) (nI y) fc mo pr lc dc a a2 a3 a4 a5 a6 := dv _ e e1 e2 (fun r a' fr => fd_keepR (f := 10) hd (by omega) h0 fr (fun r a' h => H _ _ _ a' h))
      refine fd_leadOf (by omega) (fun h => absurd (h e) e1) (fun d' x' _ _ _ _ => br_c (fun _ => g116) (fun _ => br_c (fun _ => g116) (fun _ => H _ _ _ a h0)))
    · refine fd_greatestCommon (t := 6) (by omega) (by omega) (by omega) (by omega) bx byy (fun a' mo' pr' T A' B' u22 u8 u9 u10 ha' _ _ _ => ?_)
      exact fd_keepR (f := 6) hd (by omega) h0 (fun s hs => by rw [ha', fd_b7_n (by omega) (by omega) (by omega) (by omega) (by omega) (by omega) (by omega)]) (fun r a' h => H _ _ _ a' h)
    · refine fd_multiply (t := 6) (by omega) (by omega) (by omega) (fun a' fr => ?_)
      exact fd_keepR (f := 6) hd (by omega) h0 (fun s hs => fr s (by omega) (by omega)) (fun r a' h => H _ _ _ a' h)
    · exact fd_ap169 hd (by omega) (by omega) h0 (fun r a' h => H _ _ _ a' h)
  unfold wpX_apply
  dsimp only
  refine br_f (nI_pos (by omega)) (pk_lt 5 o (fun z => absurd z (by omega)) (fun _ => fd_isReg hd (br_f (by decide) (fd_isReg hx (br_f (by decide) (fd_isReg hy (br_f (by decide) (pk_lt o 4 (fun z => a56 (fun w => absurd w (by omega))) (fun z => ?_)))))))))
  exact fd_degreeOf (by omega) (fun _ => br_f (by decide) (H _ _ _ a h0)) (fun e he e1 e2 => br_t (nI_pos' (by omega)) (a56 (fun _ => ⟨e, e1⟩)))
theorem fd_derive {post : Int32 → St1 → Prop} {d x : Nat} (hd : d < 4) (hx : x < 4) (h0 : rg_I a) (H : ∀ r a', rg_I a' → post r (fc, mo, pr, lc, dc, a', a2, a3, a4, a5, a6)) : wpX_derive post (fc, mo, pr, lc, dc, a, a2, a3, a4, a5, a6) (nI d) (nI x) := by
  unfold wpX_derive
  dsimp only
  refine fd_isReg hd (br_f (by decide) (fd_isReg hx (br_f (by decide) (fd_deriveInto (t := 6) (by omega) (by omega) (by omega) (fun i => by have := h0 x hx i; omega) (fun a' ha' => ?_)))))
  exact fd_keepR (f := 6) hd (by omega) h0 (fun s hs => by rw [ha', fd_u_n (by omega)]) (fun r a' h => H _ a' h)
theorem fd_sh49 {post : Int32 → St1 → Prop} {J : Int32 → (Nat → Int64) → (Nat → Int32) → (Nat → Int64) → (Nat → Int32) → (Nat → Int32) → (Nat → Int32) → Prop} {d : Int32} {x i : Nat} {t : Int32} (hx : x < 26) (hi : i < 6)
    (H : ∀ b, (∀ s, s < 4 → fd_r b s = fd_r a s) → J (nI i + (-1)) b a2 a3 a4 a5 a6) : ∀ (k : Nat) (s : Nat → Int64), k ≤ 6 → (∀ q, q < 4 → fd_r s q = fd_r a q) → wX_shift_49 post J d (nI x) t (nI i) fc mo pr lc dc (k + 1) (nI k) s a2 a3 a4 a5 a6 := by
  intro k
  induction k with
  | zero =>
    intro s _ h
    refine br_t (by decide) ⟨pk_in (12 * x + i) 312 (by omega) (li_ix x i), nm_e (nm_e (H _ (fun q hq => ?_)))⟩
    rw [show (72 : Nat) = 12 * 6 + 0 from rfl, fd_upd (by omega), fd_u_n (by omega)]; exact h q hq
  | succ k ih =>
    intro s hk h
    have e1 : (72 + nI (k + 1) : Int32) = nI (12 * 6 + (k + 1)) := by rw [show (72 : Int32) = nI 72 from rfl, nI_add]
    have e2 : ((72 + nI (k + 1)) - 1 : Int32) = nI (12 * 6 + k) := by rw [e1, show 12 * 6 + (k + 1) = (12 * 6 + k) + 1 by omega, nI_pred]
    refine br_f (nI_nle (by omega) (by omega)) ⟨pk_in (12 * 6 + (k + 1)) 312 (by omega) e1, pk_in (12 * 6 + k) 312 (by omega) e2, pk_in (12 * 6 + (k + 1)) 312 (by omega) e1, ?_⟩
    rw [e1, nI_clamp (by omega)]
    refine nm_e (nm_r (pk_m1 k) (ih _ (by omega) (fun q hq => ?_)))
    rw [fd_upd (by omega), fd_u_n (by omega)]; exact h q hq
theorem fd_shift {post : Int32 → St1 → Prop} {d x : Nat} {t : Int32} (hd : d < 4) (hx : x < 4) (h0 : rg_I a) (H : ∀ r a', rg_I a' → post r (fc, mo, pr, lc, dc, a', a2, a3, a4, a5, a6)) : wpX_shift post (fc, mo, pr, lc, dc, a, a2, a3, a4, a5, a6) (nI d) (nI x) t := by
  unfold wpX_shift
  dsimp only
  refine fd_isReg hd (br_f (by decide) (fd_isReg hx (br_f (by decide) (br_c (fun _ => H _ a h0) (fun _ => br_c (fun _ => ?_) (fun _ => H _ a h0))))))
  refine fd_clear (t := 6) (by omega) (fun b hb => ?_)
  have main : ∀ (i : Nat) (s : Nat → Int64), i ≤ 6 → (∀ q, q < 4 → fd_r s q = fd_r a q) → wX_shift_40 post (nI d) (nI x) t fc mo pr lc dc (i + 1) (nI i + (-1)) s a2 a3 a4 a5 a6 := by
    intro i
    induction i with
    | zero => intro s _ h; exact br_t (by decide) (fd_keepR (f := 6) hd (by omega) h0 h (fun r a' h => H _ a' h))
    | succ i ih =>
      intro s hi h
      rw [pk_m1]
      exact br_f (nI_pos (by omega)) ⟨7, fd_sh49 (a := a) (by omega) (by omega) (fun b hb => ih b (by omega) hb) 6 s (by omega) h⟩
  have := main 6 b (by omega) (fun q hq => by rw [hb, fd_u_n (by omega)])
  rw [pk_m1] at this
  exact ⟨7, this⟩
end
end
section
/-! small answers -/
def po_ev : Nat → po_P → Int → Int
  | 0, _, _ => 0
  | n + 1, f, x => f 0 + x * po_ev n (po_sh f) x
section
variable {fc lc dc : Int32} {mo pr : Int64} {a : Nat → Int64} {a2 : Nat → Int32} {a3 : Nat → Int64} {a4 a5 a6 : Nat → Int32}
theorem rg_ct {f : po_P} (h : rg_r f) : fd_ct f ≤ 20 := by
  by_cases z : ∃ i, i < 12 ∧ f i ≠ 0
  · obtain ⟨i, hi, hz⟩ := z
    have := (fd_cg_le f 12 i hi hz).1
    have := h i
    simp only [fd_ct]
    omega
  · have : ∀ n, n ≤ 12 → fd_cg f n = 0 := by
      intro n
      induction n with
      | zero => intro _; rfl
      | succ n ih =>
        intro hn
        have : f n = 0 := Classical.byContradiction (fun w => z ⟨n, by omega, w⟩)
        rw [fd_cg, ih (by omega), this]; rfl
    simp only [fd_ct, this 12 (by omega)]; omega
theorem fd_content {post : Int32 → Prop} {r : Nat} (hr : r < 4) (h : rg_r (fd_r a r)) (H : ∀ c : Int32, c.toInt = (fd_ct (fd_r a r) : Nat) → post c) : wpX_content post (fc, mo, pr, lc, dc, a, a2, a3, a4, a5, a6) (nI r) := by
  unfold wpX_content
  dsimp only
  refine fd_isReg hr (br_f (by decide) (fd_contentOf (by omega) (fun i => by have := h i; omega) (fun c hc => H _ ?_)))
  have := rg_ct h
  rw [Int64.toInt_toInt32, hc, Int.bmod_def]; omega
theorem fd_at {post : Int64 → Prop} {r : Nat} {x : Int32} (hr : r < 4) (h : rg_r (fd_r a r)) (hx : -12 ≤ x.toInt ∧ x.toInt ≤ 12) (H : ∀ v : Int64, v.toInt = po_ev 6 (fd_r a r) x.toInt → post v) : wpX_at post (fc, mo, pr, lc, dc, a, a2, a3, a4, a5, a6) (nI r) x := by
  have m1 : (-1000 : Int32).toInt = -1000 := rfl
  have p1 : (1000 : Int32).toInt = 1000 := rfl
  unfold wpX_at
  dsimp only
  refine fd_isReg hr (br_f (by decide) (br_f (by rw [Int32.lt_iff_toInt_lt, m1]; omega) (br_t (by rw [Int32.le_iff_toInt_le, p1]; omega) ?_)))
  have main : ∀ (c k : Nat) (v : Int64), c + k = 6 → v.toInt = po_ev k (fun i => fd_r a r (i + c)) x.toInt → (v.toInt.natAbs : Int) ≤ 20 * 13 ^ k → wX_at_29 post (nI r) x fc mo pr lc dc a a2 a3 a4 a5 a6 (c + 1) v (nI c + (-1)) := by
    intro c
    induction c with
    | zero =>
      intro k v hk hv _
      have : k = 6 := by omega
      subst this
      exact br_t (by decide) (H v hv)
    | succ c ih =>
      intro k v hk hv hb
      rw [pk_m1]
      refine br_f (nI_pos (by omega)) ⟨pk_in (12 * r + c) 312 (by omega) (li_ix r c), ?_⟩
      rw [li_ix, nI_clamp (by omega)]
      have hc := h c
      have gc : (a (12 * r + c)).toInt = fd_r a r c := (fd_r_i (by omega)).symm
      have gx : (x.toInt64).toInt = x.toInt := Int32.toInt_toInt64 x
      have q13 : (13 : Int) ^ (k + 1) = 13 ^ k * 13 := Int.pow_succ _ _
      have p13 : (0 : Int) < 13 ^ k := Int.pow_pos (by omega)
      have l13 : (13 : Int) ^ k ≤ 4826809 := by
        have : ∀ k, k < 6 → (13 : Int) ^ k ≤ 4826809 := by decide
        exact this k (by omega)
      have mb : ((v.toInt * x.toInt).natAbs : Int) ≤ 20 * 13 ^ k * 12 := by
        rw [Int.natAbs_mul, Int.natCast_mul]
        have h1 : (v.toInt.natAbs : Int) * (x.toInt.natAbs : Int) ≤ (v.toInt.natAbs : Int) * 12 := Int.mul_le_mul_of_nonneg_left (by omega) (by omega)
        have h2 : (v.toInt.natAbs : Int) * 12 ≤ 20 * 13 ^ k * 12 := Int.mul_le_mul_of_nonneg_right hb (by omega)
        omega
      have e1 : (v * x.toInt64).toInt = v.toInt * x.toInt := by rw [li_mul (by rw [gx]; omega) (by rw [gx]; omega), gx]
      have e2 : (v * x.toInt64 + a (12 * r + c)).toInt = v.toInt * x.toInt + fd_r a r c := by rw [li_add (by rw [e1, gc]; omega) (by rw [e1, gc]; omega), e1, gc]
      refine nm_e (nm_e (ih (k + 1) _ (by omega) ?_ ?_))
      · rw [e2, hv, po_ev]
        have : po_sh (fun i => fd_r a r (i + c)) = fun i => fd_r a r (i + (c + 1)) := by funext i; simp only [po_sh]; congr 1; omega
        rw [this, Nat.zero_add]; grind
      · rw [e2]; omega
  have := main 6 0 0 (by omega) rfl (by decide)
  rw [pk_m1] at this
  exact ⟨7, this⟩
theorem fd_get' {post : Int32 → Prop} {r i : Nat} (hr : r < 4) (hi : i < 6) (h : rg_r (fd_r a r)) (H : ∀ c : Int32, c.toInt = fd_r a r i → post c) : wpX_get post (fc, mo, pr, lc, dc, a, a2, a3, a4, a5, a6) (nI r) (nI i) := by
  unfold wpX_get
  dsimp only
  refine fd_isReg hr (br_f (by decide) (br_f (nI_pos (by omega)) (pk_le i 5 (fun _ => ⟨pk_in (12 * r + i) 312 (by omega) (li_ix r i), ?_⟩) (fun z => absurd z (by omega)))))
  rw [li_ix, nI_clamp (by omega)]
  have := h i
  refine H _ ?_
  rw [Int64.toInt_toInt32, ← fd_r_i (show i < 12 by omega), Int.bmod_def]; omega
theorem fd_vanishes {post : Int32 → Prop} {r p : Nat} (hr : r < 4) (hp : 1 < p) (hp2 : p < 1000) (H0 : (∃ i, i < 6 ∧ ¬ (p : Int) ∣ fd_r a r i) → post 0) (H1 : (∀ i, i < 6 → (p : Int) ∣ fd_r a r i) → post 1) : wpX_vanishes post (fc, mo, pr, lc, dc, a, a2, a3, a4, a5, a6) (nI r) (nI p) := by
  have gp : ((nI p).toInt64).toInt = (p : Int) := by rw [Int32.toInt_toInt64, nI_toInt (by omega)]
  refine pk_loop (σ := Unit) (fun n i _ => wX_vanishes_2 post (nI r) (nI p) fc mo pr lc dc a a2 a3 a4 a5 a6 n (nI i)) (fun i _ => ∀ j, j < i → (p : Int) ∣ fd_r a r j) 6 0 () (by omega) (fun j hj => absurd hj (by omega))
    (fun n _ h => pk_le 6 6 (fun _ => H1 h) (fun z => absurd z (by omega)))
    (fun n i _ hi h hw => pk_le 6 i (fun z => absurd z (by omega)) (fun _ => ⟨pk_in (12 * r + i) 312 (by omega) (li_ix r i), li_ne0.mpr (by rw [gp]; omega), ?_⟩))
  rw [li_ix, nI_clamp (by omega)]
  have e : (a (12 * r + i) - a (12 * r + i) / (nI p).toInt64 * (nI p).toInt64).toInt = (fd_r a r i).tmod p := by rw [li_rem, gp, ← fd_r_i (show i < 12 by omega)]
  refine br_c (fun z => nm_r (nI_1 i) (hw () (fun j hj => ?_))) (fun z => H0 ⟨i, hi, fun w => z ?_⟩)
  · have z' := congrArg Int64.toInt z
    rw [e] at z'
    by_cases x : j = i
    · rw [x]; exact Int.dvd_of_tmod_eq_zero z'
    · exact h j (by omega)
  · exact li_eq.mpr (by rw [e, Int.tmod_eq_zero_of_dvd w]; rfl)
theorem fd_smallPrime {post : Int32 → Prop} {p : Nat} (hp : p = 2 ∨ p = 3 ∨ p = 5 ∨ p = 7) (H : post 1) : wpX_isSmallPrime post (fc, mo, pr, lc, dc, a, a2, a3, a4, a5, a6) (nI p) := by
  rcases hp with rfl | rfl | rfl | rfl
  · exact br_t rfl H
  · exact br_f (by decide) (br_t rfl H)
  · exact br_f (by decide) (br_f (by decide) (br_t rfl H))
  · exact br_f (by decide) (br_f (by decide) (br_f (by decide) (br_t rfl H)))
theorem fd_loadFactor {post : St1 → Prop} {k : Nat} (hk : k < 6) (H : ∀ a', fd_r a' = fd_u (fd_r a) 6 (fl_r a2 k) → post (fc, mo, pr, lc, dc, a', a2, a3, a4, a5, a6)) : wpX_loadFactor post (fc, mo, pr, lc, dc, a, a2, a3, a4, a5, a6) 6 (nI k) := by
  unfold wpX_loadFactor
  dsimp only
  refine fd_clear (t := 6) (by omega) (fun b hb => ?_)
  refine pk_loop (fun n i s => wX_loadFactor_7 post 6 (nI k) fc mo pr lc dc n (nI i) s a2 a3 a4 a5 a6) (fun i s => fd_r s = fd_u (fd_r a) 6 (fd_mix i (fl_r a2 k) (fun _ => 0))) 6 0 b (by omega) (by rw [fd_mix_0, hb])
    (fun n s h => pk_le 6 6 (fun _ => H s (by rw [h, fd_mix_e (fun i hi => fl_6 a2 k i hi)])) (fun z => absurd z (by omega)))
    (fun n i s hi h hw => pk_le 6 i (fun z => absurd z (by omega)) (fun _ => ⟨pk_in (6 * k + i) 36 (by omega) (li_i6 k i), pk_in (12 * 6 + i) 312 (by omega) (li_ix 6 i), ?_⟩))
  rw [li_i6, show (12 * 6 + nI i : Int32) = nI (12 * 6 + i) from li_ix 6 i, nI_clamp (by omega), nI_clamp (by omega)]
  refine nm_e (nm_r (nI_1 i) (hw _ ?_))
  rw [fd_upd (by omega), h, fd_u_s, fd_u_u, fd_mix_s]
  rw [Int32.toInt_toInt64]; simp only [fl_r]; rw [if_pos hi]
end
end
section
/-! how many factors a polynomial modulo p can have -/
/-- f is modulo m of degree exactly d -/
def po_tp (m : Int) (d : Nat) (f : po_P) : Prop := po_dl m (d + 1) f ∧ ¬ m ∣ f d
theorem po_tp_fin {m : Int} {d : Nat} {f : po_P} (h : po_tp m d f) : po_fin m f := ⟨_, h.1⟩
theorem po_tp_ex {m : Int} {f : po_P} : ∀ n, po_dl m n f → (∃ i, ¬ m ∣ f i) → ∃ d, po_tp m d f
  | 0, h, ⟨i, hi⟩ => absurd (h i (by omega)) hi
  | n + 1, h, hh => by
    by_cases e : m ∣ f n
    · exact po_tp_ex n (fun i hi => by
        by_cases z : i = n
        · rw [z]; exact e
        · exact h i (by omega)) hh
    · exact ⟨n, h, e⟩
theorem po_tp_u {m : Int} {d e : Nat} {f : po_P} (h : po_tp m d f) (k : po_tp m e f) : d = e := by
  rcases Nat.lt_trichotomy d e with z | z | z
  · exact absurd (h.1 e (by omega)) k.2
  · exact z
  · exact absurd (k.1 d (by omega)) h.2
theorem po_tp_eq {m : Int} {d : Nat} {f g : po_P} (e : po_eq m f g) (h : po_tp m d f) : po_tp m d g := ⟨po_dl_eq e h.1, fun z => h.2 ((po_eq_i e d).mpr z)⟩
theorem po_tp_mul {m : Int} (hm : po_dom m) {d e : Nat} {f g : po_P} (h : po_tp m d f) (k : po_tp m e g) : po_tp m (d + e) (po_mul f g) := by
  obtain ⟨h1, h2⟩ := po_dl_mul k.1 d f h.1
  refine ⟨h1, fun z => ?_⟩
  have := Int.dvd_sub z h2
  rw [show po_mul f g (d + e) - (po_mul f g (d + e) - f d * g e) = f d * g e by omega] at this
  exact (hm.2 _ _ this).elim h.2 k.2
theorem po_tp_C {m c : Int} (h : ¬ m ∣ c) : po_tp m 0 (po_C c) := ⟨fun i hi => by simp only [po_C]; rw [if_neg (by omega)]; exact Int.dvd_zero m, h⟩
theorem po_mo_tp {m : Int} (hm : ¬ m ∣ 1) {d : Nat} {f : po_P} (h : po_mo m d f) : po_tp m d f := ⟨h.1, fun z => hm (by
  have := Int.dvd_sub z h.2
  rwa [show f d - (f d - 1) = 1 by omega] at this)⟩
/-- k non-constant polynomials whose product divides F -/
def fk_k (p : Int) (F : po_P) (k : Nat) : Prop := ∃ (hs : Nat → po_P) (w : po_P), po_fin p w ∧ (∀ j, j < k → ∃ d, 1 ≤ d ∧ po_tp p d (hs j)) ∧ po_eq p F (po_mul (po_prod hs k) w)
theorem ga_r1 {R : Type} [Lean.Grind.CommRing R] {m h t a1 b1 al be c d T x y z G L F u v : R} (h1 : c * h = t * a1 + m * x) (h2 : c * T = t * b1 + m * y) (h3 : al * h + be * T = d * t + m * z) (hF : F = h * G + m * u) (hF2 : F = T * L + m * v) : t * (al * a1 + be * b1) = t * (c * d) + m * (c * z - al * x - be * y) ∧ t * (a1 * G) = t * (b1 * L) + m * (c * v - c * u + y * L - x * G) := by
  constructor <;> grind
theorem ga_r2 {R : Type} [Lean.Grind.CommRing R] {m a1 b1 al be e cd G L x y z o : R} (h1 : al * a1 + be * b1 = cd + m * x) (h2 : a1 * G = b1 * L + m * y) (h3 : e * cd = o + m * z) (ho : o = 1) : L = a1 * (e * (al * L + be * G)) + m * (0 - z * L - e * L * x - e * be * y) := by grind
theorem ga_r3 {R : Type} [Lean.Grind.CommRing R] {m a1 b1 G L L1 y z : R} (h2 : a1 * G = b1 * L + m * y) (h3 : L = a1 * L1 + m * z) : a1 * G = a1 * (b1 * L1) + m * (y + b1 * z) := by grind
theorem fk_ref {p : Int} (hp : po_prime p) {d0 : Nat} (hd0 : 1 ≤ d0) : ∀ (k : Nat) (F T L : po_P) (dT dL : Nat), po_tp p dT T → po_tp p dL L → po_eq p F (po_mul T L) → (∀ h e, 1 ≤ e → po_tp p e h → po_dv p h F → d0 ≤ e) → fk_k p F k → ∃ k', fk_k p L k' ∧ k ≤ k' + dT / d0
  | 0, F, T, L, dT, dL, hT, hL, hF, hm, hk => ⟨0, ⟨fun _ => po_C 1, L, po_tp_fin hL, fun j hj => absurd hj (by omega), po_eq_e (@ga_1m po_P po_ring _ _ rfl).symm⟩, Nat.zero_le _⟩
  | k + 1, F, T, L, dT, dL, hT, hL, hF, hm, hk => by
    have dom := po_prime_dom hp
    obtain ⟨hs, w, fw, hh, hprod⟩ := hk
    rw [po_prod_1] at hprod
    obtain ⟨e0, e01, e02⟩ := hh 0 (by omega)
    have nzF : po_tp p (dT + dL) F := po_tp_eq (po_eq_s hF) (po_tp_mul dom hT hL)
    -- F = h0 G
    have asG : po_eq p F (po_mul (hs 0) (po_mul (po_prod (fun i => hs (i + 1)) k) w)) := po_eq_t hprod (po_eq_e (@ga_as po_P po_ring _ _ _))
    generalize hG : po_mul (po_prod (fun i => hs (i + 1)) k) w = G at asG
    have fG : po_fin p G := by
      rw [← hG]
      exact po_fin_mul (po_prod_fin k (fun j hj => by obtain ⟨d, _, h⟩ := hh (j + 1) (by omega); exact po_tp_fin h)) fw
    have gG : ∃ dG, po_tp p dG G := by
      obtain ⟨n, hn⟩ := fG
      refine po_tp_ex n hn (Classical.byContradiction (fun z => nzF.2 ?_))
      have z' : ∀ i, p ∣ G i := fun i => Classical.byContradiction (fun y => z ⟨i, y⟩)
      exact (po_eq_i asG _).mpr (by rw [po_mul_comm]; exact po_mul_dv _ G z')
    obtain ⟨dG, hdG⟩ := gG
    -- the common divisor of h0 and T
    obtain ⟨t, a1, b1, al, be, c, d, nc, nd, q1, q2, q3, f1, f2, f3, f4, f5⟩ := po_eu dom (dT + 1) (hs 0) T hT.1 (po_tp_fin e02)
    have th := po_tp_mul dom (po_tp_C nc) e02
    have tT := po_tp_mul dom (po_tp_C nc) hT
    rw [Nat.zero_add] at th tT
    have th' := po_tp_eq q1 th
    have tT' := po_tp_eq q2 tT
    have nz : ∀ (f g : po_P) (dd : Nat), po_tp p dd (po_mul f g) → (∃ i, ¬ p ∣ f i) ∧ ∃ i, ¬ p ∣ g i := by
      intro f g dd h
      constructor
      · refine Classical.byContradiction (fun z => h.2 (po_mul_dv _ f (fun i => Classical.byContradiction (fun y => z ⟨i, y⟩))))
      · refine Classical.byContradiction (fun z => h.2 ?_)
        rw [po_mul_comm]
        exact po_mul_dv _ g (fun i => Classical.byContradiction (fun y => z ⟨i, y⟩))
    obtain ⟨nt, na1⟩ := nz _ _ _ th'
    obtain ⟨_, nb1⟩ := nz _ _ _ tT'
    obtain ⟨n1, hn1⟩ := f1
    obtain ⟨n2, hn2⟩ := f2
    obtain ⟨n3, hn3⟩ := f3
    obtain ⟨dt, tt⟩ := po_tp_ex n1 hn1 nt
    obtain ⟨da, ta⟩ := po_tp_ex n2 hn2 na1
    obtain ⟨db, tb⟩ := po_tp_ex n3 hn3 nb1
    have deg1 : dt + da = e0 := po_tp_u (po_tp_mul dom tt ta) th'
    have deg2 : dt + db = dT := po_tp_u (po_tp_mul dom tt tb) tT'
    obtain ⟨x, hx⟩ := po_eq_ex q1
    obtain ⟨y, hy⟩ := po_eq_ex q2
    obtain ⟨z, hz⟩ := po_eq_ex q3
    obtain ⟨u, hu⟩ := po_eq_ex asG
    obtain ⟨v, hv⟩ := po_eq_ex hF
    obtain ⟨g1, g2⟩ := @ga_r1 po_P po_ring _ _ _ _ _ _ _ _ _ _ _ _ _ _ _ _ _ _ hx hy hz hu hv
    have k1 : po_eq p (po_add (po_mul al a1) (po_mul be b1)) (po_mul (po_C c) (po_C d)) := po_cancel dom nt (po_ex_eq g1)
    have k2 : po_eq p (po_mul a1 G) (po_mul b1 L) := po_cancel dom nt (po_ex_eq g2)
    have ncd : ¬ p ∣ c * d := fun w => (dom.2 _ _ w).elim nc nd
    obtain ⟨e, he⟩ := nt_inv hp ncd
    have he' : po_eq p (po_mul (po_C e) (po_mul (po_C c) (po_C d))) (po_C 1) := by rw [← po_C_mul, ← po_C_mul]; exact po_C_eq he
    obtain ⟨x1, hx1⟩ := po_eq_ex k1
    obtain ⟨x2, hx2⟩ := po_eq_ex k2
    obtain ⟨x3, hx3⟩ := po_eq_ex he'
    have k3 : po_eq p L (po_mul a1 (po_mul (po_C e) (po_add (po_mul al L) (po_mul be G)))) := po_ex_eq (@ga_r2 po_P po_ring _ _ _ _ _ _ _ _ _ _ _ _ (po_C 1) hx1 hx2 hx3 rfl)
    have fL1 : po_fin p (po_mul (po_C e) (po_add (po_mul al L) (po_mul be G))) := po_fin_mul (po_fin_C _ _) (po_fin_add (po_fin_mul f4 (po_tp_fin hL)) (po_fin_mul f5 fG))
    generalize po_mul (po_C e) (po_add (po_mul al L) (po_mul be G)) = L1 at k3 fL1
    obtain ⟨x4, hx4⟩ := po_eq_ex k3
    have k4 : po_eq p G (po_mul b1 L1) := po_cancel dom na1 (po_ex_eq (@ga_r3 po_P po_ring _ _ _ _ _ _ _ _ hx2 hx4))
    have tL1 : ∃ dd, po_tp p dd L1 := by
      obtain ⟨n4, hn4⟩ := fL1
      exact po_tp_ex n4 hn4 (nz _ _ _ (po_tp_eq k3 hL)).2
    obtain ⟨dL1, tL1⟩ := tL1
    have dvG : ∀ h, po_dv p h G → po_dv p h F := fun h hd => po_dv_eq (po_dv_mulL (hs 0) (po_tp_fin e02) hd) (po_eq_s asG)
    obtain ⟨k', fk', hk'⟩ := fk_ref hp hd0 k G b1 L1 db dL1 tb tL1 k4 (fun h e h1 h2 h3 => hm h e h1 h2 (dvG h h3)) ⟨fun i => hs (i + 1), w, fw, fun j hj => hh (j + 1) (by omega), po_eq_e hG.symm⟩
    have dh0 : d0 ≤ e0 := hm (hs 0) e0 e01 e02 ⟨G, fG, asG⟩
    by_cases ea : 1 ≤ da
    · obtain ⟨hs', w', fw', hh', hp'⟩ := fk'
      refine ⟨k' + 1, ⟨fun i => match i with | 0 => a1 | j + 1 => hs' j, w', fw', fun j hj => ?_, ?_⟩, ?_⟩
      · cases j with
        | zero => exact ⟨da, ea, ta⟩
        | succ j => exact hh' j (by omega)
      · rw [po_prod_1]
        refine po_eq_t k3 (po_eq_t (po_eq_mul (po_eq_r _ _) hp') (po_eq_e ?_))
        exact (@ga_as po_P po_ring _ _ _).symm
      · have : db / d0 ≤ dT / d0 := Nat.div_le_div_right (by omega)
        omega
    · refine ⟨k', ?_, ?_⟩
      · obtain ⟨hs', w', fw', hh', hp'⟩ := fk'
        refine ⟨hs', po_mul a1 w', po_fin_mul (po_tp_fin ta) fw', hh', po_eq_t k3 (po_eq_t (po_eq_mul (po_eq_r _ _) hp') (po_eq_e ?_))⟩
        exact @ga_sw po_P po_ring _ _ _
      · have : dT = db + e0 := by omega
        have h1 : (db + d0) / d0 ≤ dT / d0 := Nat.div_le_div_right (by omega)
        rw [Nat.add_div_right _ (by omega)] at h1
        omega
end
section
/-! linear and quadratic divisors of x^(p^d) - x -/
theorem ga_px {R : Type} [Lean.Grind.CommRing R] {m X Y A B q L x : R} (h : Y - A = L * q + m * x) (hL : L = X - B) : X * Y - B * A = L * (X * q + A) + m * (X * x) := by grind
/-- x^e is al^e modulo x - al -/
theorem po_lin_pow (m al : Int) : ∀ e : Nat, po_dv m (po_lin al) (po_sub (po_X e 1) (po_C (al ^ e)))
  | 0 => po_dv_0 _ _ (fun i => by show m ∣ po_X 0 1 i - po_C (al ^ 0) i; rw [Int.pow_zero]; show m ∣ po_C 1 i - po_C 1 i; simp)
  | e + 1 => by
    obtain ⟨q, fq, hq⟩ := po_lin_pow m al e
    obtain ⟨x, hx⟩ := po_eq_ex hq
    have g : po_eq m (po_sub (po_mul (po_X 1 1) (po_X e 1)) (po_mul (po_C al) (po_C (al ^ e)))) (po_mul (po_lin al) (po_add (po_mul (po_X 1 1) q) (po_C (al ^ e)))) := po_ex_eq (@ga_px po_P po_ring (po_C m) (po_X 1 1) (po_X e 1) (po_C (al ^ e)) (po_C al) q (po_lin al) x hx rfl)
    rw [po_XX, Nat.add_comm, ← po_C_mul, show (1 : Int) * 1 = 1 from rfl] at g
    rw [Int.pow_succ, Int.mul_comm (al ^ e) al]
    exact ⟨_, po_fin_add (po_fin_mul (po_fin_X _ _ _) fq) (po_fin_C _ _), g⟩
theorem po_lin_dvd {m al be : Int} (h : m ∣ al - be) : po_eq m (po_lin al) (po_lin be) := po_eq_sub (po_eq_r _ _) (po_C_eq h)
def pf_ck (p : Nat) : Bool := (List.range p).all (fun a => a ^ p % p == a % p)
theorem pf_ok {p : Nat} (hp : p = 2 ∨ p = 3 ∨ p = 5 ∨ p = 7) : pf_ck p = true := by
  rcases hp with rfl | rfl | rfl | rfl <;> decide
theorem pf_fer {p : Nat} (hp : pf_ck p = true) (h0 : 0 < p) (al : Int) : (p : Int) ∣ al ^ p - al := by
  have key : ∀ a : Nat, a < p → a ^ p % p = a % p := fun a ha => by
    have := List.all_eq_true.mp hp a (List.mem_range.mpr ha)
    exact beq_iff_eq.mp this
  have rl := li_emod (a := al) (show (0 : Int) < p by omega)
  have k := key (al % p).toNat (by omega)
  -- al^p = (al % p)^p
  have cg : ∀ e : Nat, (p : Int) ∣ al ^ e - (al % p) ^ e := by
    intro e
    induction e with
    | zero => rw [Int.pow_zero, Int.pow_zero]; simp
    | succ e ih =>
      rw [Int.pow_succ, Int.pow_succ]
      have d : (p : Int) ∣ al - al % p := Int.dvd_self_sub_emod
      have := Int.dvd_add (Int.dvd_mul_of_dvd_left (c := al) ih) (Int.dvd_mul_of_dvd_right (b := (al % p) ^ e) d)
      rwa [show (al ^ e - (al % ↑p) ^ e) * al + (al % ↑p) ^ e * (al - al % ↑p) = al ^ e * al - (al % ↑p) ^ e * (al % ↑p) by grind] at this
  have e1 : (((al % p).toNat : Nat) : Int) = al % p := Int.toNat_of_nonneg rl.1
  have e2 : ((((al % p).toNat ^ p % p : Nat)) : Int) = (((al % p).toNat % p : Nat) : Int) := by rw [k]
  rw [Int.natCast_emod, Int.natCast_pow, Int.natCast_emod, e1] at e2
  have e3 : (p : Int) ∣ (al % p) ^ p - al % p := Int.dvd_of_emod_eq_zero (Int.emod_eq_emod_iff_emod_sub_eq_zero.mp e2)
  have := Int.dvd_add (Int.dvd_add (cg p) e3) (Int.dvd_neg.mpr (show (p : Int) ∣ al - al % p from Int.dvd_self_sub_emod))
  rwa [show al ^ p - (al % ↑p) ^ p + ((al % ↑p) ^ p - al % ↑p) + -(al - al % ↑p) = al ^ p - al by omega] at this
/-- every linear polynomial divides x^p - x -/
theorem pf_lin {p : Nat} (hp : pf_ck p = true) (h0 : 0 < p) (al : Int) : po_dv p (po_lin al) (po_sub (po_X p 1) (po_X 1 1)) := by
  have h1 := po_lin_pow p al p
  have h2 := po_lin_pow p al 1
  have h3 := po_dv_sub h1 h2
  refine po_dv_eq h3 (fun i => ?_)
  have f := pf_fer hp h0 al
  simp only [po_sub, po_C]
  have e : al ^ 1 = al := by rw [Int.pow_succ, Int.pow_zero, Int.one_mul]
  rw [e]
  by_cases z : i = 0
  · rw [if_pos z, if_pos z]
    have := Int.dvd_neg.mpr f
    rwa [show -(al ^ p - al) = po_X p 1 i - al ^ p - (po_X 1 1 i - al) - (po_X p 1 i - po_X 1 1 i) by omega] at this
  · rw [if_neg z, if_neg z]; simp
/-- x^2 + b x + c -/
def po_qu (b c : Int) : po_P := po_add (po_X 2 1) (po_add (po_mul (po_C b) (po_X 1 1)) (po_C c))
def pf_qx (p b c : Nat) : Nat → Nat × Nat
  | 0 => (1 % p, 0)
  | e + 1 => let r := pf_qx p b c e; ((r.2 * (p - c)) % p, (r.1 + r.2 * (p - b)) % p)
def pf_qck (p : Nat) : Bool := (List.range p).all (fun b => (List.range p).all (fun c => (List.range p).any (fun a => (a * a + b * a + c) % p == 0) || pf_qx p b c (p * p) == (0, 1)))
theorem pf_qok {p : Nat} (hp : p = 2 ∨ p = 3 ∨ p = 5 ∨ p = 7) : pf_qck p = true := by
  rcases hp with rfl | rfl | rfl | rfl <;> decide +kernel
theorem ga_qx {R : Type} [Lean.Grind.CommRing R] {m X X2 Y u v b c H q x u' v' s t : R} (h : Y = u + v * X + H * q + m * x) (hH : H = X2 + (b * X + c)) (hX : X2 = X * X) (hu : u' = 0 - v * c + m * s) (hv : v' = u - v * b + m * t) : X * Y = u' + v' * X + H * (X * q + v) + m * (X * x - s - t * X) := by grind
theorem pf_qx_ok {p b c : Nat} (hb : b ≤ p) (hc : c ≤ p) : ∀ e, po_dv p (po_qu b c) (po_sub (po_X e 1) (po_add (po_C ((pf_qx p b c e).1 : Nat)) (po_mul (po_C ((pf_qx p b c e).2 : Nat)) (po_X 1 1))))
  | 0 => po_dv_0 _ _ (fun i => by
      show (p : Int) ∣ po_X 0 1 i - (po_C _ i + po_mul (po_C _) _ i)
      rw [po_mul_C]
      show (p : Int) ∣ po_C 1 i - (po_C (1 % p : Nat) i + ((0 : Nat) : Int) * po_X 1 1 i)
      have d : (p : Int) ∣ 1 - ((1 % p : Nat) : Int) := by rw [Int.natCast_emod]; exact Int.dvd_self_sub_emod
      simp only [po_C]
      split
      · rw [show (1 : Int) - (((1 % p : Nat) : Int) + ((0 : Nat) : Int) * po_X 1 1 i) = 1 - ((1 % p : Nat) : Int) by simp]; exact d
      · simp)
  | e + 1 => by
    obtain ⟨q, fq, hq⟩ := pf_qx_ok hb hc e
    have hq' : po_eq p (po_X e 1) (po_add (po_add (po_C ((pf_qx p b c e).1 : Nat)) (po_mul (po_C ((pf_qx p b c e).2 : Nat)) (po_X 1 1))) (po_mul (po_qu b c) q)) := fun i => by
      have := hq i
      rwa [show po_sub (po_X e 1) (po_add (po_C ((pf_qx p b c e).1 : Nat)) (po_mul (po_C ((pf_qx p b c e).2 : Nat)) (po_X 1 1))) i - po_mul (po_qu b c) q i = po_X e 1 i - po_add (po_add (po_C ((pf_qx p b c e).1 : Nat)) (po_mul (po_C ((pf_qx p b c e).2 : Nat)) (po_X 1 1))) (po_mul (po_qu b c) q) i by simp only [po_sub, po_add]; omega] at this
    obtain ⟨x, hx⟩ := po_eq_ex hq'
    generalize hr : pf_qx p b c e = r at *
    have eu : po_eq p (po_C ((r.2 * (p - c) % p : Nat) : Int)) (po_sub (po_C 0) (po_mul (po_C (r.2 : Nat)) (po_C (c : Nat)))) := by
      rw [← po_C_mul]
      have h1 : po_sub (po_C 0) (po_C ((r.2 : Int) * c)) = po_C (0 - (r.2 : Int) * c) := by funext i; simp only [po_sub, po_C]; split <;> simp
      rw [h1]
      refine po_C_eq ?_
      rw [Int.natCast_emod, Int.natCast_mul, Int.ofNat_sub hc]
      obtain ⟨k, hk⟩ := fd_em_eq (p : Int) (fun _ => (r.2 : Int) * ((p : Int) - c)) 0
      simp only [fd_em] at hk
      exact ⟨k + r.2, by grind⟩
    have ev : po_eq p (po_C (((r.1 + r.2 * (p - b)) % p : Nat) : Int)) (po_sub (po_C (r.1 : Nat)) (po_mul (po_C (r.2 : Nat)) (po_C (b : Nat)))) := by
      rw [← po_C_mul]
      have h1 : po_sub (po_C (r.1 : Int)) (po_C ((r.2 : Int) * b)) = po_C ((r.1 : Int) - (r.2 : Int) * b) := by funext i; simp only [po_sub, po_C]; split <;> simp
      rw [h1]
      refine po_C_eq ?_
      rw [Int.natCast_emod, Int.natCast_add, Int.natCast_mul, Int.ofNat_sub hb]
      obtain ⟨k, hk⟩ := fd_em_eq (p : Int) (fun _ => (r.1 : Int) + (r.2 : Int) * ((p : Int) - b)) 0
      simp only [fd_em] at hk
      exact ⟨k + r.2, by grind⟩
    obtain ⟨s, hs⟩ := po_eq_ex eu
    obtain ⟨t, ht⟩ := po_eq_ex ev
    have X2 : po_X 2 1 = po_mul (po_X 1 1) (po_X 1 1) := by rw [po_XX]; rfl
    have g : po_eq p (po_mul (po_X 1 1) (po_X e 1)) (po_add (po_add (po_C ((r.2 * (p - c) % p : Nat) : Int)) (po_mul (po_C (((r.1 + r.2 * (p - b)) % p : Nat) : Int)) (po_X 1 1))) (po_mul (po_qu b c) (po_add (po_mul (po_X 1 1) q) (po_C (r.2 : Nat))))) := po_ex_eq (@ga_qx po_P po_ring (po_C p) (po_X 1 1) (po_X 2 1) (po_X e 1) (po_C (r.1 : Nat)) (po_C (r.2 : Nat)) (po_C (b : Nat)) (po_C (c : Nat)) (po_qu b c) q x (po_C ((r.2 * (p - c) % p : Nat) : Int)) (po_C (((r.1 + r.2 * (p - b)) % p : Nat) : Int)) s t hx rfl X2 hs ht)
    rw [po_XX, Nat.add_comm, show (1 : Int) * 1 = 1 from rfl] at g
    have er : pf_qx p b c (e + 1) = ((r.2 * (p - c)) % p, (r.1 + r.2 * (p - b)) % p) := by rw [pf_qx, hr]
    rw [er]
    refine ⟨po_add (po_mul (po_X 1 1) q) (po_C (r.2 : Nat)), po_fin_add (po_fin_mul (po_fin_X _ _ _) fq) (po_fin_C _ _), fun i => ?_⟩
    have := g i
    rwa [show po_X (e + 1) 1 i - po_add (po_add (po_C ((r.2 * (p - c) % p : Nat) : Int)) (po_mul (po_C (((r.1 + r.2 * (p - b)) % p : Nat) : Int)) (po_X 1 1))) (po_mul (po_qu b c) (po_add (po_mul (po_X 1 1) q) (po_C (r.2 : Nat)))) i = po_sub (po_X (e + 1) 1) (po_add (po_C ((r.2 * (p - c) % p : Nat) : Int)) (po_mul (po_C (((r.1 + r.2 * (p - b)) % p : Nat) : Int)) (po_X 1 1))) i - po_mul (po_qu b c) (po_add (po_mul (po_X 1 1) q) (po_C (r.2 : Nat))) i by simp only [po_sub, po_add]; omega] at this
end
section
/-! divisors of degree 1 and 2; counting -/
def fm_D (p : Int) (d : Nat) (F : po_P) : Prop := ∀ h e, 1 ≤ e → po_tp p e h → po_dv p h F → d ≤ e
theorem fm_D1 (p : Int) (F : po_P) : fm_D p 1 F := fun _ _ h _ _ => h
theorem fm_D_dv {p : Int} {d : Nat} {F G : po_P} (h : fm_D p d F) (k : po_dv p G F) : fm_D p d G := fun x e h1 h2 h3 => h x e h1 h2 (po_dv_t h3 k)
theorem dv_1 {p : Int} (hp : po_prime p) {h : po_P} (ht : po_tp p 1 h) : ∃ al, po_dv p (po_lin al) h := by
  obtain ⟨e, he⟩ := nt_inv hp ht.2
  refine ⟨-(e * h 0), po_C (h 1), po_fin_C _ _, fun i => ?_⟩
  rw [po_mul_comm, po_mul_C]
  simp only [po_lin, po_sub, po_X, po_C]
  by_cases z0 : i = 0
  · rw [z0, if_neg (by omega), if_pos rfl]
    obtain ⟨k, hk⟩ := he
    exact ⟨-(h 0) * k, by grind⟩
  · by_cases z1 : i = 1
    · rw [z1, if_pos rfl, if_neg (by omega)]; simp
    · rw [if_neg z1, if_neg z0]
      have := ht.1 i (by omega)
      simpa using this
theorem dv_2 {p : Nat} (hp : po_prime p) {h : po_P} (ht : po_tp p 2 h) : ∃ b c : Nat, b < p ∧ c < p ∧ po_dv p (po_qu b c) h ∧ po_dv p h (po_qu b c) := by
  obtain ⟨e, he⟩ := nt_inv hp ht.2
  have hp1 := hp.1
  have r1 := li_emod (a := e * h 1) (show (0 : Int) < p by omega)
  have r0 := li_emod (a := e * h 0) (show (0 : Int) < p by omega)
  have b1 : (((e * h 1 % p).toNat : Nat) : Int) = e * h 1 % p := Int.toNat_of_nonneg r1.1
  have b0 : (((e * h 0 % p).toNat : Nat) : Int) = e * h 0 % p := Int.toNat_of_nonneg r0.1
  have qv : ∀ b c : Int, po_qu b c 0 = c ∧ po_qu b c 1 = b ∧ po_qu b c 2 = 1 ∧ ∀ i, 2 < i → po_qu b c i = 0 := by
    intro b c
    refine ⟨?_, ?_, ?_, fun i hi => ?_⟩
    · show po_X 2 1 0 + (po_mul (po_C b) _ 0 + po_C c 0) = c
      rw [po_mul_C]; simp [po_X, po_C]
    · show po_X 2 1 1 + (po_mul (po_C b) _ 1 + po_C c 1) = b
      rw [po_mul_C]; simp [po_X, po_C]
    · show po_X 2 1 2 + (po_mul (po_C b) _ 2 + po_C c 2) = 1
      rw [po_mul_C]; simp [po_X, po_C]
    · show po_X 2 1 i + (po_mul (po_C b) _ i + po_C c i) = 0
      rw [po_mul_C]; simp only [po_X, po_C]; rw [if_neg (by omega), if_neg (by omega), if_neg (by omega)]; simp
  have cg : ∀ i, (p : Int) ∣ e * h i - po_qu ((e * h 1 % p).toNat : Nat) ((e * h 0 % p).toNat : Nat) i := by
    intro i
    obtain ⟨q0, q1, q2, q3⟩ := qv ((e * h 1 % p).toNat : Nat) ((e * h 0 % p).toNat : Nat)
    match i with
    | 0 => rw [q0, b0]; exact Int.dvd_self_sub_emod
    | 1 => rw [q1, b1]; exact Int.dvd_self_sub_emod
    | 2 => rw [q2]; exact he
    | i + 3 =>
      rw [q3 (i + 3) (by omega), Int.sub_zero]
      exact Int.dvd_mul_of_dvd_right (ht.1 (i + 3) (by omega))
  refine ⟨(e * h 1 % p).toNat, (e * h 0 % p).toNat, by omega, by omega, ⟨po_C (h 2), po_fin_C _ _, fun i => ?_⟩, ⟨po_C e, po_fin_C _ _, fun i => ?_⟩⟩
  · rw [po_mul_comm, po_mul_C]
    obtain ⟨k, hk⟩ := cg i
    obtain ⟨k2, hk2⟩ := he
    exact ⟨h 2 * k - k2 * h i, by grind⟩
  · rw [po_mul_comm, po_mul_C]
    have := Int.dvd_neg.mpr (cg i)
    rwa [Int.neg_sub] at this
theorem ga_rt {R : Type} [Lean.Grind.CommRing R] {m X X2 a b c z o k : R} (hX : X2 = X * X) (hz : z = a * a + b * a + c) (h : z = o + m * k) (ho : o = 0) : X2 + (b * X + c) = (X - a) * (X + (a + b)) + m * k := by grind
theorem dv_rt {p : Int} {a b c : Int} (h : p ∣ a * a + b * a + c) : po_dv p (po_lin a) (po_qu b c) := by
  have hz : po_eq p (po_C (a * a + b * a + c)) (po_C 0) := po_C_eq (by rw [Int.sub_zero]; exact h)
  obtain ⟨k, hk⟩ := po_eq_ex hz
  have X2 : po_X 2 1 = po_mul (po_X 1 1) (po_X 1 1) := by rw [po_XX]; rfl
  have ez : po_C (a * a + b * a + c) = po_add (po_add (po_mul (po_C a) (po_C a)) (po_mul (po_C b) (po_C a))) (po_C c) := by rw [← po_C_mul, ← po_C_mul, ← po_C_add, ← po_C_add]
  exact ⟨_, po_fin_add (po_fin_X _ 1 1) (po_fin_add (po_fin_C _ a) (po_fin_C _ b)), po_ex_eq (@ga_rt po_P po_ring (po_C p) (po_X 1 1) (po_X 2 1) (po_C a) (po_C b) (po_C c) _ (po_C 0) k X2 ez hk rfl)⟩
/-- after a trial with trivial common divisor there is no factor of degree d any more -/
theorem fm_next {p d : Nat} (hp : po_prime p) (hps : p = 2 ∨ p = 3 ∨ p = 5 ∨ p = 7) (hd : d = 1 ∨ d = 2) {F W : po_P} (hD : fm_D p d F) (hW : po_cb p F (po_sub (po_X (p ^ d) 1) (po_X 1 1)) W) (hg : po_cb p F W (po_C 1)) : fm_D p (d + 1) F := by
  have hp1 := hp.1
  have np : ¬ (p : Int) ∣ 1 := fun z => by have := Int.le_of_dvd (by omega) z; omega
  have bad : ∀ h e, 1 ≤ e → po_tp p e h → po_dv p h F → po_dv p h (po_sub (po_X (p ^ d) 1) (po_X 1 1)) → False := by
    intro h e he ht h1 h2
    obtain ⟨q, fq, hq⟩ := po_dv_cb h1 (po_dv_cb h1 h2 hW) hg
    have dom := po_prime_dom hp
    -- degrees
    have tq : ∃ dq, po_tp p dq q := by
      obtain ⟨n, hn⟩ := fq
      refine po_tp_ex n hn (Classical.byContradiction (fun z => np ?_))
      have z' : ∀ i, (p : Int) ∣ q i := fun i => Classical.byContradiction (fun y => z ⟨i, y⟩)
      have := (po_eq_i hq 0).mpr (by rw [po_mul_comm]; exact po_mul_dv _ q z')
      exact this
    obtain ⟨dq, tq⟩ := tq
    have := po_tp_u (po_tp_eq (po_eq_s hq) (po_tp_mul dom ht tq)) (po_tp_C np)
    omega
  intro h e he ht hF
  have hde := hD h e he ht hF
  refine Classical.byContradiction (fun z => ?_)
  have ed : e = d := by omega
  subst ed
  rcases hd with rfl | rfl
  · obtain ⟨al, hal⟩ := dv_1 hp ht
    refine bad (po_lin al) 1 (Nat.le_refl 1) (po_mo_tp np (po_lin_mo p al)) (po_dv_t hal hF) ?_
    rw [Nat.pow_one]
    exact pf_lin (pf_ok hps) (by omega) al
  · obtain ⟨b, c, hb, hc, h1, h2⟩ := dv_2 hp ht
    have ck := pf_qok hps
    have ck1 := List.all_eq_true.mp ck b (List.mem_range.mpr hb)
    have ck2 := List.all_eq_true.mp ck1 c (List.mem_range.mpr hc)
    rw [Bool.or_eq_true] at ck2
    rcases ck2 with ck3 | ck3
    · obtain ⟨a, ha, ha2⟩ := List.any_eq_true.mp ck3
      have ha3 : (a * a + b * a + c) % p = 0 := beq_iff_eq.mp ha2
      have dv : (p : Int) ∣ (a : Int) * a + b * a + c := by
        have := Nat.dvd_of_mod_eq_zero ha3
        have := Int.ofNat_dvd.mpr this
        rwa [Int.natCast_add, Int.natCast_add, Int.natCast_mul, Int.natCast_mul] at this
      have := hD (po_lin a) 1 (Nat.le_refl 1) (po_mo_tp np (po_lin_mo p a)) (po_dv_t (dv_rt dv) (po_dv_t h1 hF))
      omega
    · have ck4 : pf_qx p b c (p * p) = (0, 1) := beq_iff_eq.mp ck3
      have q := pf_qx_ok (Nat.le_of_lt hb) (Nat.le_of_lt hc) (p * p)
      rw [ck4] at q
      have e2 : p ^ 2 = p * p := by rw [Nat.pow_two]
      refine bad (po_qu b c) 2 (by omega) ?_ (po_dv_t h1 hF) ?_
      · -- the degree of x^2 + b x + c
        obtain ⟨q1, fq, hq1⟩ := h1
        refine ⟨fun i hi => ?_, ?_⟩
        · show (p : Int) ∣ po_X 2 1 i + (po_mul (po_C b) _ i + po_C c i)
          rw [po_mul_C]; simp only [po_X, po_C]; rw [if_neg (by omega), if_neg (by omega), if_neg (by omega)]; simp
        · show ¬ (p : Int) ∣ po_X 2 1 2 + (po_mul (po_C b) _ 2 + po_C c 2)
          rw [po_mul_C]; simp only [po_X, po_C]; simpa using np
      · rw [e2]
        refine po_dv_eq q (po_eq_e ?_)
        funext i
        show po_X (p * p) 1 i - (po_C ((0 : Nat) : Int) i + po_mul (po_C ((1 : Nat) : Int)) _ i) = po_X (p * p) 1 i - po_X 1 1 i
        rw [po_mul_C]; simp [po_C]
theorem fk_prod {p : Int} (hp : po_prime p) {d : Nat} {hs : Nat → po_P} : ∀ k, (∀ j, j < k → ∃ e, d ≤ e ∧ po_tp p e (hs j)) → ∃ D, k * d ≤ D ∧ po_tp p D (po_prod hs k)
  | 0, _ => ⟨0, by omega, po_tp_C (po_prime_dom hp).1⟩
  | k + 1, h => by
    obtain ⟨D, h1, h2⟩ := fk_prod hp k (fun j hj => h j (by omega))
    obtain ⟨e, h3, h4⟩ := h k (by omega)
    refine ⟨D + e, ?_, po_tp_mul (po_prime_dom hp) h2 h4⟩
    rw [Nat.add_mul, Nat.one_mul]; omega
theorem ga_rot {R : Type} [Lean.Grind.CommRing R] {r h w : R} : r * h * w = h * (r * w) := by grind
/-- k factors of degree at least d in F of degree n -/
theorem fk_deg {p : Int} (hp : po_prime p) {d n k : Nat} {F : po_P} (hD : fm_D p d F) (hF : po_tp p n F) (h : fk_k p F k) : k * d ≤ n := by
  obtain ⟨hs, w, fw, hh, hprod⟩ := h
  have fj : ∀ j, j < k → po_fin p (hs j) := fun j hj => by obtain ⟨e, _, h⟩ := hh j hj; exact po_tp_fin h
  obtain ⟨D, h1, h2⟩ := fk_prod hp (d := d) k (fun j hj => by
    obtain ⟨e, h1, h2⟩ := hh j hj
    refine ⟨e, hD (hs j) e h1 h2 ?_, h2⟩
    obtain ⟨r, r0, r1, _⟩ := po_prod_out (g := hs) (k := j) k hj
    refine ⟨po_mul r w, po_fin_mul (r0 p fj) fw, po_eq_t hprod (po_eq_e ?_)⟩
    rw [r1]; exact @ga_rot po_P po_ring _ _ _)
  have tw : ∃ dw, po_tp p dw w := by
    obtain ⟨m, hm⟩ := fw
    refine po_tp_ex m hm (Classical.byContradiction (fun z => hF.2 ?_))
    have z' : ∀ i, p ∣ w i := fun i => Classical.byContradiction (fun y => z ⟨i, y⟩)
    exact (po_eq_i hprod n).mpr (by rw [po_mul_comm]; exact po_mul_dv _ w z')
  obtain ⟨dw, tw⟩ := tw
  have := po_tp_u (po_tp_eq (po_eq_s hprod) (po_tp_mul (po_prime_dom hp) h2 tw)) hF
  omega
end
section
/-! factorsModulo: the walk -/
/-- LEFT is F, monic of degree n; c degrees are noted; k0 factors are to be found -/
def fm_I (p : Int) (F : po_P) (n c k0 : Nat) : Prop := fd_rd p F ∧ F n = 1 ∧ (∀ i, n < i → F i = 0) ∧ c + n ≤ 5 ∧ ∃ k, fk_k p F k ∧ k0 ≤ c + k
theorem ga_tw {R : Type} [Lean.Grind.CommRing R] {m Y W q F x W' X y o i : R} (h : Y = W + q * F + m * x) (k : W' = W - X + m * y) (ho : o = 0) (hi : i = 1) : W' = (o - q) * F + i * (Y - X) + m * (y - x) := by grind
section
variable {fc lc : Int32} {mo pr : Int64} {a : Nat → Int64} {a2 : Nat → Int32} {a3 : Nat → Int64} {a4 a5 : Nat → Int32}
theorem fd_addDegree {post : St1 → Prop} {c : Nat} {a6 : Nat → Int32} {d : Int32} (hc : c < 6) (H : ∀ a6', post (fc, mo, pr, lc, nI (c + 1), a, a2, a3, a4, a5, a6')) : wpX_addDegree post (fc, mo, pr, lc, nI c, a, a2, a3, a4, a5, a6) d :=
  ⟨pk_in c 6 hc, nm_e (nm_r (nI_1 c) (H _))⟩
theorem fd_powerOfUnknown {post : St1 → Prop} {dc : Int32} {a6 : Nat → Int32} {d n p : Nat} (hd : d ≤ 2) (hp : 1 < p) (hp2 : p < 100) (hmo : mo.toInt = (p : Int)) (hpr : pr.toInt = (p : Int)) (hn : 1 ≤ n) (hF : fd_rd p (fd_r a 5)) (hF1 : fd_r a 5 n = 1) (hF2 : ∀ i, n < i → fd_r a 5 i = 0)
    (H : ∀ a' W, fd_r a' = fd_u (fd_r a) 23 W → fd_xr p (fd_r a 5) n (p ^ d) W → post (fc, mo, pr, lc, dc, a', a2, a3, a4, a5, a6)) : wpX_powerOfUnknown post (fc, mo, pr, lc, dc, a, a2, a3, a4, a5, a6) (nI d) := by
  unfold wpX_powerOfUnknown
  dsimp only
  refine fd_clear (t := 23) (by omega) (fun b1 h1 => nm_e ⟨d + 1, ?_⟩)
  have h2 : fd_r (vp_updL b1 276 1) = fd_u (fd_r a) 23 (po_C 1) := by
    rw [show (276 : Nat) = 12 * 23 + 0 from rfl, fd_upd (by omega), h1, fd_u_s, fd_u_u]; rfl
  have x0 : fd_xr p (fd_r a 5) n 0 (po_C 1) := by
    refine ⟨fun i => ?_, fun i hi => ?_, po_C 0, po_fin_C _ _, po_eq_e ?_⟩
    · simp only [po_C]; split <;> omega
    · simp only [po_C]; rw [if_neg (by omega)]
    · funext i
      show po_X 0 1 i = po_C 1 i + po_mul _ _ i
      rw [po_mul_C]
      show po_C 1 i = _
      omega
  have pw : ∀ k, k ≤ d → p ^ k < 10000 := fun k hk => by
    have : p ^ k ≤ 100 ^ k := Nat.pow_le_pow_left (by omega) k
    have : (100 : Nat) ^ k ≤ 100 ^ 2 := Nat.pow_le_pow_right (by omega) (by omega)
    have h3 : p ^ k < 10001 := by omega
    have : p ^ k ≤ 99 ^ k := Nat.pow_le_pow_left (by omega) k
    have : (99 : Nat) ^ k ≤ 99 ^ 2 := Nat.pow_le_pow_right (by omega) (by omega)
    omega
  have fin : ∃ f, wX_powerOfUnknown_40 post (nI (p ^ d)) f 0 fc mo pr lc dc (vp_updL b1 276 1) a2 a3 a4 a5 a6 := by
    have := pw d (Nat.le_refl d)
    exact pk_loop (fun f k s => wX_powerOfUnknown_40 post (nI (p ^ d)) f (nI k) fc mo pr lc dc s a2 a3 a4 a5 a6) (fun k s => ∃ W, fd_r s = fd_u (fd_r a) 23 W ∧ fd_xr p (fd_r a 5) n k W) (p ^ d) 0 _ (by omega) ⟨_, h2, x0⟩
      (fun f s h => pk_le (p ^ d) (p ^ d) (fun _ => by
        obtain ⟨W, w1, w2⟩ := h
        exact H s W w1 w2) (fun z => absurd z (by omega)))
      (fun f k s hk h hw => pk_le (p ^ d) k (fun z => absurd z (by omega)) (fun _ => by
        obtain ⟨W, w1, w2⟩ := h
        have e5 : fd_r s 5 = fd_r a 5 := by rw [w1, fd_u_n (by omega)]
        have e23 : fd_r s 23 = W := by rw [w1, fd_u_s]
        refine fd_timesUnknown (s := 23) (b := 5) (n := n) (p := p) (by omega) (by omega) (by omega) hn (by omega) (by omega) hmo (by rw [e5]; exact hF) (by rw [e5]; exact hF1) (by rw [e5]; exact hF2) (by rw [e23]; exact w2.1) (by rw [e23]; exact w2.2.1) (fun a' W' t k1 k2 k3 k4 => ?_)
        rw [e23, e5] at k4
        exact nm_r (nI_1 k) (hw a' ⟨W', by rw [k1, w1, fd_u_u], fd_xr_s w2 k2 k3 k4⟩)))
  have gp : pr.toInt32 = nI p := by
    apply Int32.toInt_inj.mp
    rw [Int64.toInt_toInt32, hpr, nI_toInt (by omega), Int.bmod_def]; omega
  have lp : ∀ (f k : Nat), f + k = d + 1 → k ≤ d → wX_powerOfUnknown_19 post (nI d) fc mo pr lc dc (vp_updL b1 276 1) a2 a3 a4 a5 a6 f (nI (p ^ k)) (nI k) := by
    intro f
    induction f with
    | zero => intro k h1 h2; omega
    | succ f ih =>
      intro k hf hk
      refine pk_le d k (fun z => ?_) (fun z => nm_r (by rw [gp, pk_mul, ← Nat.pow_succ]) (nm_r (nI_1 k) (ih (k + 1) (by omega) (by omega))))
      have : k = d := by omega
      rw [this]; exact fin
  have := lp (d + 1) 0 (by omega) (by omega)
  rw [Nat.pow_zero] at this
  exact this
def fm_fr (a a' : Nat → Int64) : Prop := ∀ s, s ≠ 5 → s ≠ 8 → s ≠ 9 → s ≠ 10 → s ≠ 22 → s ≠ 23 → fd_r a' s = fd_r a s
theorem fd_takeDegree {post : Int32 → St1 → Prop} {a6 : Nat → Int32} {d n c k0 p : Nat} {F : po_P} (hd : d = 1 ∨ d = 2) (hp : po_prime p) (hps : p = 2 ∨ p = 3 ∨ p = 5 ∨ p = 7) (hmo : mo.toInt = (p : Int)) (hpr : pr.toInt = (p : Int)) (h5 : fd_r a 5 = F) (hI : fm_I p F n c k0) (hD : fm_D p d F)
    (H0 : ∀ a' F' n' c' a6', fm_fr a a' → fd_r a' 5 = F' → fm_I p F' n' c' k0 → fm_D p (d + 1) F' → post 0 (fc, mo, pr, lc, nI c', a', a2, a3, a4, a5, a6'))
    (H1 : ∀ a' F' n' c' a6', fm_fr a a' → fd_r a' 5 = F' → fm_I p F' n' c' k0 → fm_D p d F' → n' < n → post 1 (fc, mo, pr, lc, nI c', a', a2, a3, a4, a5, a6')) :
    wpX_takeDegree post (fc, mo, pr, lc, nI c, a, a2, a3, a4, a5, a6) (nI d) := by
  have hp1 := hp.1
  have np : ¬ (p : Int) ∣ 1 := fun z => by have := Int.le_of_dvd (by omega) z; omega
  have dom := po_prime_dom hp
  have hI0 := hI
  obtain ⟨i1, i2, i3, i4, k, i5, i6⟩ := hI0
  have moF : po_mo p n F := fd_top_mo i2 i3
  have tpF := po_mo_tp np moF
  have dege : ∀ d', fd_r a 5 d' ≠ 0 → (∀ i, d' < i → fd_r a 5 i = 0) → d' = n := fun d' q1 q2 => by
    rw [h5] at q1 q2
    rcases Nat.lt_trichotomy d' n with z | z | z
    · rw [q2 n z] at i2; omega
    · exact z
    · exact absurd (i3 d' z) q1
  have nz : ¬ (∀ i, fd_r a 5 i = 0) := fun z => by rw [h5] at z; rw [z n] at i2; omega
  unfold wpX_takeDegree
  dsimp only
  refine fd_degreeOf (s := 5) (by omega) (fun z => absurd z nz) (fun d1 hd1 q1 q2 => ?_)
  have e1 := dege d1 q1 q2
  subst e1
  refine pk_le d d1 (fun z => ?_) (fun z => ?_)
  · refine fd_degreeOf (s := 5) (by omega) (fun z => absurd z nz) (fun d2 hd2 q3 q4 => ?_)
    have e2 := dege d2 q3 q4
    subst e2
    refine pk_eq d2 1 (fun w => ?_) (fun w => ?_)
    · -- takeLast
      subst w
      have dd : d = 1 := by omega
      subst dd
      unfold wpX_takeLast
      dsimp only
      refine fd_addDegree (by omega) (fun a6' => ?_)
      dsimp only
      refine fd_clear (t := 5) (by omega) (fun b hb => nm_e ⟨rfl, ?_⟩)
      have hb' : fd_r (vp_updL b 60 1) = fd_u (fd_r a) 5 (po_C 1) := by
        rw [show (60 : Nat) = 12 * 5 + 0 from rfl, fd_upd (by omega), hb, fd_u_s, fd_u_u]; rfl
      have kle := fk_deg hp hD tpF i5
      refine H0 _ (po_C 1) 0 (c + 1) a6' (fun s s5 s8 s9 s10 s22 s23 => by rw [hb', fd_u_n s5]) (by rw [hb', fd_u_s]) ⟨fun i => ?_, rfl, fun i hi => ?_, by omega, 0, ⟨fun _ => po_C 1, po_C 1, po_fin_C _ _, fun j hj => absurd hj (by omega), po_eq_e (@ga_1m po_P po_ring _ _ rfl).symm⟩, by omega⟩ (fun h e he ht hdv => ?_)
      · simp only [po_C]; split <;> omega
      · simp only [po_C]; rw [if_neg (by omega)]
      · exfalso
        obtain ⟨q, ⟨m, hm⟩, hq⟩ := hdv
        have tq : ∃ dq, po_tp p dq q := po_tp_ex m hm (Classical.byContradiction (fun z => np (by
          have := (po_eq_i hq 0).mpr (by rw [po_mul_comm]; exact po_mul_dv _ q (fun i => Classical.byContradiction (fun y => z ⟨i, y⟩)))
          exact this)))
        obtain ⟨dq, tq⟩ := tq
        have := po_tp_u (po_tp_eq (po_eq_s hq) (po_tp_mul dom ht tq)) (po_tp_C np)
        omega
    · have n2 : 2 ≤ d2 := by omega
      refine fd_powerOfUnknown (d := d) (n := d2) (p := p) (by omega) (by omega) (by omega) hmo hpr (by omega) (by rw [h5]; exact i1) (by rw [h5]; exact i2) (by rw [h5]; exact i3) (fun b W hb hW => ?_)
      dsimp only
      rw [h5] at hW
      obtain ⟨w1, w2, q, fq, hq⟩ := hW
      have g277 : (b 277).toInt = W 1 := by rw [show (277 : Nat) = 12 * 23 + 1 from rfl, ← fd_r_i (by omega), hb, fd_u_s]
      have b1 := w1 1
      refine fd_rest (by omega) (fun r hr => nm_e ?_)
      rw [li_sub (by rw [g277, li_1]; omega) (by rw [g277, li_1]; omega), g277, li_1, hmo] at hr
      have hb' : fd_r (vp_updL b 277 r) = fd_u (fd_r a) 23 (fd_w W 1 ((W 1 - 1) % p)) := by
        rw [show (277 : Nat) = 12 * 23 + 1 from rfl, fd_upd (by omega), hb, fd_u_s, fd_u_u, hr]
      generalize vp_updL b 277 r = b' at *
      have r5 : fd_r b' 5 = F := by rw [hb', fd_u_n (by omega)]; exact h5
      have r23 : fd_r b' 23 = fd_w W 1 ((W 1 - 1) % p) := by rw [hb', fd_u_s]
      -- W' is a combination of F and x^(p^d) - x
      have eW : po_eq p (fd_w W 1 ((W 1 - 1) % p)) (po_sub W (po_X 1 1)) := fun i => by
        simp only [fd_w, po_sub, po_X]
        by_cases y : i = 1
        · rw [if_pos y, if_pos y, y]; exact fd_em_eq p (fun i => W i - 1) 1
        · rw [if_neg y, if_neg y]; simp
      have cW : po_cb p F (po_sub (po_X (p ^ d) 1) (po_X 1 1)) (fd_w W 1 ((W 1 - 1) % p)) := by
        obtain ⟨x, hx⟩ := po_eq_ex hq
        obtain ⟨y, hy⟩ := po_eq_ex eW
        exact ⟨po_sub (po_C 0) q, po_C 1, po_fin_sub (po_fin_C _ _) fq, po_fin_C _ _, po_ex_eq (@ga_tw po_P po_ring _ _ _ _ _ _ _ _ _ (po_C 0) (po_C 1) hx hy rfl rfl)⟩
      refine fd_commonModulo (t := 22) (x := 5) (y := 23) (by omega) (by omega) (by omega) (by omega) (by omega) (by omega) (by omega) hmo hpr hp (by omega) (fun e γ u8 u9 u10 he hγ => ?_)
      dsimp only
      rw [r5, r23] at hγ
      obtain ⟨g1, g2, g3, g4, g5⟩ := hγ
      have r22 : fd_r e 22 = γ := by rw [he, fd_b4_t]
      have re5 : fd_r e 5 = F := by rw [he, fd_b4_n (by omega) (by omega) (by omega) (by omega), r5]
      have fre : fm_fr a e := fun s s5 s8 s9 s10 s22 s23 => by rw [he, fd_b4_n s22 s8 s9 s10, hb', fd_u_n s23]
      have gd : ∃ g, g < 12 ∧ γ g = 1 ∧ ∀ i, g < i → γ i = 0 := by
        rcases g5 with y | y
        · exfalso
          obtain ⟨v, _, hv⟩ := g3
          have := (po_eq_i hv d2).mpr (po_mul_dv d2 γ (fun i => by rw [y i]; exact Int.dvd_zero _))
          rw [i2] at this
          exact np this
        · exact y
      obtain ⟨g, gl, ga, gb⟩ := gd
      refine fd_degreeOf (s := 22) (by omega) (fun y => by rw [r22] at y; rw [y g] at ga; omega) (fun g' hg' q5 q6 => ?_)
      rw [r22] at q5 q6
      have eg : g' = g := by
        rcases Nat.lt_trichotomy g' g with y | y | y
        · rw [q6 g y] at ga; omega
        · exact y
        · exact absurd (gb g' y) q5
      subst eg
      have mγ : po_mo p g' γ := fd_top_mo ga gb
      refine pk_le 1 g' (fun y => ?_) (fun y => ?_)
      · -- a proper common divisor: noted, and divided out
        have ge : g' ≤ d2 := by
          obtain ⟨v, ⟨m, hm⟩, hv⟩ := g3
          have tv : ∃ dv, po_tp p dv v := po_tp_ex m hm (Classical.byContradiction (fun z => tpF.2 ((po_eq_i hv d2).mpr (by rw [po_mul_comm]; exact po_mul_dv _ v (fun i => Classical.byContradiction (fun y => z ⟨i, y⟩))))))
          obtain ⟨dv, tv⟩ := tv
          have := po_tp_u (po_tp_eq (po_eq_s hv) (po_tp_mul dom (po_mo_tp np mγ) tv)) tpF
          omega
        have gdle : g' / d ≤ g' := Nat.div_le_self _ _
        have lp : ∀ (f x : Nat) (b6 : Nat → Int32), f + x = g' / d + 1 → x ≤ g' / d → wX_takeDegree_77 post (nI d) (nI g') f (nI x) fc mo pr lc (nI (c + x)) e a2 a3 a4 a5 b6 := by
          intro f
          induction f with
          | zero => intro x b6 h1 h2; omega
          | succ f ih =>
            intro x b6 hf hx
            have dvn : nI g' / nI d = nI (g' / d) := pk_div (by omega) (by omega) (by omega)
            refine ⟨nI_ne0 (by omega) (by omega), pk_le (g' / d) x (fun v => ?_) (fun v => ?_) dvn rfl⟩
            · have xe : x = g' / d := by omega
              subst xe
              refine fd_divideModulo (x := 5) (y := 22) (e := g') (p := p) (by omega) (by omega) (by omega) (by omega) hmo hpr hp (by omega) (by rw [re5]; exact i1) (by rw [r22]; exact g1) (by rw [r22, ga]; omega) (by rw [r22]; exact gb) (fun e2 Q R k1 hQ hR heq hR0 hQ0 => ?_)
              dsimp only
              rw [re5, r22] at heq
              rw [re5] at hQ0
              have fQ : po_fin p Q := po_fin_0 (n := 12) (fun i hi => hQ0 d2 i3 i (by omega))
              have dR : po_dv p γ R := po_dv_cb g3 (po_dv_r _ _) (po_cb_s fQ heq).2
              have R0 : ∀ i, R i = 0 := fun i => fd_rd_0 R hR (po_mo_lt mγ dR (fun i hi => by rw [hR0 i hi]; exact Int.dvd_zero _) i)
              have eQ : po_eq p F (po_mul Q γ) := po_eq_t heq (po_eq_e (by funext i; show po_mul Q γ i + R i = _; rw [R0 i]; omega))
              have c9 : fd_r e2 9 = Q := by rw [k1, fd_u_s]
              have top : Q (d2 - g') = 1 := by
                have cc := (po_dl_mul mγ.1 (d2 - g') Q (fun i hi => by rw [hQ0 d2 i3 i (by omega)]; exact Int.dvd_zero _)).2
                rw [ga, Int.mul_one, show d2 - g' + g' = d2 by omega] at cc
                have bb := eQ d2
                rw [i2] at bb
                have s := Int.dvd_add bb cc
                rw [show 1 - po_mul Q γ d2 + (po_mul Q γ d2 - Q (d2 - g')) = 1 - Q (d2 - g') by omega] at s
                obtain ⟨z1, z2⟩ := hQ (d2 - g')
                have s2 : (1 : Int) % p = Q (d2 - g') % p := Int.emod_eq_emod_iff_emod_sub_eq_zero.mpr (Int.emod_eq_zero_of_dvd s)
                rw [Int.emod_eq_of_lt (by omega) hp1, Int.emod_eq_of_lt z1 z2] at s2
                exact s2.symm
              have Qz : ∀ i, d2 - g' < i → Q i = 0 := fun i hi => hQ0 d2 i3 i (by omega)
              have eQ' : po_eq p F (po_mul γ Q) := po_eq_t eQ (po_eq_e (by funext i; exact po_mul_comm _ _ i))
              refine fd_copy (t := 5) (f := 9) (by omega) (by omega) (fun e3 k3 => ?_)
              rw [c9] at k3
              obtain ⟨k', fk', hk'⟩ := fk_ref hp (d0 := d) (by omega) k F γ Q g' (d2 - g') (po_mo_tp np mγ) (po_mo_tp np (fd_top_mo top Qz)) eQ' hD i5
              refine H1 e3 Q (d2 - g') (c + g' / d) b6 (fun s s5 s8 s9 s10 s22 s23 => ?_) (by rw [k3, fd_u_s]) ⟨hQ, top, Qz, by omega, k', fk', by omega⟩ (fm_D_dv hD ⟨γ, po_mo_fin mγ, eQ⟩) (by omega)
              rw [k3, fd_u_n s5, k1, fd_u_n s9, fd_u_n s10]; exact fre s s5 s8 s9 s10 s22 s23
            · refine fd_addDegree (by omega) (fun a6' => ?_)
              dsimp only
              exact nm_r (nI_1 x) (ih (x + 1) a6' (by omega) (by omega))
        exact ⟨g' / d + 1, lp _ 0 a6 rfl (Nat.zero_le _)⟩
      · -- a trivial one
        have g0 : g' = 0 := by omega
        subst g0
        have γ1 : γ = po_C 1 := by
          funext i
          by_cases hi : i = 0
          · rw [hi, ga]; rfl
          · rw [gb i (by omega)]; simp [po_C, hi]
        rw [γ1] at g2
        exact H0 e F d2 c a6 fre re5 hI (fm_next hp hps hd hD cW g2)
  · refine H0 a F d1 c a6 (fun _ _ _ _ _ _ _ => rfl) h5 hI (fun h e he ht hdv => ?_)
    exfalso
    have := hD h e he ht hdv
    obtain ⟨q, ⟨m, hm⟩, hq⟩ := hdv
    have tq : ∃ dq, po_tp p dq q := po_tp_ex m hm (Classical.byContradiction (fun z => tpF.2 ((po_eq_i hq d1).mpr (by rw [po_mul_comm]; exact po_mul_dv _ q (fun i => Classical.byContradiction (fun y => z ⟨i, y⟩))))))
    obtain ⟨dq, tq⟩ := tq
    have := po_tp_u (po_tp_eq (po_eq_s hq) (po_tp_mul dom ht tq)) tpF
    omega
end
end
section
/-! findDegrees, factorsModulo -/
section
variable {fc lc : Int32} {mo pr : Int64} {a2 : Nat → Int32} {a3 : Nat → Int64} {a4 a5 : Nat → Int32}
theorem fd_findDegrees {post : St1 → Prop} {a : Nat → Int64} {dc : Int32} {a6 : Nat → Int32} {r p k0 : Nat} (hr : r < 4) (hp : po_prime p) (hps : p = 2 ∨ p = 3 ∨ p = 5 ∨ p = 7) (hrg : rg_r (fd_r a r)) (hnz : ∃ i, ¬ (p : Int) ∣ fd_r a r i) (hk0 : ∀ F, po_dv p (fd_r a r) F → fk_k p F k0)
    (H : ∀ a' c mo' pr' a6', (∀ s, s < 4 → fd_r a' s = fd_r a s) → k0 ≤ c → c ≤ 5 → post (fc, mo', pr', lc, nI c, a', a2, a3, a4, a5, a6')) :
    wpX_findDegrees post (fc, mo, pr, lc, dc, a, a2, a3, a4, a5, a6) (nI r) (nI p) := by
  have hp1 := hp.1
  have np : ¬ (p : Int) ∣ 1 := fun z => by have := Int.le_of_dvd (by omega) z; omega
  have gp : ((nI p).toInt64).toInt = (p : Int) := by rw [Int32.toInt_toInt64, nI_toInt (by omega)]
  unfold wpX_findDegrees
  dsimp only
  refine fd_copy (t := 5) (by omega) (by omega) (fun b1 h1 => ?_)
  dsimp only
  have e5 : fd_r b1 5 = fd_r a r := by rw [h1, fd_u_s]
  refine fd_reduce (t := 5) (by omega) (by omega) (fun b2 h2 => ?_)
  dsimp only
  rw [e5, gp, h1, fd_u_u] at h2
  have e5' : fd_r b2 5 = fd_em p (fd_r a r) := by rw [h2, fd_u_s]
  refine fd_makeMonic (t := 5) (p := p) (by omega) gp gp hp (by omega) (by rw [e5']; exact fd_em_rd (by omega) _) (fun b3 F h3 hF => ?_)
  dsimp only
  rw [h2, fd_u_u] at h3
  rw [e5'] at hF
  obtain ⟨f1, f2, f3, f4⟩ := fd_mn_eq hp1 hF
  have rF := f1 (fd_em_rd (by omega) _)
  have dvF : po_dv p (fd_r a r) F := po_dv_eqL f2 (fd_em_eq p _)
  obtain ⟨i0, hi0⟩ := hnz
  have top : ∃ n, n ≤ 5 ∧ F n = 1 ∧ ∀ i, n < i → F i = 0 := by
    rcases hF with ⟨z, _⟩ | ⟨b, d, hd, d1, d2, d3, d4, d5, rfl⟩
    · exact absurd (Int.dvd_of_emod_eq_zero (z i0)) hi0
    · refine ⟨d, ?_, ?_, fun i hi => ?_⟩
      · refine Classical.byContradiction (fun z => d1 ?_)
        show fd_r a r d % _ = 0
        rw [(hrg d).2.2 (by omega), Int.zero_emod]
      · have : (fd_em p (fd_r a r) d * b) % (p : Int) = 1 % p := Int.emod_eq_emod_iff_emod_sub_eq_zero.mpr (Int.emod_eq_zero_of_dvd (by rw [Int.mul_comm]; exact d3))
        dsimp only
        rw [this, Int.emod_eq_of_lt (by omega) hp1]
      · dsimp only
        rw [d2 i hi, Int.zero_mul, Int.zero_emod]
  obtain ⟨n, hn5, Fn, Fz⟩ := top
  have fr0 : ∀ s, s < 4 → fd_r b3 s = fd_r a s := fun s hs => by rw [h3, fd_u_n (by omega)]
  have inner : ∀ (J : Int32 → Int32 → Int64 → Int64 → Int32 → Int32 → (Nat → Int64) → (Nat → Int32) → (Nat → Int64) → (Nat → Int32) → (Nat → Int32) → (Nat → Int32) → Prop) (d : Nat), (d = 1 ∨ d = 2) → (∀ a' F' n' c' b6, (∀ s, s < 4 → fd_r a' s = fd_r a s) → fd_r a' 5 = F' → fm_I p F' n' c' k0 → fm_D p (d + 1) F' → J (nI (d + 1)) fc (nI p).toInt64 (nI p).toInt64 lc (nI c') a' a2 a3 a4 a5 b6) →
      ∀ (N n' c' : Nat) (a' : Nat → Int64) (F' : po_P) (b6 : Nat → Int32), n' ≤ N → (∀ s, s < 4 → fd_r a' s = fd_r a s) → fd_r a' 5 = F' → fm_I p F' n' c' k0 → fm_D p d F' → wX_findDegrees_49 post J (nI d) (N + 2) 1 fc (nI p).toInt64 (nI p).toInt64 lc (nI c') a' a2 a3 a4 a5 b6 := by
    intro J d hd HJ N
    have zero : ∀ (f c' : Nat) (a' : Nat → Int64) (F' : po_P) (n' : Nat) (b6 : Nat → Int32), (∀ s, s < 4 → fd_r a' s = fd_r a s) → fd_r a' 5 = F' → fm_I p F' n' c' k0 → fm_D p (d + 1) F' → wX_findDegrees_49 post J (nI d) (f + 1) 0 fc (nI p).toInt64 (nI p).toInt64 lc (nI c') a' a2 a3 a4 a5 b6 := fun f c' a' F' n' b6 h1 h2 h3 h4 => br_t rfl (nm_r (nI_1 d) (HJ a' F' n' c' b6 h1 h2 h3 h4))
    induction N with
    | zero =>
      intro n' c' a' F' b6 hn' hfr h5 hI hD
      refine br_f (by decide) (fd_takeDegree (a := a') (F := F') hd hp hps gp gp h5 hI hD (fun a2' F2 n2 c2 b62 k1 k2 k3 k4 => ?_) (fun a2' F2 n2 c2 b62 k1 k2 k3 k4 k5 => absurd k5 (by omega)))
      exact zero 0 c2 a2' F2 n2 b62 (fun s hs => by rw [k1 s (by omega) (by omega) (by omega) (by omega) (by omega) (by omega)]; exact hfr s hs) k2 k3 k4
    | succ N ih =>
      intro n' c' a' F' b6 hn' hfr h5 hI hD
      refine br_f (by decide) (fd_takeDegree (a := a') (F := F') hd hp hps gp gp h5 hI hD (fun a2' F2 n2 c2 b62 k1 k2 k3 k4 => ?_) (fun a2' F2 n2 c2 b62 k1 k2 k3 k4 k5 => ?_))
      · exact zero (N + 1) c2 a2' F2 n2 b62 (fun s hs => by rw [k1 s (by omega) (by omega) (by omega) (by omega) (by omega) (by omega)]; exact hfr s hs) k2 k3 k4
      · exact ih n2 c2 a2' F2 b62 (by omega) (fun s hs => by rw [k1 s (by omega) (by omega) (by omega) (by omega) (by omega) (by omega)]; exact hfr s hs) k2 k3 k4
  have outer : ∀ (f d n' c' : Nat) (a' : Nat → Int64) (F' : po_P) (b6 : Nat → Int32), f + d = 4 → 1 ≤ d → d ≤ 3 → (∀ s, s < 4 → fd_r a' s = fd_r a s) → fd_r a' 5 = F' → fm_I p F' n' c' k0 → fm_D p d F' → wX_findDegrees_35 post f (nI d) fc (nI p).toInt64 (nI p).toInt64 lc (nI c') a' a2 a3 a4 a5 b6 := by
    intro f
    induction f with
    | zero => intro d n' c' a' F' b6 h1 h2 h3; omega
    | succ f ih =>
      intro d n' c' a' F' b6 hf hd1 hd3 hfr h5 hI hD
      have hI0 := hI
      obtain ⟨i1, i2, i3, i4, k, i5, i6⟩ := hI0
      have tpF := po_mo_tp np (fd_top_mo (p := p) i2 i3)
      have kd := fk_deg hp hD tpF i5
      have dege : ∀ d', fd_r a' 5 d' ≠ 0 → (∀ i, d' < i → fd_r a' 5 i = 0) → d' = n' := fun d' q1 q2 => by
        rw [h5] at q1 q2
        rcases Nat.lt_trichotomy d' n' with z | z | z
        · rw [q2 n' z] at i2; omega
        · exact z
        · exact absurd (i3 d' z) q1
      have nz : ¬ (∀ i, fd_r a' 5 i = 0) := fun z => by rw [h5] at z; rw [z n'] at i2; omega
      have e2 : (2 * nI d : Int32) = nI (2 * d) := by rw [show (2 : Int32) = nI 2 from rfl, pk_mul]
      refine fd_degreeOf (s := 5) (by omega) (fun z => absurd z nz) (fun d1 hd1' q1 q2 => ?_)
      have e1 := dege d1 q1 q2
      subst e1
      refine pk_lt d1 (2 * d) (fun z => ?_) (fun z => ?_) rfl e2
      · refine fd_degreeOf (s := 5) (by omega) (fun z => absurd z nz) (fun d2 hd2 q3 q4 => ?_)
        have e3 := dege d2 q3 q4
        subst e3
        have k1 : k ≤ 1 := Classical.byContradiction (fun y => by
          have : 2 * d ≤ k * d := Nat.mul_le_mul_right d (by omega)
          omega)
        refine pk_le d2 0 (fun y => ?_) (fun y => ?_)
        · have k0' : k = 0 := Classical.byContradiction (fun x => by
            have : 1 * d ≤ k * d := Nat.mul_le_mul_right d (by omega)
            omega)
          exact H a' c' _ _ b6 hfr (by omega) (by omega)
        · exact fd_addDegree (by omega) (fun a6' => H a' (c' + 1) _ _ a6' hfr (by omega) (by omega))
      · have d12 : d = 1 ∨ d = 2 := by omega
        exact ⟨5 + 2, inner (wX_findDegrees_35 post f) d d12 (fun a2' F2 n2 c2 b62 k1 k2 k3 k4 => ih (d + 1) n2 c2 a2' F2 b62 (by omega) (by omega) (by omega) k1 k2 k3 k4) 5 d1 c' a' F' b6 (by omega) hfr h5 hI hD⟩
  exact ⟨3, outer 3 1 n 0 b3 F a6 (by omega) (by omega) (by omega) fr0 (by rw [h3, fd_u_s]) ⟨rF, Fn, Fz, by omega, k0, hk0 F dvF, by omega⟩ (fm_D1 _ _)⟩
theorem fd_factorsModulo {post : Int32 → St1 → Prop} {a : Nat → Int64} {dc : Int32} {a6 : Nat → Int32} {r p k0 : Nat} (hr : r < 4) (hp : po_prime p) (hps : p = 2 ∨ p = 3 ∨ p = 5 ∨ p = 7) (hrg : rg_r (fd_r a r)) (hk0 : (∃ i, ¬ (p : Int) ∣ fd_r a r i) → ∀ F, po_dv p (fd_r a r) F → fk_k p F k0)
    (H : ∀ m a' mo' pr' dc' a6', (∀ s, s < 4 → fd_r a' s = fd_r a s) → ((∃ i, ¬ (p : Int) ∣ fd_r a r i) → ∃ c : Nat, m = nI c ∧ k0 ≤ c ∧ c ≤ 5) → post m (fc, mo', pr', lc, dc', a', a2, a3, a4, a5, a6')) :
    wpX_factorsModulo post (fc, mo, pr, lc, dc, a, a2, a3, a4, a5, a6) (nI r) (nI p) := by
  unfold wpX_factorsModulo
  dsimp only
  refine fd_isReg hr (br_f (by decide) (fd_smallPrime hps (br_f (by decide) (fd_vanishes hr (by omega) (by omega) (fun z => br_t rfl ?_) (fun z => br_f (by decide) ?_)))))
  · obtain ⟨i, _, hi⟩ := z
    refine fd_findDegrees (k0 := k0) hr hp hps hrg ⟨i, hi⟩ (hk0 ⟨i, hi⟩) (fun a' c mo' pr' a6' k1 k2 k3 => ?_)
    exact H (nI c) a' mo' pr' (nI c) a6' k1 (fun _ => ⟨c, rfl, k2, k3⟩)
  · refine H (-1002) a mo pr dc a6 (fun _ _ => rfl) (fun y => ?_)
    obtain ⟨i, hi⟩ := y
    exfalso
    apply hi
    by_cases x : i < 6
    · exact z i x
    · rw [(hrg i).2.2 (by omega)]; exact Int.dvd_zero _
end
end
section
/-! polynomials over the integers: degrees, coprime polynomials, no squares -/
theorem zp_dom : po_dom 0 := ⟨fun h => by have := Int.zero_dvd.mp h; omega, fun a b h => by
  have := Int.zero_dvd.mp h
  rcases Int.mul_eq_zero.mp this with z | z
  · exact Or.inl (by rw [z]; exact Int.dvd_refl 0)
  · exact Or.inr (by rw [z]; exact Int.dvd_refl 0)⟩
/-- f has degree d -/
def zp_t (d : Nat) (f : po_P) : Prop := f d ≠ 0 ∧ ∀ i, d < i → f i = 0
theorem zp_t_tp {d : Nat} {f : po_P} (h : zp_t d f) : po_tp 0 d f := ⟨fun i hi => by rw [h.2 i (by omega)]; exact Int.dvd_refl 0, fun z => h.1 (Int.zero_dvd.mp z)⟩
theorem zp_tp_t {d : Nat} {f : po_P} (h : po_tp 0 d f) : zp_t d f := ⟨fun z => h.2 (by rw [z]; exact Int.dvd_refl 0), fun i hi => Int.zero_dvd.mp (h.1 i (by omega))⟩
theorem zp_t_u {d e : Nat} {f : po_P} (h : zp_t d f) (k : zp_t e f) : d = e := po_tp_u (zp_t_tp h) (zp_t_tp k)
theorem zp_t_fin {m : Int} {d : Nat} {f : po_P} (h : zp_t d f) : po_fin m f := ⟨d + 1, fun i hi => by rw [h.2 i (by omega)]; exact Int.dvd_zero m⟩
theorem zp_t_mul {d e : Nat} {f g : po_P} (h : zp_t d f) (k : zp_t e g) : zp_t (d + e) (po_mul f g) := zp_tp_t (po_tp_mul zp_dom (zp_t_tp h) (zp_t_tp k))
theorem zp_top {d e : Nat} {f g : po_P} (h : ∀ i, d < i → f i = 0) (k : ∀ i, e < i → g i = 0) : po_mul f g (d + e) = f d * g e ∧ ∀ i, d + e < i → po_mul f g i = 0 := by
  have := po_dl_mul (m := 0) (g := g) (e := e) (fun i hi => by rw [k i (by omega)]; exact Int.dvd_refl 0) d f (fun i hi => by rw [h i (by omega)]; exact Int.dvd_refl 0)
  exact ⟨by have := Int.zero_dvd.mp this.2; omega, fun i hi => Int.zero_dvd.mp (this.1 i (by omega))⟩
theorem zp_fin {f : po_P} (h : po_fin 0 f) : ∃ d, ∀ i, d ≤ i → f i = 0 := by
  obtain ⟨d, hd⟩ := h
  exact ⟨d, fun i hi => Int.zero_dvd.mp (hd i hi)⟩
theorem zp_ex {f : po_P} (h : po_fin 0 f) (k : ∃ i, f i ≠ 0) : ∃ d, zp_t d f := by
  obtain ⟨d, hd⟩ := h
  obtain ⟨i, hi⟩ := k
  obtain ⟨e, he⟩ := po_tp_ex d hd ⟨i, fun z => hi (Int.zero_dvd.mp z)⟩
  exact ⟨e, zp_tp_t he⟩
theorem zp_fin_m {m : Int} {f : po_P} (h : po_fin 0 f) : po_fin m f := by
  obtain ⟨d, hd⟩ := zp_fin h
  exact ⟨d, fun i hi => by rw [hd i hi]; exact Int.dvd_zero m⟩
theorem zp_can {t x y : po_P} (ht : ∃ i, t i ≠ 0) (h : po_mul t x = po_mul t y) : x = y := by
  obtain ⟨i, hi⟩ := ht
  exact po_eq_0 (po_cancel zp_dom ⟨i, fun z => hi (Int.zero_dvd.mp z)⟩ (po_eq_e h))
theorem zp_mul_0 {x y : po_P} (h : ∀ i, po_mul x y i = 0) (hx : ∃ i, x i ≠ 0) : ∀ i, y i = 0 := by
  have e : y = fun _ => 0 := zp_can hx (by
    funext i
    rw [h i, po_mul_comm, po_mul_zL])
  intro i; rw [e]
theorem zp_mulc (f g : po_P) : po_mul f g = po_mul g f := by funext i; exact po_mul_comm f g i
theorem zp_mula (f g h : po_P) : po_mul (po_mul f g) h = po_mul f (po_mul g h) := by funext i; exact po_mul_assoc f g h i
theorem zp_1m (f : po_P) : po_mul (po_C 1) f = f := by funext i; rw [po_mul_C]; omega
theorem zp_m1 (f : po_P) : po_mul f (po_C 1) = f := by rw [zp_mulc, zp_1m]
theorem zp_t_C {c : Int} (h : c ≠ 0) : zp_t 0 (po_C c) := ⟨by simpa [po_C] using h, fun i hi => by simp only [po_C]; rw [if_neg (by omega)]⟩
/-- both factors of a product of degree n have degrees with the sum n -/
theorem zp_t_div {n : Nat} {f g h : po_P} (hf : zp_t n f) (e : f = po_mul g h) (fg : po_fin 0 g) (fh : po_fin 0 h) : ∃ a b, zp_t a g ∧ zp_t b h ∧ a + b = n := by
  have hg : ∃ i, g i ≠ 0 := Classical.byContradiction (fun z => hf.1 (by
    have : g = fun _ => 0 := by funext i; exact Classical.byContradiction (fun y => z ⟨i, y⟩)
    rw [e, this, po_mul_zL]))
  have hh : ∃ i, h i ≠ 0 := Classical.byContradiction (fun z => hf.1 (by
    have : h = fun _ => 0 := by funext i; exact Classical.byContradiction (fun y => z ⟨i, y⟩)
    rw [e, this, po_mul_comm, po_mul_zL]))
  obtain ⟨a, ha⟩ := zp_ex fg hg
  obtain ⟨b, hb⟩ := zp_ex fh hh
  exact ⟨a, b, ha, hb, zp_t_u (by rw [e]; exact zp_t_mul ha hb) hf⟩
/-- no common factor but constants -/
def zp_cop (A B : po_P) : Prop := ∃ (U V : po_P) (c : Int), c ≠ 0 ∧ po_fin 0 U ∧ po_fin 0 V ∧ po_add (po_mul U A) (po_mul V B) = po_C c
theorem ga_cs {R : Type} [Lean.Grind.CommRing R] {u a v b c : R} (h : u * a + v * b = c) : v * b + u * a = c := by grind
theorem zp_cop_s {A B : po_P} (h : zp_cop A B) : zp_cop B A := by
  obtain ⟨U, V, c, h1, h2, h3, h4⟩ := h
  exact ⟨V, U, c, h1, h3, h2, @ga_cs po_P po_ring _ _ _ _ _ h4⟩
theorem ga_cm {R : Type} [Lean.Grind.CommRing R] {u a v b c u' v' b' c' : R} (h : u * a + v * b = c) (k : u' * a + v' * b' = c') : (u * c' + v * b * u') * a + (v * v') * (b * b') = c * c' := by grind
theorem zp_cop_m {A B C : po_P} (h : zp_cop A B) (k : zp_cop A C) (fB : po_fin 0 B) : zp_cop A (po_mul B C) := by
  obtain ⟨U, V, c, h1, h2, h3, h4⟩ := h
  obtain ⟨U', V', c', k1, k2, k3, k4⟩ := k
  have f1 := po_fin_add (po_fin_mul h2 (po_fin_C 0 c')) (po_fin_mul (po_fin_mul h3 fB) k2)
  exact ⟨_, _, c * c', fun z => (Int.mul_eq_zero.mp z).elim h1 k1, f1, po_fin_mul h3 k3, by rw [po_C_mul]; exact @ga_cm po_P po_ring _ _ _ _ _ _ _ _ _ h4 k4⟩
theorem ga_c1 {R : Type} [Lean.Grind.CommRing R] {z o a b c : R} (hz : z = 0) (ho : o = c) : z * a + o * b = c * b := by grind
theorem zp_cop_1 (A : po_P) : zp_cop A (po_C 1) := ⟨po_C 0, po_C 1, 1, by decide, po_fin_C _ _, po_fin_C _ _, by
  have := @ga_c1 po_P po_ring (po_C 0) (po_C 1) A (po_C 1) (po_C 1) rfl rfl
  have e : po_mul (po_C 1) (po_C 1) = po_C 1 := by rw [← po_C_mul]; rfl
  exact this.trans e⟩
theorem zp_pow_fin {m : Int} {B : po_P} (h : po_fin m B) : ∀ k, po_fin m (po_pow B k)
  | 0 => po_fin_C _ _
  | k + 1 => po_fin_mul (zp_pow_fin h k) h
theorem zp_cop_p {A B : po_P} (h : zp_cop A B) (fB : po_fin 0 B) : ∀ k, zp_cop A (po_pow B k)
  | 0 => zp_cop_1 A
  | k + 1 => zp_cop_m (zp_cop_p h fB k) h (zp_pow_fin fB k)
theorem ga_cd {R : Type} [Lean.Grind.CommRing R] {u a a' v b c : R} (h : u * (a * a') + v * b = c) : (u * a') * a + v * b = c := by grind
theorem zp_cop_d {A A' B : po_P} (h : zp_cop (po_mul A A') B) (f : po_fin 0 A') : zp_cop A B := by
  obtain ⟨U, V, c, h1, h2, h3, h4⟩ := h
  exact ⟨po_mul U A', V, c, h1, po_fin_mul h2 f, h3, @ga_cd po_P po_ring _ _ _ _ _ _ h4⟩
theorem ga_ct {R : Type} [Lean.Grind.CommRing R] {u t x v y c : R} (h : u * (t * x) + v * (t * y) = c) : t * (u * x + v * y) = c := by grind
/-- a common divisor of coprime polynomials is a constant -/
theorem zp_cop_t {T X Y : po_P} (h : zp_cop (po_mul T X) (po_mul T Y)) (fT : po_fin 0 T) (fX : po_fin 0 X) (fY : po_fin 0 Y) : zp_t 0 T := by
  obtain ⟨U, V, c, h1, h2, h3, h4⟩ := h
  have e := @ga_ct po_P po_ring _ _ _ _ _ _ h4
  obtain ⟨a, b, ha, _, s⟩ := zp_t_div (zp_t_C h1) e.symm fT (po_fin_add (po_fin_mul h2 fX) (po_fin_mul h3 fY))
  have : a = 0 := by omega
  rw [this] at ha; exact ha
/-- no square divides F -/
def zp_sf (F : po_P) : Prop := zp_cop F (po_der F)
theorem ga_sfd {R : Type} [Lean.Grind.CommRing R] {u t y v t' y' c : R} (h : u * (t * y) + v * (t' * y + t * y') = c) : (u * y + v * y') * t + (v * y) * t' = c ∧ (u * y + v * y') * t + (v * t') * y = c := by
  constructor <;> grind
theorem zp_sf_d {T Y : po_P} (h : zp_sf (po_mul T Y)) (fT : po_fin 0 T) (fY : po_fin 0 Y) : zp_sf T ∧ zp_cop T Y := by
  obtain ⟨U, V, c, h1, h2, h3, h4⟩ := h
  rw [po_der_mul] at h4
  obtain ⟨a, b⟩ := @ga_sfd po_P po_ring _ _ _ _ _ _ _ h4
  have f1 := po_fin_add (po_fin_mul h2 fY) (po_fin_mul h3 (po_der_fin fY))
  exact ⟨⟨_, _, c, h1, f1, po_fin_mul h3 fY, a⟩, ⟨_, _, c, h1, f1, po_fin_mul h3 (po_der_fin fT), b⟩⟩
/-- coprime polynomials, both without squares -/
theorem ga_sfm {R : Type} [Lean.Grind.CommRing R] {a b a' b' u v c u' v' c' s t d : R} (h : u * a + v * a' = c) (k : u' * b + v' * b' = c') (l : s * a + t * b = d) :
    (u * d) * a + (v * t) * (a' * b + a * b') = c * d + a * (v * t * b' - v * a' * s) ∧ (u' * d) * b + (v' * s) * (a' * b + a * b') = c' * d + b * (v' * s * a' - v' * b' * t) := by
  constructor <;> grind
theorem ga_sfn {R : Type} [Lean.Grind.CommRing R] {a b D e1 f1 g1 c1 e2 f2 g2 c2 : R} (h : e1 * a + f1 * D = c1 + a * g1) (k : e2 * b + f2 * D = c2 + b * g2) : ((e1 - g1) * (e2 - g2)) * (a * b) + (f1 * c2 + (e1 - g1) * a * f2) * D = c1 * c2 := by grind
theorem zp_sf_m {A B : po_P} (h : zp_sf A) (k : zp_sf B) (l : zp_cop A B) (fA : po_fin 0 A) (fB : po_fin 0 B) : zp_sf (po_mul A B) := by
  obtain ⟨U, V, c, h1, h2, h3, h4⟩ := h
  obtain ⟨U', V', c', k1, k2, k3, k4⟩ := k
  obtain ⟨S, T, d, l1, l2, l3, l4⟩ := l
  obtain ⟨x, y⟩ := @ga_sfm po_P po_ring _ _ _ _ _ _ _ _ _ _ _ _ _ h4 k4 l4
  have z := @ga_sfn po_P po_ring _ _ _ _ _ _ _ _ _ _ _ x y
  have fA' := po_der_fin fA
  have fB' := po_der_fin fB
  have C := fun m c => po_fin_C m c
  have fE := po_fin_sub (po_fin_mul h2 (C 0 d)) (po_fin_sub (po_fin_mul (po_fin_mul h3 l3) fB') (po_fin_mul (po_fin_mul h3 fA') l2))
  have fG := po_fin_sub (po_fin_mul k2 (C 0 d)) (po_fin_sub (po_fin_mul (po_fin_mul k3 l2) fA') (po_fin_mul (po_fin_mul k3 fB') l3))
  have f1 := po_fin_mul fE fG
  have f2 := po_fin_add (po_fin_mul (po_fin_mul h3 l3) (po_fin_mul (C 0 c') (C 0 d))) (po_fin_mul (po_fin_mul fE fA) (po_fin_mul k3 l2))
  exact ⟨_, _, (c * d) * (c' * d), fun z => by
    rcases Int.mul_eq_zero.mp z with z | z
    · exact (Int.mul_eq_zero.mp z).elim h1 l1
    · exact (Int.mul_eq_zero.mp z).elim k1 l1, f1, f2, by rw [po_der_mul, po_C_mul, po_C_mul, po_C_mul]; exact z⟩
end
section
/-! primitive polynomials, the lemma of Gauss, Euclid over the integers -/
theorem zp_pd {c : Int} (h : 2 ≤ c.natAbs) : ∃ p : Int, po_prime p ∧ p ∣ c := by
  obtain ⟨k, ⟨k2, kc⟩, kl⟩ := pk_least (fun k => 2 ≤ k ∧ k ∣ c.natAbs) ⟨c.natAbs, h, Nat.dvd_refl _⟩
  have kc' : (k : Int) ∣ c := Int.natAbs_dvd_natAbs.mp (show (k : Int).natAbs ∣ c.natAbs from kc)
  refine ⟨k, ⟨by omega, fun x hx => ?_⟩, kc'⟩
  have e : (k : Int).natAbs = k := rfl
  rw [e]
  have g1 : Nat.gcd k x.natAbs ∣ k := Nat.gcd_dvd_left _ _
  have g0 : Nat.gcd k x.natAbs ≠ 0 := fun z => by rw [z] at g1; have := Nat.eq_zero_of_zero_dvd g1; omega
  have gle : Nat.gcd k x.natAbs ≤ k := Nat.le_of_dvd (by omega) g1
  by_cases z : Nat.gcd k x.natAbs = k
  · exfalso
    have := Nat.gcd_dvd_right k x.natAbs
    rw [z] at this
    exact hx (Int.natAbs_dvd_natAbs.mp (show (k : Int).natAbs ∣ x.natAbs from this))
  · by_cases y : Nat.gcd k x.natAbs = 1
    · exact y
    · exact absurd ⟨by omega, Nat.dvd_trans g1 kc⟩ (kl (Nat.gcd k x.natAbs) (by omega))
/-- no common divisor of all coefficients -/
def zp_pr (f : po_P) : Prop := ∀ k : Int, (∀ i, k ∣ f i) → k ∣ 1
theorem fd_cg_gr (f : po_P) {k : Nat} (h : ∀ i, (k : Int) ∣ f i) : ∀ n, k ∣ fd_cg f n
  | 0 => Nat.dvd_zero k
  | n + 1 => Nat.dvd_gcd (fd_cg_gr f h n) (show (k : Int).natAbs ∣ (f n).natAbs from Int.natAbs_dvd_natAbs.mpr (h n))
theorem zp_unit {k : Int} {c : Nat} (hc : c ≠ 0) (h : k.natAbs * c ∣ c) : k ∣ 1 := by
  obtain ⟨q, hq⟩ := h
  have : k.natAbs * q = 1 := by
    have e : c * (k.natAbs * q) = c * 1 := by rw [Nat.mul_one, ← Nat.mul_assoc, Nat.mul_comm c]; exact hq.symm
    exact Nat.eq_of_mul_eq_mul_left (by omega) e
  have k1 := Nat.eq_one_of_mul_eq_one_right this
  exact Int.natAbs_dvd_natAbs.mp (by rw [k1]; exact Nat.dvd_refl 1)
theorem zp_pp {f g : po_P} (h : fd_pp f g) : zp_pr g := by
  obtain ⟨c, c0, c1, c2, _⟩ := h
  intro k hk
  refine zp_unit (c := c.natAbs) (by omega) ?_
  have := fd_cg_gr f (k := k.natAbs * c.natAbs) (fun i => by
    rw [c2 i, ← Int.natAbs_mul]
    exact Int.natAbs_dvd.mpr (by rw [Int.mul_comm k]; exact Int.mul_dvd_mul_left c (hk i))) 12
  rw [c1]; rw [c1] at this
  exact this
/-- every polynomial is a number times a primitive one with a leading coefficient above 0 -/
theorem zp_prim {d : Nat} {f : po_P} (h : zp_t d f) : ∃ (c : Int) (g : po_P), c ≠ 0 ∧ f = po_mul (po_C c) g ∧ zp_pr g ∧ 0 < g d ∧ ∀ i, d < i → g i = 0 := by
  have dv : ∀ i, (fd_cg f (d + 1) : Int) ∣ f i := fun i => by
    by_cases hi : i < d + 1
    · exact fd_cg_dv f (d + 1) i hi
    · rw [h.2 i (by omega)]; exact Int.dvd_zero _
  have n0 : fd_cg f (d + 1) ≠ 0 := fun z => h.1 (by
    have := dv d
    rw [z] at this
    exact Int.zero_dvd.mp this)
  obtain ⟨s, s1, s2⟩ : ∃ s : Int, (s = 1 ∨ s = -1) ∧ 0 < s * f d := by
    have := h.1
    by_cases y : 0 < f d
    · exact ⟨1, Or.inl rfl, by omega⟩
    · exact ⟨-1, Or.inr rfl, by omega⟩
  have ss : s * s = 1 := by rcases s1 with s1 | s1 <;> rw [s1] <;> rfl
  have e : ∀ i, f i = (s * (fd_cg f (d + 1) : Nat)) * (s * (f i / (fd_cg f (d + 1) : Nat))) := fun i => by
    have : f i = (fd_cg f (d + 1) : Nat) * (f i / (fd_cg f (d + 1) : Nat)) := (Int.mul_ediv_cancel' (dv i)).symm
    have : s * (fd_cg f (d + 1) : Nat) * (s * (f i / (fd_cg f (d + 1) : Nat))) = (s * s) * ((fd_cg f (d + 1) : Nat) * (f i / (fd_cg f (d + 1) : Nat))) := by grind
    rw [this, ss]; omega
  have sn : s ≠ 0 := by rcases s1 with s1 | s1 <;> omega
  have cn : (s * (fd_cg f (d + 1) : Nat)) ≠ 0 := fun z => (Int.mul_eq_zero.mp z).elim sn (by omega)
  refine ⟨s * (fd_cg f (d + 1) : Nat), fun i => s * (f i / (fd_cg f (d + 1) : Nat)), cn, ?_, ?_, ?_, ?_⟩
  · funext i; rw [po_mul_C]; exact e i
  · intro k hk
    refine zp_unit (c := fd_cg f (d + 1)) n0 ?_
    refine fd_cg_gr f (fun i => ?_) (d + 1)
    rw [e i]
    obtain ⟨q, hq⟩ := hk i
    have hq : s * (f i / (fd_cg f (d + 1) : Nat)) = k * q := hq
    rw [hq]
    have : ((k.natAbs * fd_cg f (d + 1) : Nat) : Int) = (k.natAbs : Int) * (fd_cg f (d + 1) : Nat) := by simp
    rw [this]
    have h1 : (k.natAbs : Int) ∣ k := Int.natAbs_dvd.mpr (Int.dvd_refl k)
    obtain ⟨r, hr⟩ := h1
    exact ⟨r * s * q, by
      have : s * ↑(fd_cg f (d + 1)) * (k * q) = k * (s * ↑(fd_cg f (d + 1)) * q) := by grind
      rw [this]
      have : k * (s * ↑(fd_cg f (d + 1)) * q) = (↑k.natAbs * r) * (s * ↑(fd_cg f (d + 1)) * q) := by rw [← hr]
      rw [this]; grind⟩
  · show 0 < s * (f d / (fd_cg f (d + 1) : Nat))
    have e1 := e d
    have p : 0 < (fd_cg f (d + 1) : Int) := by omega
    have h2 : s * f d = (fd_cg f (d + 1) : Nat) * (s * (f d / (fd_cg f (d + 1) : Nat))) := by
      have : f d = (fd_cg f (d + 1) : Nat) * (f d / (fd_cg f (d + 1) : Nat)) := (Int.mul_ediv_cancel' (dv d)).symm
      have h3 : s * f d = s * ((fd_cg f (d + 1) : Nat) * (f d / (fd_cg f (d + 1) : Nat))) := by rw [← this]
      rw [h3]; grind
    exact Int.pos_of_mul_pos_right (by rw [← h2]; exact s2) p
  · intro i hi
    show s * (f i / _) = 0
    rw [h.2 i hi, Int.zero_ediv, Int.mul_zero]
theorem zp_gaussN {T : po_P} (hT : zp_pr T) : ∀ (n : Nat) (c : Int), c.natAbs = n → c ≠ 0 → ∀ B : po_P, (∀ i, c ∣ po_mul T B i) → ∀ i, c ∣ B i := by
  intro n
  induction n using Nat.strongRecOn with
  | _ n ih =>
    intro c hc c0 B h
    by_cases c1 : c.natAbs = 1
    · intro i
      exact Int.dvd_trans (Int.natAbs_dvd_natAbs.mp (by rw [c1]; exact Nat.dvd_refl 1)) (Int.one_dvd _)
    · obtain ⟨p, hp, c', hc'⟩ := zp_pd (c := c) (by omega)
      have p1 := hp.1
      have d1 : ∀ i, p ∣ B i := po_can0 (po_prime_dom hp) (Classical.byContradiction (fun z => by
        have := hT p (fun i => Classical.byContradiction (fun y => z ⟨i, y⟩))
        exact (po_prime_dom hp).1 this)) (fun i => Int.dvd_trans ⟨c', hc'⟩ (h i))
      have eB : B = po_mul (po_C p) (fun i => B i / p) := by
        funext i; rw [po_mul_C]; exact (Int.mul_ediv_cancel' (d1 i)).symm
      have eM : ∀ i, po_mul T B i = p * po_mul T (fun i => B i / p) i := fun i => by
        have : po_mul T B = po_mul (po_C p) (po_mul T (fun i => B i / p)) := by
          rw [eB, ← zp_mula, zp_mulc T, zp_mula, ← eB]
        rw [this, po_mul_C]
      have c'0 : c' ≠ 0 := fun z => c0 (by rw [hc', z, Int.mul_zero])
      have lt : c'.natAbs < n := by
        rw [← hc, hc', Int.natAbs_mul]
        have a1 : 2 ≤ p.natAbs := by omega
        have a2 : 1 ≤ c'.natAbs := by omega
        have := Nat.mul_le_mul_right c'.natAbs a1
        omega
      have := ih c'.natAbs lt c' rfl c'0 (fun i => B i / p) (fun i => by
        have h1 := h i
        rw [eM i, hc'] at h1
        exact Int.dvd_of_mul_dvd_mul_left (by omega) h1)
      intro i
      rw [hc', (Int.mul_ediv_cancel' (d1 i)).symm]
      exact Int.mul_dvd_mul_left p (this i)
/-- if T is primitive and divides c A then it divides A -/
theorem zp_gauss {T A B : po_P} {c : Int} (hT : zp_pr T) (c0 : c ≠ 0) (h : po_mul (po_C c) A = po_mul T B) : ∃ B', B = po_mul (po_C c) B' ∧ A = po_mul T B' := by
  have d := zp_gaussN hT c.natAbs c rfl c0 B (fun i => by rw [← h, po_mul_C]; exact Int.dvd_mul_right _ _)
  have e : B = po_mul (po_C c) (fun i => B i / c) := by funext i; rw [po_mul_C]; exact (Int.mul_ediv_cancel' (d i)).symm
  refine ⟨_, e, zp_can (t := po_C c) ⟨0, by simpa [po_C] using c0⟩ ?_⟩
  rw [h, ← zp_mula, zp_mulc _ T, zp_mula, ← e]
theorem zp_fin_q {c : Int} (c0 : c ≠ 0) {B B' : po_P} (h : B = po_mul (po_C c) B') (f : po_fin 0 B) : po_fin 0 B' := by
  obtain ⟨d, hd⟩ := zp_fin f
  refine ⟨d, fun i hi => ?_⟩
  have := hd i hi
  rw [h, po_mul_C] at this
  rw [(Int.mul_eq_zero.mp this).resolve_left c0]; exact Int.dvd_refl 0
theorem ga_e1 {R : Type} [Lean.Grind.CommRing R] {c A k G a t : R} (h : c * A = t * a) (ht : t = k * G) : c * A = G * (k * a) := by grind
theorem ga_e2 {R : Type} [Lean.Grind.CommRing R] {al be A B G A1 B1 d k t : R} (h : al * A + be * B = d * t) (hA : A = G * A1) (hB : B = G * B1) (ht : t = k * G) : G * (al * A1 + be * B1) = G * (d * k) := by grind
/-- the greatest common divisor over the integers -/
theorem zp_eu {A B : po_P} (fA : po_fin 0 A) (fB : po_fin 0 B) (n0 : ∃ i, A i ≠ 0) : ∃ (G A1 B1 : po_P) (g : Nat), zp_pr G ∧ 0 < G g ∧ (∀ i, g < i → G i = 0) ∧ A = po_mul G A1 ∧ B = po_mul G B1 ∧ po_fin 0 A1 ∧ po_fin 0 B1 ∧ zp_cop A1 B1 := by
  obtain ⟨N, hN⟩ := fB
  obtain ⟨t, a1, b1, al, be, c, d, hc, hd, e1, e2, e3, f1, f2, f3, f4, f5⟩ := po_eu zp_dom N A B hN fA
  have c0 : c ≠ 0 := fun z => hc (by rw [z]; exact Int.dvd_refl 0)
  have d0 : d ≠ 0 := fun z => hd (by rw [z]; exact Int.dvd_refl 0)
  have e1 := po_eq_0 e1
  have e2 := po_eq_0 e2
  have e3 := po_eq_0 e3
  have t0 : ∃ i, t i ≠ 0 := Classical.byContradiction (fun z => by
    have : t = fun _ => 0 := by funext i; exact Classical.byContradiction (fun y => z ⟨i, y⟩)
    obtain ⟨i, hi⟩ := n0
    have h1 := congrFun e1 i
    rw [this, po_mul_zL, po_mul_C] at h1
    exact (Int.mul_eq_zero.mp h1).elim c0 hi)
  obtain ⟨g, hg⟩ := zp_ex f1 t0
  obtain ⟨k, G, k0, hk, hG, g1, g2⟩ := zp_prim hg
  obtain ⟨A1, x1, x2⟩ := zp_gauss hG c0 (@ga_e1 po_P po_ring _ _ _ _ _ _ e1 hk)
  obtain ⟨B1, y1, y2⟩ := zp_gauss hG c0 (@ga_e1 po_P po_ring _ _ _ _ _ _ e2 hk)
  have z := @ga_e2 po_P po_ring _ _ _ _ _ _ _ _ _ _ e3 x2 y2 hk
  have z := zp_can ⟨g, by omega⟩ z
  exact ⟨G, A1, B1, g, hG, g1, g2, x2, y2, zp_fin_q c0 x1 (po_fin_mul (po_fin_C _ _) f2), zp_fin_q c0 y1 (po_fin_mul (po_fin_C _ _) f3), al, be, d * k, fun z => (Int.mul_eq_zero.mp z).elim d0 k0, f4, f5, by rw [po_C_mul]; exact z⟩
end
section
/-! irreducible divisors; what a polynomial with squares of degree at most 5 looks like -/
/-- primitive, of degree d, the leading coefficient above 0 -/
def zp_n (d : Nat) (f : po_P) : Prop := zp_pr f ∧ 0 < f d ∧ ∀ i, d < i → f i = 0
theorem zp_n_t {d : Nat} {f : po_P} (h : zp_n d f) : zp_t d f := ⟨by have := h.2.1; omega, h.2.2⟩
theorem zp_n_fin {m : Int} {d : Nat} {f : po_P} (h : zp_n d f) : po_fin m f := zp_t_fin (zp_n_t h)
theorem zp_n_n0 {d : Nat} {f : po_P} (h : zp_n d f) : ∃ i, f i ≠ 0 := ⟨d, (zp_n_t h).1⟩
theorem zp_pr_d {A B : po_P} (h : zp_pr (po_mul A B)) : zp_pr A := fun k hk => h k (fun i => po_mul_dv i A hk)
theorem zp_n0 {f : po_P} (h : zp_n 0 f) : f = po_C 1 := by
  have : f 0 ∣ 1 := h.1 (f 0) (fun i => by
    by_cases e : i = 0
    · rw [e]; exact Int.dvd_refl _
    · rw [h.2.2 i (by omega)]; exact Int.dvd_zero _)
  have e := Int.le_of_dvd (by omega) this
  have := h.2.1
  funext i
  simp only [po_C]
  by_cases z : i = 0
  · rw [if_pos z, z]; omega
  · rw [if_neg z]; exact h.2.2 i (by omega)
theorem zp_n1 : zp_n 0 (po_C 1) := ⟨fun k hk => by have := hk 0; simpa [po_C] using this, by simp [po_C], fun i hi => by simp only [po_C]; rw [if_neg (by omega)]⟩
/-- the cofactor of a divisor with a leading coefficient above 0 -/
theorem zp_n_div {n a : Nat} {W A B : po_P} (h : zp_n n W) (e : W = po_mul A B) (fB : po_fin 0 B) (a1 : 0 < A a) (a2 : ∀ i, a < i → A i = 0) : zp_n a A ∧ ∃ b, zp_n b B ∧ a + b = n := by
  have pA : zp_pr A := zp_pr_d (B := B) (by rw [← e]; exact h.1)
  have pB : zp_pr B := zp_pr_d (B := A) (by rw [zp_mulc, ← e]; exact h.1)
  obtain ⟨x, b, hx, hb, s⟩ := zp_t_div (zp_n_t h) e (po_fin_0 (n := a + 1) (fun i hi => a2 i (by omega))) fB
  have xa : x = a := zp_t_u hx ⟨by omega, a2⟩
  subst xa
  have t := (zp_top (f := A) (g := B) a2 hb.2).1
  rw [← e, s] at t
  have := h.2.1
  rw [t] at this
  exact ⟨⟨pA, a1, a2⟩, b, ⟨pB, Int.pos_of_mul_pos_right this a1, hb.2⟩, s⟩
theorem zp_n_mul {a b : Nat} {A B : po_P} (hA : zp_n a A) (hB : zp_n b B) : zp_n (a + b) (po_mul A B) := by
  obtain ⟨t1, t2⟩ := zp_top (f := A) (g := B) hA.2.2 hB.2.2
  refine ⟨fun k hk => ?_, by rw [t1]; exact Int.mul_pos hA.2.1 hB.2.1, t2⟩
  by_cases k0 : k = 0
  · exfalso
    have := hk (a + b)
    rw [k0, t1] at this
    have := Int.zero_dvd.mp this
    have := Int.mul_pos hA.2.1 hB.2.1
    omega
  · exact hB.1 k (zp_gaussN hA.1 k.natAbs k rfl k0 B hk)
theorem zp_n_pow {a : Nat} {A : po_P} (h : zp_n a A) : ∀ k, zp_n (a * k) (po_pow A k)
  | 0 => zp_n1
  | k + 1 => by rw [po_pow, Nat.mul_succ]; exact zp_n_mul (zp_n_pow h k) h
theorem ga_cq {R : Type} [Lean.Grind.CommRing R] {u q v a b c x : R} (h : u * q + v * a = c) (k : a * b = q * x) : c * b = q * (u * b + v * x) := by grind
/-- a primitive divisor of a product that is coprime to one factor divides the other -/
theorem zp_cop_q {q A B X : po_P} (hq : zp_pr q) (h : zp_cop q A) (e : po_mul A B = po_mul q X) (fB : po_fin 0 B) (fX : po_fin 0 X) : ∃ Y, po_fin 0 Y ∧ B = po_mul q Y := by
  obtain ⟨U, V, c, c0, f1, f2, h⟩ := h
  obtain ⟨Y, y1, y2⟩ := zp_gauss hq c0 (@ga_cq po_P po_ring _ _ _ _ _ _ _ h e)
  exact ⟨Y, zp_fin_q c0 y1 (po_fin_add (po_fin_mul f1 fB) (po_fin_mul f2 fX)), y2⟩
def zp_irr (d : Nat) (q : po_P) : Prop := zp_n d q ∧ 1 ≤ d ∧ ∀ A, po_fin 0 A → (∃ X, po_fin 0 X ∧ A = po_mul q X) ∨ zp_cop q A
theorem zp_irr_ex {n : Nat} {T : po_P} (h : zp_n n T) (hn : 1 ≤ n) : ∃ d q X, zp_irr d q ∧ po_fin 0 X ∧ T = po_mul q X := by
  obtain ⟨d, ⟨d1, q, X, hq, fX, e⟩, hl⟩ := pk_least (fun d => 1 ≤ d ∧ ∃ q X, zp_n d q ∧ po_fin 0 X ∧ T = po_mul q X) ⟨n, hn, T, po_C 1, h, po_fin_C _ _, (zp_m1 T).symm⟩
  refine ⟨d, q, X, ⟨hq, d1, fun A fA => ?_⟩, fX, e⟩
  obtain ⟨G, q1, A1, g, g1, g2, g3, e1, e2, f1, f2, hc⟩ := zp_eu (zp_n_fin hq) fA (zp_n_n0 hq)
  obtain ⟨hG, b, hb, s⟩ := zp_n_div hq e1 f1 g2 g3
  by_cases g0 : g = 0
  · subst g0
    have := zp_n0 hG
    rw [this, zp_1m] at e1 e2
    right
    rw [e1, e2]; exact hc
  · left
    have : d ≤ g := Classical.byContradiction (fun z => hl g (by omega) ⟨by omega, G, po_mul q1 X, hG, po_fin_mul f1 fX, by rw [e, e1, zp_mula]⟩)
    have b0 : b = 0 := by omega
    subst b0
    have := zp_n0 hb
    rw [this, zp_m1] at e1
    exact ⟨A1, f2, by rw [e1]; exact e2⟩
theorem zp_der_t {d : Nat} {f : po_P} (h : zp_t (d + 1) f) : zp_t d (po_der f) := ⟨fun z => by
  simp only [po_der] at z
  rcases Int.mul_eq_zero.mp z with y | y
  · omega
  · exact h.1 y, fun i hi => by simp only [po_der]; rw [h.2 (i + 1) (by omega), Int.mul_zero]⟩
theorem zp_irr_sf {d : Nat} {q : po_P} (h : zp_irr d q) : zp_sf q := by
  obtain ⟨h1, h2, h3⟩ := h
  rcases h3 (po_der q) (po_der_fin (zp_n_fin h1)) with ⟨X, fX, e⟩ | z
  · exfalso
    obtain ⟨d', rfl⟩ : ∃ d', d = d' + 1 := ⟨d - 1, by omega⟩
    obtain ⟨a, b, ha, _, s⟩ := zp_t_div (zp_der_t (zp_n_t h1)) e (zp_n_fin h1) fX
    have := zp_t_u ha (zp_n_t h1)
    omega
  · exact z
theorem zp_ext {d : Nat} {q : po_P} (hq : zp_irr d q) : ∀ (n : Nat) (W : po_P), zp_n n W → ∃ i h H, W = po_mul (po_pow q i) H ∧ zp_cop q H ∧ zp_n h H ∧ d * i + h = n := by
  intro n
  induction n using Nat.strongRecOn with
  | _ n ih =>
    intro W hW
    rcases hq.2.2 W (zp_n_fin hW) with ⟨X, fX, e⟩ | z
    · obtain ⟨_, b, hb, s⟩ := zp_n_div hW e fX hq.1.2.1 hq.1.2.2
      have := hq.2.1
      obtain ⟨i, h, H, h1, h2, h3, h4⟩ := ih b (by omega) X hb
      exact ⟨i + 1, h, H, by rw [e, h1, po_pow, ← zp_mula, zp_mulc q], h2, h3, by rw [Nat.mul_succ]; omega⟩
    · exact ⟨0, n, W, (zp_1m W).symm, z, hW, by omega⟩
theorem ga_qd {R : Type} [Lean.Grind.CommRing R] {q' X q X' Y : R} (h : q' * X + q * X' = q * Y) : q' * X = q * (Y - X') := by grind
theorem zp_nsf {n : Nat} {W : po_P} (hW : zp_n n W) (hn : 1 ≤ n) : zp_sf W ∨ ∃ d q i h H, zp_irr d q ∧ 2 ≤ i ∧ W = po_mul (po_pow q i) H ∧ zp_cop q H ∧ zp_n h H ∧ d * i + h = n := by
  obtain ⟨G, F, D, g, g1, g2, g3, e1, e2, f1, f2, hc⟩ := zp_eu (zp_n_fin hW) (po_der_fin (zp_n_fin hW)) (zp_n_n0 hW)
  obtain ⟨hG, _⟩ := zp_n_div hW e1 f1 g2 g3
  by_cases g0 : g = 0
  · subst g0
    have := zp_n0 hG
    rw [this, zp_1m] at e1 e2
    left
    show zp_cop W (po_der W)
    rw [e2, e1]; exact hc
  · right
    obtain ⟨d, q, X, hq, fX, eX⟩ := zp_irr_ex hG (by omega)
    obtain ⟨i, h, H, h1, h2, h3, h4⟩ := zp_ext hq n W hW
    refine ⟨d, q, i, h, H, hq, ?_, h1, h2, h3, h4⟩
    rw [eX, zp_mula] at e1 e2
    have fq : po_fin 0 q := zp_n_fin hq.1
    -- W = q Z, and q divides Z
    have eD : po_add (po_mul (po_der q) (po_mul X F)) (po_mul q (po_der (po_mul X F))) = po_mul q (po_mul X D) := by rw [← po_der_mul, ← e1, e2]
    have fZ := po_fin_mul fX f1
    obtain ⟨Y, fY, hY⟩ := zp_cop_q hq.1.1 (zp_irr_sf hq) (@ga_qd po_P po_ring _ _ _ _ _ eD) fZ (po_fin_sub (po_fin_mul fX f2) (po_der_fin fZ))
    rw [hY] at e1
    have fH : po_fin 0 H := zp_n_fin h3
    match i, h1 with
    | 0, h1 =>
      exfalso
      have : W = H := h1.trans (zp_1m H)
      rw [← this, e1] at h2
      have h2' : zp_cop (po_mul q (po_C 1)) (po_mul q (po_mul q Y)) := by rw [zp_m1]; exact h2
      have := zp_cop_t h2' fq (po_fin_C _ _) (po_fin_mul fq fY)
      have := zp_t_u this (zp_n_t hq.1)
      have := hq.2.1
      omega
    | 1, h1 =>
      exfalso
      have e3 : po_mul q H = po_mul q (po_mul q Y) := by
        rw [← e1, h1]
        show _ = po_mul (po_mul (po_C 1) q) H
        rw [zp_1m]
      have := zp_can (zp_n_n0 hq.1) e3
      rw [this] at h2
      have h2' : zp_cop (po_mul q (po_C 1)) (po_mul q Y) := by rw [zp_m1]; exact h2
      have := zp_cop_t h2' fq (po_fin_C _ _) fY
      have := zp_t_u this (zp_n_t hq.1)
      have := hq.2.1
      omega
    | i + 2, _ => omega
/-- W is a power of L times a power of Q -/
def zp_pat (n : Nat) (W L Q : po_P) (i j dL dQ : Nat) : Prop := W = po_mul (po_pow L i) (po_pow Q j) ∧ zp_n dL L ∧ zp_n dQ Q ∧ zp_sf (po_mul L Q) ∧ 1 ≤ dQ ∧ 1 ≤ i ∧ 1 ≤ j ∧ dL * i + dQ * j = n ∧ ((dL = 0 ∧ (j = 1 ∨ dQ ≤ 2)) ∨ (dL = 1 ∧ (dQ ≤ 2 ∨ (dQ = 3 ∧ i = 2 ∧ j = 1))))
theorem zp_pow1 (f : po_P) : po_pow f 1 = f := zp_1m f
theorem zp_sf_l {Q : po_P} (h : zp_sf Q) : zp_sf (po_mul (po_C 1) Q) := by rw [zp_1m]; exact h
theorem ga_pm {R : Type} [Lean.Grind.CommRing R] {a b c d : R} : a * b * (c * d) = a * c * (b * d) := by grind
theorem zp_pow_mul (A B : po_P) : ∀ k, po_pow (po_mul A B) k = po_mul (po_pow A k) (po_pow B k)
  | 0 => (zp_1m _).symm
  | k + 1 => by rw [po_pow, po_pow, po_pow, zp_pow_mul A B k]; exact @ga_pm po_P po_ring _ _ _ _
theorem zp_pow_1 : ∀ k, po_pow (po_C 1) k = po_C 1
  | 0 => rfl
  | k + 1 => by rw [po_pow, zp_pow_1 k, zp_1m]
theorem zp_cls {n : Nat} {W : po_P} (hW : zp_n n W) (hn : 1 ≤ n) (hn5 : n ≤ 5) : ∃ L Q i j dL dQ, zp_pat n W L Q i j dL dQ := by
  rcases zp_nsf hW hn with z | ⟨d, q, i, h, H, hq, hi, e, hc, hH, s⟩
  · exact ⟨po_C 1, W, 1, 1, 0, n, by rw [zp_pow1, zp_pow1, zp_1m], zp_n1, hW, zp_sf_l z, hn, by omega, by omega, by omega, Or.inl ⟨rfl, Or.inl rfl⟩⟩
  · have hd := hq.2.1
    have d2 : d ≤ 2 := by
      have := Nat.mul_le_mul_left d hi
      omega
    have fq : po_fin 0 q := zp_n_fin hq.1
    have fH : po_fin 0 H := zp_n_fin hH
    have sq := zp_irr_sf hq
    by_cases h0 : h = 0
    · subst h0
      rw [zp_n0 hH, zp_m1] at e
      exact ⟨po_C 1, q, 1, i, 0, d, by rw [zp_pow1, zp_1m]; exact e, zp_n1, hq.1, zp_sf_l sq, hd, by omega, by omega, by omega, Or.inl ⟨rfl, Or.inr d2⟩⟩
    · rcases zp_nsf hH (by omega) with z | ⟨d', r, k, h', H', hr, hk, e', hc', hH', s'⟩
      · have sf := zp_sf_m sq z hc fq fH
        by_cases d1 : d = 1
        · subst d1
          refine ⟨q, H, i, 1, 1, h, by rw [zp_pow1]; exact e, hq.1, hH, sf, by omega, by omega, by omega, by omega, Or.inr ⟨rfl, ?_⟩⟩
          by_cases h3 : h ≤ 2
          · exact Or.inl h3
          · exact Or.inr ⟨by omega, by omega, rfl⟩
        · have : d = 2 := by omega
          subst this
          have : i = 2 := by omega
          subst this
          have : h = 1 := by omega
          subst this
          exact ⟨H, q, 1, 2, 1, 2, by rw [zp_pow1, zp_mulc]; exact e, hH, hq.1, by rw [zp_mulc]; exact sf, by omega, by omega, by omega, by omega, Or.inr ⟨rfl, Or.inl (by omega)⟩⟩
      · have hd' := hr.2.1
        have k1 := Nat.mul_le_mul hd' hk
        have i1 := Nat.mul_le_mul hd hi
        have dd : d' * k ≤ 3 := by omega
        have d'1 : d' = 1 := by
          have : d' * 2 ≤ d' * k := Nat.mul_le_mul_left d' hk
          omega
        have d1 : d = 1 := by
          have : d * 2 ≤ d * i := Nat.mul_le_mul_left d hi
          omega
        subst d1
        subst d'1
        have fr : po_fin 0 r := zp_n_fin hr.1
        have fH' : po_fin 0 H' := zp_n_fin hH'
        have sr := zp_irr_sf hr
        have cqr : zp_cop q r := by
          have : zp_cop (po_mul r (po_mul (po_pow r (k - 1)) H')) q := by
            have e2 : po_mul r (po_mul (po_pow r (k - 1)) H') = H := by
              rw [e', ← zp_mula, zp_mulc r]
              obtain ⟨k', rfl⟩ : ∃ k', k = k' + 1 := ⟨k - 1, by omega⟩
              rfl
            rw [e2]; exact zp_cop_s hc
          exact zp_cop_s (zp_cop_d this (po_fin_mul (zp_pow_fin fr _) fH'))
        have cqH' : zp_cop q H' := by
          have : zp_cop (po_mul H' (po_pow r k)) q := by rw [zp_mulc, ← e']; exact zp_cop_s hc
          exact zp_cop_s (zp_cop_d this (zp_pow_fin fr _))
        by_cases h'0 : h' = 0
        · subst h'0
          rw [zp_n0 hH', zp_m1] at e'
          rw [e'] at e
          have sf := zp_sf_m sq sr cqr fq fr
          exact ⟨q, r, i, k, 1, 1, e, hq.1, hr.1, sf, by omega, by omega, by omega, by omega, Or.inr ⟨rfl, Or.inl (by omega)⟩⟩
        · have : i = 2 := by omega
          subst this
          have : k = 2 := by omega
          subst this
          have : h' = 1 := by omega
          subst this
          have sH' : zp_sf H' := by
            rcases zp_nsf hH' (by omega) with y | ⟨x1, x2, x3, x4, x5, y1, y2, _, _, _, y3⟩
            · exact y
            · exfalso
              have := Nat.mul_le_mul y1.2.1 y2
              omega
          refine ⟨H', po_mul q r, 1, 2, 1, 2, ?_, hH', zp_n_mul hq.1 hr.1, ?_, by omega, by omega, by omega, by omega, Or.inr ⟨rfl, Or.inl (by omega)⟩⟩
          · rw [zp_pow1, zp_pow_mul, e, e', zp_mulc H', zp_mula]
          · exact zp_sf_m sH' (zp_sf_m sq sr cqr fq fr) (zp_cop_m (zp_cop_s cqH') (zp_cop_s hc') fq) fH' (po_fin_mul fq fr)
end
section
/-! how great the coefficients of divisors can be -/
theorem zb_mul1 {T Y : po_P} (h : ∀ i, 1 < i → T i = 0) (n : Nat) : po_mul T Y (n + 1) = T 0 * Y (n + 1) + T 1 * Y n := by
  rw [po_mul_s]
  have : po_sh T = po_C (T 1) := by
    funext i
    simp only [po_sh, po_C]
    by_cases e : i = 0
    · rw [if_pos e, e]
    · rw [if_neg e]; exact h (i + 1) (by omega)
  rw [this, po_mul_C]
theorem zb_nm {x y z : Int} (h : x * y = z) : x.natAbs * y.natAbs = z.natAbs := by rw [← h, Int.natAbs_mul]
/-- t1 y = w - t0 y', with |t0| <= |t1| -/
theorem zb_st {t0 t1 y y' w : Int} {b s s' : Nat} (h : w = t0 * y' + t1 * y) (h1 : t1 ≠ 0) (hle : t0.natAbs ≤ t1.natAbs) (hw : w.natAbs ≤ b) (hy : y'.natAbs ≤ s') (hs : b + s' ≤ s) : y.natAbs ≤ s := by
  have e : t1 * y = w - t0 * y' := by omega
  have e1 := zb_nm e
  have e2 : (t0 * y').natAbs = t0.natAbs * y'.natAbs := Int.natAbs_mul _ _
  have e3 : t0.natAbs * y'.natAbs ≤ t1.natAbs * s' := Nat.mul_le_mul hle hy
  have e4 : b ≤ t1.natAbs * b := Nat.le_mul_of_pos_left b (by omega)
  have e5 : t1.natAbs * y.natAbs ≤ t1.natAbs * (b + s') := by
    rw [e1, Nat.mul_add]; omega
  have := Nat.le_of_mul_le_mul_left e5 (by omega)
  omega
theorem zb_sn {t0 t1 y y' w : Int} {B : Nat} (h : w = t0 * y' + t1 * y) (hlt : t0.natAbs < t1.natAbs) (hw : w.natAbs ≤ B) (hy : y'.natAbs ≤ B) : y.natAbs ≤ B := by
  have e : t1 * y = w - t0 * y' := by omega
  have e1 := zb_nm e
  have e2 : (t0 * y').natAbs = t0.natAbs * y'.natAbs := Int.natAbs_mul _ _
  have e3 : t0.natAbs * y'.natAbs ≤ t0.natAbs * B := Nat.mul_le_mul_left _ hy
  have e6 : (t0.natAbs + 1) * B ≤ t1.natAbs * B := Nat.mul_le_mul_right B hlt
  rw [Nat.add_mul, Nat.one_mul] at e6
  exact Nat.le_of_mul_le_mul_left (by rw [e1]; omega) (show 0 < t1.natAbs by omega)
theorem zb_dn {T Y W : po_P} {n : Nat} {b s : Nat → Nat} (hT : ∀ i, 1 < i → T i = 0) (e : W = po_mul T Y) (h1 : T 1 ≠ 0) (hle : (T 0).natAbs ≤ (T 1).natAbs) (hY : ∀ i, n ≤ i → Y i = 0) (hW : ∀ i, (W i).natAbs ≤ b i) (hs : ∀ k, k < n → b (k + 1) + s (k + 1) ≤ s k) : ∀ j k, k + j = n → (Y k).natAbs ≤ s k
  | 0, k, h => by rw [hY k (by omega)]; exact Nat.zero_le _
  | j + 1, k, h => by
    have ih := zb_dn hT e h1 hle hY hW hs j (k + 1) (by omega)
    have w := hW (k + 1)
    have x : W (k + 1) = T 0 * Y (k + 1) + T 1 * Y k := by rw [e, zb_mul1 hT]
    exact zb_st x h1 hle w ih (hs k (by omega))
theorem zb_up {T Y W : po_P} {b s : Nat → Nat} (hT : ∀ i, 1 < i → T i = 0) (e : W = po_mul T Y) (h0 : T 0 ≠ 0) (hle : (T 1).natAbs ≤ (T 0).natAbs) (hW : ∀ i, (W i).natAbs ≤ b i) (hs0 : b 0 ≤ s 0) (hs : ∀ k, b (k + 1) + s k ≤ s (k + 1)) : ∀ k, (Y k).natAbs ≤ s k
  | 0 => by
    have x : W 0 = 0 * 0 + T 0 * Y 0 := by rw [e, po_mul_0]; omega
    exact zb_st x h0 (Nat.zero_le _) (hW 0) (show (0 : Int).natAbs ≤ 0 by decide) (by omega)
  | k + 1 => by
    have ih := zb_up hT e h0 hle hW hs0 hs k
    have x : W (k + 1) = T 1 * Y k + T 0 * Y (k + 1) := by rw [e, zb_mul1 hT]; omega
    exact zb_st x h0 hle (hW (k + 1)) ih (hs k)
theorem zb_dne {T Y W : po_P} {n B : Nat} (hT : ∀ i, 1 < i → T i = 0) (e : W = po_mul T Y) (hlt : (T 0).natAbs < (T 1).natAbs) (hY : ∀ i, n ≤ i → Y i = 0) (hW : ∀ i, (W i).natAbs ≤ B) : ∀ j k, k + j = n → (Y k).natAbs ≤ B
  | 0, k, h => by rw [hY k (by omega)]; exact Nat.zero_le _
  | j + 1, k, h => by
    have ih := zb_dne hT e hlt hY hW j (k + 1) (by omega)
    have x : W (k + 1) = T 0 * Y (k + 1) + T 1 * Y k := by rw [e, zb_mul1 hT]
    exact zb_sn x hlt (hW (k + 1)) ih
theorem zb_upe {T Y W : po_P} {B : Nat} (hT : ∀ i, 1 < i → T i = 0) (e : W = po_mul T Y) (hlt : (T 1).natAbs < (T 0).natAbs) (hW : ∀ i, (W i).natAbs ≤ B) : ∀ k, (Y k).natAbs ≤ B
  | 0 => by
    have x : W 0 = 0 * 0 + T 0 * Y 0 := by rw [e, po_mul_0]; omega
    exact zb_sn x (by show 0 < _; omega) (hW 0) (show (0 : Int).natAbs ≤ B by exact Nat.zero_le _)
  | k + 1 => by
    have ih := zb_upe hT e hlt hW k
    have x : W (k + 1) = T 1 * Y k + T 0 * Y (k + 1) := by rw [e, zb_mul1 hT]; omega
    exact zb_sn x hlt (hW (k + 1)) ih
/-- division by a linear polynomial: the coefficients grow at most fivefold -/
theorem zb_lin {T Y W : po_P} {n B : Nat} (hT : ∀ i, 1 < i → T i = 0) (e : W = po_mul T Y) (h1 : T 1 ≠ 0) (hn : n ≤ 5) (hY : ∀ i, n ≤ i → Y i = 0) (hW : ∀ i, (W i).natAbs ≤ B) (k : Nat) : (Y k).natAbs ≤ 5 * B := by
  by_cases hk : n ≤ k
  · rw [hY k hk]; exact Nat.zero_le _
  · rcases Nat.lt_trichotomy (T 0).natAbs (T 1).natAbs with z | z | z
    · have := zb_dne hT e z hY hW (n - k) k (by omega)
      omega
    · have := zb_dn (b := fun _ => B) (s := fun i => (n - i) * B) hT e h1 (by omega) hY hW (fun k hk => by
        show B + (n - (k + 1)) * B ≤ (n - k) * B
        rw [show n - k = (n - (k + 1)) + 1 by omega, Nat.add_mul]; omega) (n - k) k (by omega)
      exact Nat.le_trans this (Nat.mul_le_mul_right B (by omega))
    · have := zb_upe hT e z hW k
      omega
/-- the coefficients of a linear divisor -/
theorem zb_lin0 {T Y W : po_P} {n B : Nat} (hT : zp_t 1 T) (e : W = po_mul T Y) (hY : zp_t n Y) (hW : ∀ i, (W i).natAbs ≤ B) (i : Nat) : (T i).natAbs ≤ B := by
  have pos : ∀ (x y : Int), x ≠ 0 → y ≠ 0 → ∀ w : Int, w = x * y → w.natAbs ≤ B → x.natAbs ≤ B := fun x y hx hy w hw hb => by
    have := zb_nm hw.symm
    have h2 : x.natAbs * 1 ≤ x.natAbs * y.natAbs := Nat.mul_le_mul_left _ (by omega)
    omega
  match i with
  | 0 =>
    by_cases z : T 0 = 0
    · rw [z]; exact Nat.zero_le _
    · obtain ⟨k, hk, hl⟩ := pk_least (fun k => Y k ≠ 0) ⟨n, hY.1⟩
      refine pos (T 0) (Y k) z hk (W k) ?_ (hW k)
      rw [e]
      cases k with
      | zero => rw [po_mul_0]
      | succ k =>
        rw [zb_mul1 hT.2]
        have : Y k = 0 := Classical.byContradiction (fun y => hl k (by omega) y)
        rw [this]; omega
  | 1 =>
    refine pos (T 1) (Y n) hT.1 hY.1 (W (1 + n)) ?_ (hW _)
    rw [e]; exact (zp_top hT.2 hY.2).1
  | i + 2 => rw [hT.2 (i + 2) (by omega)]; exact Nat.zero_le _
/-- the leading coefficient of a divisor -/
theorem zb_lead {a b B : Nat} {T Y W : po_P} (hT : zp_t a T) (hY : zp_t b Y) (e : W = po_mul T Y) (hW : ∀ i, (W i).natAbs ≤ B) : (T a).natAbs ≤ B := by
  have h := (zp_top hT.2 hY.2).1
  rw [← e] at h
  have h1 := zb_nm h.symm
  have h2 : (T a).natAbs * 1 ≤ (T a).natAbs * (Y b).natAbs := Nat.mul_le_mul_left _ (by have := hY.1; omega)
  have := hW (a + b)
  omega
end
section
/-! the coefficients of all divisors of a small polynomial -/
theorem zb_abs {x y w : Int} {B : Nat} (h : w = x * y) (hy : y ≠ 0) (hb : w.natAbs ≤ B) : x.natAbs ≤ B := by
  have := zb_nm h.symm
  have h2 : x.natAbs * 1 ≤ x.natAbs * y.natAbs := Nat.mul_le_mul_left _ (by omega)
  omega
theorem zb_low {T Y : po_P} {n : Nat} {B : Nat} (hY : ∃ i, Y i ≠ 0) (hW : ∀ i, (po_mul T Y i).natAbs ≤ B) : (T 0).natAbs ≤ B := by
  obtain ⟨k, hk, hl⟩ := pk_least (fun k => Y k ≠ 0) hY
  have := po_low (m := 0) (g := Y) (j := k) (fun j hj => by
    have : Y j = 0 := Classical.byContradiction (fun y => hl j hj y)
    rw [this]; exact Int.dvd_refl 0) 0 T (fun j hj => absurd hj (by omega))
  have h1 := Int.zero_dvd.mp this
  rw [Nat.zero_add] at h1
  exact zb_abs (w := po_mul T Y k) (by omega) hk (hW k)
theorem zb_6 {W0 W1 W2 W3 W4 W5 : Int} (h1 : W0 + W1 + W2 + W3 + W4 + W5 = 0) (h2 : W0 - W1 + W2 - W3 + W4 - W5 = 0) (h3 : W0 + 2 * W1 + 4 * W2 + 8 * W3 + 16 * W4 + 32 * W5 = 0) (h4 : W0 - 2 * W1 + 4 * W2 - 8 * W3 + 16 * W4 - 32 * W5 = 0) (h5 : W0 + 3 * W1 + 9 * W2 + 27 * W3 + 81 * W4 + 243 * W5 = 0) (h6 : W0 - 3 * W1 + 9 * W2 - 27 * W3 + 81 * W4 - 243 * W5 = 0) : W0 = 0 ∧ W1 = 0 ∧ W2 = 0 ∧ W3 = 0 ∧ W4 = 0 ∧ W5 = 0 := by omega
theorem zb_23 {T Y : po_P} (hT : ∀ i, 2 < i → T i = 0) (hY : ∀ i, 3 < i → Y i = 0) : po_mul T Y 0 = T 0 * Y 0 ∧ po_mul T Y 1 = T 0 * Y 1 + T 1 * Y 0 ∧ po_mul T Y 2 = T 0 * Y 2 + T 1 * Y 1 + T 2 * Y 0 ∧ po_mul T Y 3 = T 0 * Y 3 + T 1 * Y 2 + T 2 * Y 1 ∧ po_mul T Y 4 = T 1 * Y 3 + T 2 * Y 2 ∧ po_mul T Y 5 = T 2 * Y 3 := by
  have t3 := hT 3 (by omega)
  have t4 := hT 4 (by omega)
  have t5 := hT 5 (by omega)
  have y4 := hY 4 (by omega)
  have y5 := hY 5 (by omega)
  simp only [po_mul_s, po_mul_0, po_sh, t3, t4, t5, y4, y5]
  refine ⟨?_, ?_, ?_, ?_, ?_, ?_⟩ <;> grind
theorem zb_f0 {t0 t1 t2 : Int} (h0 : t0.natAbs ≤ 20) (h2 : t2.natAbs ≤ 20) (h : (t0 + t1 + t2).natAbs ≤ 120) : t1.natAbs ≤ 2500 := by omega
theorem zb_w0 {w0 w1 w2 w3 w4 w5 : Int} (h0 : w0.natAbs ≤ 20) (h1 : w1.natAbs ≤ 20) (h2 : w2.natAbs ≤ 20) (h3 : w3.natAbs ≤ 20) (h4 : w4.natAbs ≤ 20) (h5 : w5.natAbs ≤ 20) : (w0 + w1 + w2 + w3 + w4 + w5).natAbs ≤ 120 := by omega
theorem zb_m0 {t0 t1 t2 y0 y1 y2 y3 w0 w1 w2 w3 w4 w5 : Int} (m0 : w0 = t0 * y0) (m1 : w1 = t0 * y1 + t1 * y0) (m2 : w2 = t0 * y2 + t1 * y1 + t2 * y0) (m3 : w3 = t0 * y3 + t1 * y2 + t2 * y1) (m4 : w4 = t1 * y3 + t2 * y2) (m5 : w5 = t2 * y3) : w0 + w1 + w2 + w3 + w4 + w5 = (t0 + t1 + t2) * (y0 + y1 + y2 + y3) := by rw [m0, m1, m2, m3, m4, m5]; grind
theorem zb_f1 {t0 t1 t2 : Int} (h0 : t0.natAbs ≤ 20) (h2 : t2.natAbs ≤ 20) (h : (t0 - t1 + t2).natAbs ≤ 120) : t1.natAbs ≤ 2500 := by omega
theorem zb_w1 {w0 w1 w2 w3 w4 w5 : Int} (h0 : w0.natAbs ≤ 20) (h1 : w1.natAbs ≤ 20) (h2 : w2.natAbs ≤ 20) (h3 : w3.natAbs ≤ 20) (h4 : w4.natAbs ≤ 20) (h5 : w5.natAbs ≤ 20) : (w0 - w1 + w2 - w3 + w4 - w5).natAbs ≤ 120 := by omega
theorem zb_m1 {t0 t1 t2 y0 y1 y2 y3 w0 w1 w2 w3 w4 w5 : Int} (m0 : w0 = t0 * y0) (m1 : w1 = t0 * y1 + t1 * y0) (m2 : w2 = t0 * y2 + t1 * y1 + t2 * y0) (m3 : w3 = t0 * y3 + t1 * y2 + t2 * y1) (m4 : w4 = t1 * y3 + t2 * y2) (m5 : w5 = t2 * y3) : w0 - w1 + w2 - w3 + w4 - w5 = (t0 - t1 + t2) * (y0 - y1 + y2 - y3) := by rw [m0, m1, m2, m3, m4, m5]; grind
theorem zb_f2 {t0 t1 t2 : Int} (h0 : t0.natAbs ≤ 20) (h2 : t2.natAbs ≤ 20) (h : (t0 + 2 * t1 + 4 * t2).natAbs ≤ 1260) : t1.natAbs ≤ 2500 := by omega
theorem zb_w2 {w0 w1 w2 w3 w4 w5 : Int} (h0 : w0.natAbs ≤ 20) (h1 : w1.natAbs ≤ 20) (h2 : w2.natAbs ≤ 20) (h3 : w3.natAbs ≤ 20) (h4 : w4.natAbs ≤ 20) (h5 : w5.natAbs ≤ 20) : (w0 + 2 * w1 + 4 * w2 + 8 * w3 + 16 * w4 + 32 * w5).natAbs ≤ 1260 := by omega
theorem zb_m2 {t0 t1 t2 y0 y1 y2 y3 w0 w1 w2 w3 w4 w5 : Int} (m0 : w0 = t0 * y0) (m1 : w1 = t0 * y1 + t1 * y0) (m2 : w2 = t0 * y2 + t1 * y1 + t2 * y0) (m3 : w3 = t0 * y3 + t1 * y2 + t2 * y1) (m4 : w4 = t1 * y3 + t2 * y2) (m5 : w5 = t2 * y3) : w0 + 2 * w1 + 4 * w2 + 8 * w3 + 16 * w4 + 32 * w5 = (t0 + 2 * t1 + 4 * t2) * (y0 + 2 * y1 + 4 * y2 + 8 * y3) := by rw [m0, m1, m2, m3, m4, m5]; grind
theorem zb_f3 {t0 t1 t2 : Int} (h0 : t0.natAbs ≤ 20) (h2 : t2.natAbs ≤ 20) (h : (t0 - 2 * t1 + 4 * t2).natAbs ≤ 1260) : t1.natAbs ≤ 2500 := by omega
theorem zb_w3 {w0 w1 w2 w3 w4 w5 : Int} (h0 : w0.natAbs ≤ 20) (h1 : w1.natAbs ≤ 20) (h2 : w2.natAbs ≤ 20) (h3 : w3.natAbs ≤ 20) (h4 : w4.natAbs ≤ 20) (h5 : w5.natAbs ≤ 20) : (w0 - 2 * w1 + 4 * w2 - 8 * w3 + 16 * w4 - 32 * w5).natAbs ≤ 1260 := by omega
theorem zb_m3 {t0 t1 t2 y0 y1 y2 y3 w0 w1 w2 w3 w4 w5 : Int} (m0 : w0 = t0 * y0) (m1 : w1 = t0 * y1 + t1 * y0) (m2 : w2 = t0 * y2 + t1 * y1 + t2 * y0) (m3 : w3 = t0 * y3 + t1 * y2 + t2 * y1) (m4 : w4 = t1 * y3 + t2 * y2) (m5 : w5 = t2 * y3) : w0 - 2 * w1 + 4 * w2 - 8 * w3 + 16 * w4 - 32 * w5 = (t0 - 2 * t1 + 4 * t2) * (y0 - 2 * y1 + 4 * y2 - 8 * y3) := by rw [m0, m1, m2, m3, m4, m5]; grind
theorem zb_f4 {t0 t1 t2 : Int} (h0 : t0.natAbs ≤ 20) (h2 : t2.natAbs ≤ 20) (h : (t0 + 3 * t1 + 9 * t2).natAbs ≤ 7280) : t1.natAbs ≤ 2500 := by omega
theorem zb_w4 {w0 w1 w2 w3 w4 w5 : Int} (h0 : w0.natAbs ≤ 20) (h1 : w1.natAbs ≤ 20) (h2 : w2.natAbs ≤ 20) (h3 : w3.natAbs ≤ 20) (h4 : w4.natAbs ≤ 20) (h5 : w5.natAbs ≤ 20) : (w0 + 3 * w1 + 9 * w2 + 27 * w3 + 81 * w4 + 243 * w5).natAbs ≤ 7280 := by omega
theorem zb_m4 {t0 t1 t2 y0 y1 y2 y3 w0 w1 w2 w3 w4 w5 : Int} (m0 : w0 = t0 * y0) (m1 : w1 = t0 * y1 + t1 * y0) (m2 : w2 = t0 * y2 + t1 * y1 + t2 * y0) (m3 : w3 = t0 * y3 + t1 * y2 + t2 * y1) (m4 : w4 = t1 * y3 + t2 * y2) (m5 : w5 = t2 * y3) : w0 + 3 * w1 + 9 * w2 + 27 * w3 + 81 * w4 + 243 * w5 = (t0 + 3 * t1 + 9 * t2) * (y0 + 3 * y1 + 9 * y2 + 27 * y3) := by rw [m0, m1, m2, m3, m4, m5]; grind
theorem zb_f5 {t0 t1 t2 : Int} (h0 : t0.natAbs ≤ 20) (h2 : t2.natAbs ≤ 20) (h : (t0 - 3 * t1 + 9 * t2).natAbs ≤ 7280) : t1.natAbs ≤ 2500 := by omega
theorem zb_w5 {w0 w1 w2 w3 w4 w5 : Int} (h0 : w0.natAbs ≤ 20) (h1 : w1.natAbs ≤ 20) (h2 : w2.natAbs ≤ 20) (h3 : w3.natAbs ≤ 20) (h4 : w4.natAbs ≤ 20) (h5 : w5.natAbs ≤ 20) : (w0 - 3 * w1 + 9 * w2 - 27 * w3 + 81 * w4 - 243 * w5).natAbs ≤ 7280 := by omega
theorem zb_m5 {t0 t1 t2 y0 y1 y2 y3 w0 w1 w2 w3 w4 w5 : Int} (m0 : w0 = t0 * y0) (m1 : w1 = t0 * y1 + t1 * y0) (m2 : w2 = t0 * y2 + t1 * y1 + t2 * y0) (m3 : w3 = t0 * y3 + t1 * y2 + t2 * y1) (m4 : w4 = t1 * y3 + t2 * y2) (m5 : w5 = t2 * y3) : w0 - 3 * w1 + 9 * w2 - 27 * w3 + 81 * w4 - 243 * w5 = (t0 - 3 * t1 + 9 * t2) * (y0 - 3 * y1 + 9 * y2 - 27 * y3) := by rw [m0, m1, m2, m3, m4, m5]; grind
theorem zb_quad {T Y W : po_P} {y : Nat} (hT : zp_t 2 T) (hY : zp_t y Y) (hy : y ≤ 3) (e : W = po_mul T Y) (hW : ∀ i, (W i).natAbs ≤ 20) (i : Nat) : (T i).natAbs ≤ 2500 := by
  obtain ⟨m0, m1, m2, m3, m4, m5⟩ := zb_23 hT.2 (fun i hi => hY.2 i (by omega))
  rw [← e] at m0 m1 m2 m3 m4 m5
  have t2 := zb_lead hT hY e hW
  have t0 := zb_low (n := 0) (T := T) (Y := Y) ⟨y, hY.1⟩ (by rw [← e]; exact hW)
  have w0 := hW 0
  have w1 := hW 1
  have w2 := hW 2
  have w3 := hW 3
  have w4 := hW 4
  have w5 := hW 5
  have t1 : (T 1).natAbs ≤ 2500 := by
    by_cases h0 : W 0 + W 1 + W 2 + W 3 + W 4 + W 5 = 0
    rotate_left
    · have q := zb_m0 m0 m1 m2 m3 m4 m5
      exact zb_f0 t0 t2 (zb_abs q (fun z => h0 (by rw [q, z, Int.mul_zero])) (zb_w0 w0 w1 w2 w3 w4 w5))
    by_cases h1 : W 0 - W 1 + W 2 - W 3 + W 4 - W 5 = 0
    rotate_left
    · have q := zb_m1 m0 m1 m2 m3 m4 m5
      exact zb_f1 t0 t2 (zb_abs q (fun z => h1 (by rw [q, z, Int.mul_zero])) (zb_w1 w0 w1 w2 w3 w4 w5))
    by_cases h2 : W 0 + 2 * W 1 + 4 * W 2 + 8 * W 3 + 16 * W 4 + 32 * W 5 = 0
    rotate_left
    · have q := zb_m2 m0 m1 m2 m3 m4 m5
      exact zb_f2 t0 t2 (zb_abs q (fun z => h2 (by rw [q, z, Int.mul_zero])) (zb_w2 w0 w1 w2 w3 w4 w5))
    by_cases h3 : W 0 - 2 * W 1 + 4 * W 2 - 8 * W 3 + 16 * W 4 - 32 * W 5 = 0
    rotate_left
    · have q := zb_m3 m0 m1 m2 m3 m4 m5
      exact zb_f3 t0 t2 (zb_abs q (fun z => h3 (by rw [q, z, Int.mul_zero])) (zb_w3 w0 w1 w2 w3 w4 w5))
    by_cases h4 : W 0 + 3 * W 1 + 9 * W 2 + 27 * W 3 + 81 * W 4 + 243 * W 5 = 0
    rotate_left
    · have q := zb_m4 m0 m1 m2 m3 m4 m5
      exact zb_f4 t0 t2 (zb_abs q (fun z => h4 (by rw [q, z, Int.mul_zero])) (zb_w4 w0 w1 w2 w3 w4 w5))
    by_cases h5 : W 0 - 3 * W 1 + 9 * W 2 - 27 * W 3 + 81 * W 4 - 243 * W 5 = 0
    rotate_left
    · have q := zb_m5 m0 m1 m2 m3 m4 m5
      exact zb_f5 t0 t2 (zb_abs q (fun z => h5 (by rw [q, z, Int.mul_zero])) (zb_w5 w0 w1 w2 w3 w4 w5))
    exfalso
    obtain ⟨z0, z1, z2, z3, z4, z5⟩ := zb_6 h0 h1 h2 h3 h4 h5
    have t := zp_t_mul hT hY
    rw [← e] at t
    have : ∀ k, k ≤ 5 → W k = 0 := fun k hk => by
      match k, hk with
      | 0, _ => exact z0
      | 1, _ => exact z1
      | 2, _ => exact z2
      | 3, _ => exact z3
      | 4, _ => exact z4
      | 5, _ => exact z5
    exact t.1 (this _ (by omega))
  match i with
  | 0 => exact Nat.le_trans t0 (by decide)
  | 1 => exact t1
  | 2 => exact Nat.le_trans t2 (by decide)
  | i + 3 => rw [hT.2 (i + 3) (by omega)]; exact Nat.zero_le _
theorem zb_all {n a b : Nat} {W T Y : po_P} (hT : zp_t a T) (hY : zp_t b Y) (e : W = po_mul T Y) (hab : a + b ≤ 5) (hW : ∀ i, (W i).natAbs ≤ 20) (i : Nat) : (T i).natAbs ≤ 60000 := by
  have eY : W = po_mul Y T := by rw [e, zp_mulc]
  by_cases b0 : b = 0
  · subst b0
    have : Y = po_C (Y 0) := by
      funext j; simp only [po_C]
      by_cases z : j = 0
      · rw [if_pos z, z]
      · rw [if_neg z]; exact hY.2 j (by omega)
    have h : W i = T i * Y 0 := by rw [eY, this, po_mul_C]; simp only [po_C, if_pos]; grind
    have := zb_abs h hY.1 (hW i)
    omega
  · by_cases b1 : b = 1
    · subst b1
      have := zb_lin (n := a + 1) hY.2 eY hY.1 (by omega) (fun j hj => hT.2 j (by omega)) hW i
      omega
    · match a, hT, hab with
      | 0, hT, _ =>
        have := zb_lead hT hY e hW
        match i with
        | 0 => omega
        | i + 1 => rw [hT.2 (i + 1) (by omega)]; exact Nat.zero_le _
      | 1, hT, _ =>
        have := zb_lin0 hT e hY hW i
        omega
      | 2, hT, _ =>
        have := zb_quad hT hY (by omega) e hW i
        omega
      | 3, hT, _ =>
        have : b = 2 := by omega
        subst this
        have q := zb_quad hY hT (by omega) eY hW
        have q1 := q 1
        obtain ⟨m0, m1, m2, m3, m4, m5⟩ := zb_23 hY.2 hT.2
        rw [← eY] at m0 m1 m2 m3 m4 m5
        have t3 := zb_lead hT hY e hW
        have w0 := hW 0
        have w1 := hW 1
        have w4 := hW 4
        have bd : ∀ x : Int, x.natAbs ≤ 20 → (Y 1 * x).natAbs ≤ 50000 := fun x hx => by
          rw [Int.natAbs_mul]
          have := Nat.mul_le_mul q1 hx
          omega
        by_cases y0 : Y 0 = 0
        · have e2 : po_sh W = po_mul (po_sh Y) T := by
            funext j
            show W (j + 1) = _
            rw [eY, po_mul_s, y0]; omega
          have := zb_lin (n := 4) (T := po_sh Y) (fun j hj => hY.2 (j + 1) (by omega)) e2 hY.1 (by omega) (fun j hj => hT.2 j (by omega)) (fun j => hW (j + 1)) i
          omega
        · have t0 := zb_abs (x := T 0) (by rw [m0]; grind) y0 w0
          have b1 := bd _ t0
          have t1 := zb_abs (x := T 1) (y := Y 0) (w := W 1 - Y 1 * T 0) (B := 50020) (by rw [m1]; grind) y0 (by omega)
          have b2 := bd _ t3
          have t2 := zb_abs (x := T 2) (y := Y 2) (w := W 4 - Y 1 * T 3) (B := 50020) (by rw [m4]; grind) hY.1 (by omega)
          match i with
          | 0 => omega
          | 1 => omega
          | 2 => omega
          | 3 => omega
          | i + 4 => rw [hT.2 (i + 4) (by omega)]; exact Nat.zero_le _
      | a + 4, _, _ => omega
end
section
/-! determinants of four rows -/
def rz_d3 (a b c d e f g h i : Int) : Int := a * (e * i - f * h) - b * (d * i - f * g) + c * (d * h - e * g)
def rz_k0 (a1 a2 a3 b1 b2 b3 c1 c2 c3 : Int) : Int := rz_d3 a1 a2 a3 b1 b2 b3 c1 c2 c3
def rz_d4 (a0 a1 a2 a3 b0 b1 b2 b3 c0 c1 c2 c3 d0 d1 d2 d3 : Int) : Int := (rz_d3 b1 b2 b3 c1 c2 c3 d1 d2 d3) * a0 - (rz_d3 a1 a2 a3 c1 c2 c3 d1 d2 d3) * b0 + (rz_d3 a1 a2 a3 b1 b2 b3 d1 d2 d3) * c0 - (rz_d3 a1 a2 a3 b1 b2 b3 c1 c2 c3) * d0
theorem rz_cr1 (a1 a2 a3 b1 b2 b3 c1 c2 c3 d1 d2 d3 : Int) : (rz_d3 b1 b2 b3 c1 c2 c3 d1 d2 d3) * a1 - (rz_d3 a1 a2 a3 c1 c2 c3 d1 d2 d3) * b1 + (rz_d3 a1 a2 a3 b1 b2 b3 d1 d2 d3) * c1 - (rz_d3 a1 a2 a3 b1 b2 b3 c1 c2 c3) * d1 = 0 := by simp only [rz_d3]; grind
theorem rz_cr2 (a1 a2 a3 b1 b2 b3 c1 c2 c3 d1 d2 d3 : Int) : (rz_d3 b1 b2 b3 c1 c2 c3 d1 d2 d3) * a2 - (rz_d3 a1 a2 a3 c1 c2 c3 d1 d2 d3) * b2 + (rz_d3 a1 a2 a3 b1 b2 b3 d1 d2 d3) * c2 - (rz_d3 a1 a2 a3 b1 b2 b3 c1 c2 c3) * d2 = 0 := by simp only [rz_d3]; grind
theorem rz_cr3 (a1 a2 a3 b1 b2 b3 c1 c2 c3 d1 d2 d3 : Int) : (rz_d3 b1 b2 b3 c1 c2 c3 d1 d2 d3) * a3 - (rz_d3 a1 a2 a3 c1 c2 c3 d1 d2 d3) * b3 + (rz_d3 a1 a2 a3 b1 b2 b3 d1 d2 d3) * c3 - (rz_d3 a1 a2 a3 b1 b2 b3 c1 c2 c3) * d3 = 0 := by simp only [rz_d3]; grind
theorem rz_sw1 (a0 a1 a2 a3 b0 b1 b2 b3 c0 c1 c2 c3 d0 d1 d2 d3 : Int) : rz_d4 a1 a0 a2 a3 b1 b0 b2 b3 c1 c0 c2 c3 d1 d0 d2 d3 = - rz_d4 a0 a1 a2 a3 b0 b1 b2 b3 c0 c1 c2 c3 d0 d1 d2 d3 := by simp only [rz_d4, rz_d3]; grind
theorem rz_sw2 (a0 a1 a2 a3 b0 b1 b2 b3 c0 c1 c2 c3 d0 d1 d2 d3 : Int) : rz_d4 a2 a1 a0 a3 b2 b1 b0 b3 c2 c1 c0 c3 d2 d1 d0 d3 = - rz_d4 a0 a1 a2 a3 b0 b1 b2 b3 c0 c1 c2 c3 d0 d1 d2 d3 := by simp only [rz_d4, rz_d3]; grind
theorem rz_sw3 (a0 a1 a2 a3 b0 b1 b2 b3 c0 c1 c2 c3 d0 d1 d2 d3 : Int) : rz_d4 a3 a1 a2 a0 b3 b1 b2 b0 c3 c1 c2 c0 d3 d1 d2 d0 = - rz_d4 a0 a1 a2 a3 b0 b1 b2 b3 c0 c1 c2 c3 d0 d1 d2 d3 := by simp only [rz_d4, rz_d3]; grind
theorem rz_dep3 {a0 a1 a2 a3 b0 b1 b2 b3 c0 c1 c2 c3 : Int} (h0 : rz_d3 a1 a2 a3 b1 b2 b3 c1 c2 c3 = 0) (h1 : rz_d3 a0 a2 a3 b0 b2 b3 c0 c2 c3 = 0) (h2 : rz_d3 a1 a0 a3 b1 b0 b3 c1 c0 c3 = 0) (h3 : rz_d3 a1 a2 a0 b1 b2 b0 c1 c2 c0 = 0) : ∃ x y z : Int, (x ≠ 0 ∨ y ≠ 0 ∨ z ≠ 0) ∧ x * a0 + y * b0 + z * c0 = 0 ∧ x * a1 + y * b1 + z * c1 = 0 ∧ x * a2 + y * b2 + z * c2 = 0 ∧ x * a3 + y * b3 + z * c3 = 0 := by
  simp only [rz_d3] at h0 h1 h2 h3
  by_cases m01 : a0 * b1 - a1 * b0 = 0
  rotate_left
  · exact ⟨b0 * c1 - b1 * c0, -(a0 * c1 - a1 * c0), a0 * b1 - a1 * b0, Or.inr (Or.inr m01), by grind, by grind, by grind, by grind⟩
  by_cases m02 : a0 * b2 - a2 * b0 = 0
  rotate_left
  · exact ⟨b0 * c2 - b2 * c0, -(a0 * c2 - a2 * c0), a0 * b2 - a2 * b0, Or.inr (Or.inr m02), by grind, by grind, by grind, by grind⟩
  by_cases m03 : a0 * b3 - a3 * b0 = 0
  rotate_left
  · exact ⟨b0 * c3 - b3 * c0, -(a0 * c3 - a3 * c0), a0 * b3 - a3 * b0, Or.inr (Or.inr m03), by grind, by grind, by grind, by grind⟩
  by_cases m12 : a1 * b2 - a2 * b1 = 0
  rotate_left
  · exact ⟨b1 * c2 - b2 * c1, -(a1 * c2 - a2 * c1), a1 * b2 - a2 * b1, Or.inr (Or.inr m12), by grind, by grind, by grind, by grind⟩
  by_cases m13 : a1 * b3 - a3 * b1 = 0
  rotate_left
  · exact ⟨b1 * c3 - b3 * c1, -(a1 * c3 - a3 * c1), a1 * b3 - a3 * b1, Or.inr (Or.inr m13), by grind, by grind, by grind, by grind⟩
  by_cases m23 : a2 * b3 - a3 * b2 = 0
  rotate_left
  · exact ⟨b2 * c3 - b3 * c2, -(a2 * c3 - a3 * c2), a2 * b3 - a3 * b2, Or.inr (Or.inr m23), by grind, by grind, by grind, by grind⟩
  by_cases n0 : a0 = 0
  rotate_left
  · exact ⟨b0, - a0, 0, Or.inr (Or.inl (by omega)), by grind, by grind, by grind, by grind⟩
  by_cases n1 : a1 = 0
  rotate_left
  · exact ⟨b1, - a1, 0, Or.inr (Or.inl (by omega)), by grind, by grind, by grind, by grind⟩
  by_cases n2 : a2 = 0
  rotate_left
  · exact ⟨b2, - a2, 0, Or.inr (Or.inl (by omega)), by grind, by grind, by grind, by grind⟩
  by_cases n3 : a3 = 0
  rotate_left
  · exact ⟨b3, - a3, 0, Or.inr (Or.inl (by omega)), by grind, by grind, by grind, by grind⟩
  exact ⟨1, 0, 0, Or.inl (by decide), by rw [n0]; omega, by rw [n1]; omega, by rw [n2]; omega, by rw [n3]; omega⟩
theorem rz_dep {a0 a1 a2 a3 b0 b1 b2 b3 c0 c1 c2 c3 d0 d1 d2 d3 : Int} (h : rz_d4 a0 a1 a2 a3 b0 b1 b2 b3 c0 c1 c2 c3 d0 d1 d2 d3 = 0) : ∃ x y z w : Int, (x ≠ 0 ∨ y ≠ 0 ∨ z ≠ 0 ∨ w ≠ 0) ∧ x * a0 + y * b0 + z * c0 + w * d0 = 0 ∧ x * a1 + y * b1 + z * c1 + w * d1 = 0 ∧ x * a2 + y * b2 + z * c2 + w * d2 = 0 ∧ x * a3 + y * b3 + z * c3 + w * d3 = 0 := by
  by_cases q0 : rz_d3 a1 a2 a3 b1 b2 b3 c1 c2 c3 = 0
  rotate_left
  · have g0 : rz_d4 a0 a1 a2 a3 b0 b1 b2 b3 c0 c1 c2 c3 d0 d1 d2 d3 = 0 := h
    simp only [rz_d4] at g0
    have g1 := rz_cr1 a1 a2 a3 b1 b2 b3 c1 c2 c3 d1 d2 d3
    have g2 := rz_cr2 a1 a2 a3 b1 b2 b3 c1 c2 c3 d1 d2 d3
    have g3 := rz_cr3 a1 a2 a3 b1 b2 b3 c1 c2 c3 d1 d2 d3
    exact ⟨rz_d3 b1 b2 b3 c1 c2 c3 d1 d2 d3, -(rz_d3 a1 a2 a3 c1 c2 c3 d1 d2 d3), rz_d3 a1 a2 a3 b1 b2 b3 d1 d2 d3, -(rz_d3 a1 a2 a3 b1 b2 b3 c1 c2 c3), Or.inr (Or.inr (Or.inr (by omega))), by have := g0; grind, by have := g1; grind, by have := g2; grind, by have := g3; grind⟩
  by_cases q1 : rz_d3 a0 a2 a3 b0 b2 b3 c0 c2 c3 = 0
  rotate_left
  · have g0 : rz_d4 a1 a0 a2 a3 b1 b0 b2 b3 c1 c0 c2 c3 d1 d0 d2 d3 = 0 := by rw [rz_sw1, h]; rfl
    simp only [rz_d4] at g0
    have g1 := rz_cr1 a0 a2 a3 b0 b2 b3 c0 c2 c3 d0 d2 d3
    have g2 := rz_cr2 a0 a2 a3 b0 b2 b3 c0 c2 c3 d0 d2 d3
    have g3 := rz_cr3 a0 a2 a3 b0 b2 b3 c0 c2 c3 d0 d2 d3
    exact ⟨rz_d3 b0 b2 b3 c0 c2 c3 d0 d2 d3, -(rz_d3 a0 a2 a3 c0 c2 c3 d0 d2 d3), rz_d3 a0 a2 a3 b0 b2 b3 d0 d2 d3, -(rz_d3 a0 a2 a3 b0 b2 b3 c0 c2 c3), Or.inr (Or.inr (Or.inr (by omega))), by have := g1; grind, by have := g0; grind, by have := g2; grind, by have := g3; grind⟩
  by_cases q2 : rz_d3 a1 a0 a3 b1 b0 b3 c1 c0 c3 = 0
  rotate_left
  · have g0 : rz_d4 a2 a1 a0 a3 b2 b1 b0 b3 c2 c1 c0 c3 d2 d1 d0 d3 = 0 := by rw [rz_sw2, h]; rfl
    simp only [rz_d4] at g0
    have g1 := rz_cr1 a1 a0 a3 b1 b0 b3 c1 c0 c3 d1 d0 d3
    have g2 := rz_cr2 a1 a0 a3 b1 b0 b3 c1 c0 c3 d1 d0 d3
    have g3 := rz_cr3 a1 a0 a3 b1 b0 b3 c1 c0 c3 d1 d0 d3
    exact ⟨rz_d3 b1 b0 b3 c1 c0 c3 d1 d0 d3, -(rz_d3 a1 a0 a3 c1 c0 c3 d1 d0 d3), rz_d3 a1 a0 a3 b1 b0 b3 d1 d0 d3, -(rz_d3 a1 a0 a3 b1 b0 b3 c1 c0 c3), Or.inr (Or.inr (Or.inr (by omega))), by have := g2; grind, by have := g1; grind, by have := g0; grind, by have := g3; grind⟩
  by_cases q3 : rz_d3 a1 a2 a0 b1 b2 b0 c1 c2 c0 = 0
  rotate_left
  · have g0 : rz_d4 a3 a1 a2 a0 b3 b1 b2 b0 c3 c1 c2 c0 d3 d1 d2 d0 = 0 := by rw [rz_sw3, h]; rfl
    simp only [rz_d4] at g0
    have g1 := rz_cr1 a1 a2 a0 b1 b2 b0 c1 c2 c0 d1 d2 d0
    have g2 := rz_cr2 a1 a2 a0 b1 b2 b0 c1 c2 c0 d1 d2 d0
    have g3 := rz_cr3 a1 a2 a0 b1 b2 b0 c1 c2 c0 d1 d2 d0
    exact ⟨rz_d3 b1 b2 b0 c1 c2 c0 d1 d2 d0, -(rz_d3 a1 a2 a0 c1 c2 c0 d1 d2 d0), rz_d3 a1 a2 a0 b1 b2 b0 d1 d2 d0, -(rz_d3 a1 a2 a0 b1 b2 b0 c1 c2 c0), Or.inr (Or.inr (Or.inr (by omega))), by have := g3; grind, by have := g1; grind, by have := g2; grind, by have := g0; grind⟩
  obtain ⟨x, y, z, n, e0, e1, e2, e3⟩ := rz_dep3 q0 q1 q2 q3
  exact ⟨x, y, z, 0, by rcases n with n | n | n; exact Or.inl n; exact Or.inr (Or.inl n); exact Or.inr (Or.inr (Or.inl n)), by omega, by omega, by omega, by omega⟩
end
section
/-! the number R of two polynomials of degree m (Bezout) -/
def rz_s (k : Nat) (f : po_P) : po_P := fun t => f (t + k)
def rz_B (u v : po_P) (i : Nat) : po_P := po_sub (po_mul (rz_s (i + 1) u) v) (po_mul (rz_s (i + 1) v) u)
def rz_M (m : Nat) (u v : po_P) (i j : Nat) : Int := rz_B u v i j + (if i = j ∧ m ≤ i then 1 else 0)
def rz_R (m : Nat) (u v : po_P) : Int := rz_d4 (rz_M m u v 0 0) (rz_M m u v 0 1) (rz_M m u v 0 2) (rz_M m u v 0 3) (rz_M m u v 1 0) (rz_M m u v 1 1) (rz_M m u v 1 2) (rz_M m u v 1 3) (rz_M m u v 2 0) (rz_M m u v 2 1) (rz_M m u v 2 2) (rz_M m u v 2 3) (rz_M m u v 3 0) (rz_M m u v 3 1) (rz_M m u v 3 2) (rz_M m u v 3 3)
def rz_lw (i : Nat) (f : po_P) : po_P := fun t => if t ≤ i then f t else 0
theorem rz_spl (i : Nat) (f : po_P) : f = po_add (rz_lw i f) (po_mul (po_X (i + 1) 1) (rz_s (i + 1) f)) := by
  funext t
  show f t = rz_lw i f t + po_mul _ _ t
  rw [po_mul_X]
  simp only [rz_lw, rz_s]
  by_cases h : t ≤ i
  · rw [if_pos h, if_neg (by omega)]; omega
  · rw [if_neg h, if_pos (by omega), show t - (i + 1) + (i + 1) = t by omega]; omega
theorem ga_bzo {R : Type} [Lean.Grind.CommRing R] {A C u v lu lv X : R} (hu : u = lu + X * A) (hv : v = lv + X * C) : A * v - C * u = A * lv - C * lu := by grind
theorem rz_B_0 {m : Nat} {u v : po_P} (hu : ∀ t, m < t → u t = 0) (hv : ∀ t, m < t → v t = 0) (i j : Nat) (hj : m ≤ j) : rz_B u v i j = 0 := by
  by_cases hi : m ≤ i
  · have eu : rz_s (i + 1) u = fun _ => 0 := by funext t; exact hu _ (by omega)
    have ev : rz_s (i + 1) v = fun _ => 0 := by funext t; exact hv _ (by omega)
    show po_mul (rz_s (i + 1) u) v j - po_mul (rz_s (i + 1) v) u j = 0
    rw [eu, ev, po_mul_zL, po_mul_zL]; rfl
  · have e := @ga_bzo po_P po_ring _ _ _ _ _ _ _ (rz_spl i u) (rz_spl i v)
    have e1 : rz_B u v i j = po_mul (rz_s (i + 1) u) (rz_lw i v) j - po_mul (rz_s (i + 1) v) (rz_lw i u) j := congrFun e j
    have lw : ∀ f : po_P, ∀ t, i < t → rz_lw i f t = 0 := fun f t ht => by simp only [rz_lw]; rw [if_neg (by omega)]
    rw [e1, (zp_top (d := m - i - 1) (e := i) (f := rz_s (i + 1) u) (g := rz_lw i v) (fun t ht => hu _ (by omega)) (lw v)).2 j (by omega), (zp_top (d := m - i - 1) (e := i) (f := rz_s (i + 1) v) (g := rz_lw i u) (fun t ht => hv _ (by omega)) (lw u)).2 j (by omega)]; rfl
theorem rz_M_B {m : Nat} {u v : po_P} {i j : Nat} (h : j < m) : rz_M m u v i j = rz_B u v i j := by
  simp only [rz_M]; rw [if_neg (by omega)]; omega
theorem rz_M_I {m : Nat} {u v : po_P} (hu : ∀ t, m < t → u t = 0) (hv : ∀ t, m < t → v t = 0) {i j : Nat} (h : m ≤ j) : rz_M m u v i j = if i = j then 1 else 0 := by
  simp only [rz_M]; rw [rz_B_0 hu hv i j h]
  by_cases e : i = j
  · rw [if_pos e, if_pos (by omega)]; rfl
  · rw [if_neg e, if_neg (by omega)]; rfl
/-- four numbers and the four polynomials -/
def rz_c4 (k0 k1 k2 k3 : Int) (f : po_P) : po_P := fun t => k0 * f (t + 1) + k1 * f (t + 2) + k2 * f (t + 3) + k3 * f (t + 4)
theorem rz_c4_e (k0 k1 k2 k3 : Int) (f : po_P) : rz_c4 k0 k1 k2 k3 f = po_add (po_add (po_add (po_mul (po_C k0) (rz_s 1 f)) (po_mul (po_C k1) (rz_s 2 f))) (po_mul (po_C k2) (rz_s 3 f))) (po_mul (po_C k3) (rz_s 4 f)) := by
  funext t
  show _ = po_mul _ _ t + po_mul _ _ t + po_mul _ _ t + po_mul _ _ t
  rw [po_mul_C, po_mul_C, po_mul_C, po_mul_C]; rfl
theorem ga_c4 {R : Type} [Lean.Grind.CommRing R] {k0 k1 k2 k3 a0 a1 a2 a3 c0 c1 c2 c3 u v x y : R} (hx : x = k0 * a0 + k1 * a1 + k2 * a2 + k3 * a3) (hy : y = k0 * c0 + k1 * c1 + k2 * c2 + k3 * c3) : x * v - y * u = k0 * (a0 * v - c0 * u) + k1 * (a1 * v - c1 * u) + k2 * (a2 * v - c2 * u) + k3 * (a3 * v - c3 * u) := by grind
theorem rz_comb (k0 k1 k2 k3 : Int) (u v : po_P) (j : Nat) : po_mul (rz_c4 k0 k1 k2 k3 u) v j - po_mul (rz_c4 k0 k1 k2 k3 v) u j = k0 * rz_B u v 0 j + k1 * rz_B u v 1 j + k2 * rz_B u v 2 j + k3 * rz_B u v 3 j := by
  have e := @ga_c4 po_P po_ring _ _ _ _ _ _ _ _ _ _ _ _ u v _ _ (rz_c4_e k0 k1 k2 k3 u) (rz_c4_e k0 k1 k2 k3 v)
  have e1 := congrFun e j
  have e2 : po_mul (rz_c4 k0 k1 k2 k3 u) v j - po_mul (rz_c4 k0 k1 k2 k3 v) u j = po_mul (po_C k0) (rz_B u v 0) j + po_mul (po_C k1) (rz_B u v 1) j + po_mul (po_C k2) (rz_B u v 2) j + po_mul (po_C k3) (rz_B u v 3) j := e1
  rw [e2, po_mul_C, po_mul_C, po_mul_C, po_mul_C]
theorem rz_c4_fin {m : Nat} {k0 k1 k2 k3 : Int} {f : po_P} (h : ∀ t, m < t → f t = 0) : ∀ t, m ≤ t → rz_c4 k0 k1 k2 k3 f t = 0 := fun t ht => by
  simp only [rz_c4]; rw [h (t + 1) (by omega), h (t + 2) (by omega), h (t + 3) (by omega), h (t + 4) (by omega)]; omega
theorem rz_4 {P : Nat → Prop} {j : Nat} (h : j < 4) (h0 : P 0) (h1 : P 1) (h2 : P 2) (h3 : P 3) : P j := by
  match j, h with
  | 0, _ => exact h0
  | 1, _ => exact h1
  | 2, _ => exact h2
  | 3, _ => exact h3
/-- R is a combination of u and v -/
theorem rz_R_cb {m : Nat} {u v : po_P} (hm : 1 ≤ m) (hm4 : m ≤ 4) (hu : ∀ t, m < t → u t = 0) (hv : ∀ t, m < t → v t = 0) : ∃ U V : po_P, (∀ t, m ≤ t → U t = 0) ∧ (∀ t, m ≤ t → V t = 0) ∧ po_sub (po_mul U v) (po_mul V u) = po_C (rz_R m u v) := by
  have c1 := rz_cr1 (rz_M m u v 0 1) (rz_M m u v 0 2) (rz_M m u v 0 3) (rz_M m u v 1 1) (rz_M m u v 1 2) (rz_M m u v 1 3) (rz_M m u v 2 1) (rz_M m u v 2 2) (rz_M m u v 2 3) (rz_M m u v 3 1) (rz_M m u v 3 2) (rz_M m u v 3 3)
  have c2 := rz_cr2 (rz_M m u v 0 1) (rz_M m u v 0 2) (rz_M m u v 0 3) (rz_M m u v 1 1) (rz_M m u v 1 2) (rz_M m u v 1 3) (rz_M m u v 2 1) (rz_M m u v 2 2) (rz_M m u v 2 3) (rz_M m u v 3 1) (rz_M m u v 3 2) (rz_M m u v 3 3)
  have c3 := rz_cr3 (rz_M m u v 0 1) (rz_M m u v 0 2) (rz_M m u v 0 3) (rz_M m u v 1 1) (rz_M m u v 1 2) (rz_M m u v 1 3) (rz_M m u v 2 1) (rz_M m u v 2 2) (rz_M m u v 2 3) (rz_M m u v 3 1) (rz_M m u v 3 2) (rz_M m u v 3 3)
  have c0 : rz_R m u v = (rz_d3 (rz_M m u v 1 1) (rz_M m u v 1 2) (rz_M m u v 1 3) (rz_M m u v 2 1) (rz_M m u v 2 2) (rz_M m u v 2 3) (rz_M m u v 3 1) (rz_M m u v 3 2) (rz_M m u v 3 3)) * rz_M m u v 0 0 - (rz_d3 (rz_M m u v 0 1) (rz_M m u v 0 2) (rz_M m u v 0 3) (rz_M m u v 2 1) (rz_M m u v 2 2) (rz_M m u v 2 3) (rz_M m u v 3 1) (rz_M m u v 3 2) (rz_M m u v 3 3)) * rz_M m u v 1 0 + (rz_d3 (rz_M m u v 0 1) (rz_M m u v 0 2) (rz_M m u v 0 3) (rz_M m u v 1 1) (rz_M m u v 1 2) (rz_M m u v 1 3) (rz_M m u v 3 1) (rz_M m u v 3 2) (rz_M m u v 3 3)) * rz_M m u v 2 0 - (rz_d3 (rz_M m u v 0 1) (rz_M m u v 0 2) (rz_M m u v 0 3) (rz_M m u v 1 1) (rz_M m u v 1 2) (rz_M m u v 1 3) (rz_M m u v 2 1) (rz_M m u v 2 2) (rz_M m u v 2 3)) * rz_M m u v 3 0 := rfl
  generalize rz_d3 (rz_M m u v 1 1) (rz_M m u v 1 2) (rz_M m u v 1 3) (rz_M m u v 2 1) (rz_M m u v 2 2) (rz_M m u v 2 3) (rz_M m u v 3 1) (rz_M m u v 3 2) (rz_M m u v 3 3) = k0 at c0 c1 c2 c3
  generalize rz_d3 (rz_M m u v 0 1) (rz_M m u v 0 2) (rz_M m u v 0 3) (rz_M m u v 2 1) (rz_M m u v 2 2) (rz_M m u v 2 3) (rz_M m u v 3 1) (rz_M m u v 3 2) (rz_M m u v 3 3) = k1 at c0 c1 c2 c3
  generalize rz_d3 (rz_M m u v 0 1) (rz_M m u v 0 2) (rz_M m u v 0 3) (rz_M m u v 1 1) (rz_M m u v 1 2) (rz_M m u v 1 3) (rz_M m u v 3 1) (rz_M m u v 3 2) (rz_M m u v 3 3) = k2 at c0 c1 c2 c3
  generalize rz_d3 (rz_M m u v 0 1) (rz_M m u v 0 2) (rz_M m u v 0 3) (rz_M m u v 1 1) (rz_M m u v 1 2) (rz_M m u v 1 3) (rz_M m u v 2 1) (rz_M m u v 2 2) (rz_M m u v 2 3) = k3 at c0 c1 c2 c3
  refine ⟨rz_c4 k0 (-k1) k2 (-k3) u, rz_c4 k0 (-k1) k2 (-k3) v, rz_c4_fin hu, rz_c4_fin hv, ?_⟩
  funext j
  show po_mul _ v j - po_mul _ u j = _
  rw [rz_comb]
  by_cases hj : m ≤ j
  · rw [rz_B_0 hu hv 0 j hj, rz_B_0 hu hv 1 j hj, rz_B_0 hu hv 2 j hj, rz_B_0 hu hv 3 j hj]
    simp only [po_C]; rw [if_neg (by omega)]; omega
  · have hB : ∀ i, rz_B u v i j = rz_M m u v i j := fun i => (rz_M_B (by omega)).symm
    rw [hB, hB, hB, hB]
    match j, hj with
    | 0, _ =>
      have : po_C (rz_R m u v) 0 = rz_R m u v := by simp [po_C]
      rw [this]
      have c0' : rz_R m u v = k0 * rz_M m u v 0 0 - k1 * rz_M m u v 1 0 + k2 * rz_M m u v 2 0 - k3 * rz_M m u v 3 0 := c0
      rw [c0']; grind
    | 1, _ =>
      have : po_C (rz_R m u v) 1 = 0 := by simp [po_C]
      rw [this, ← c1]; grind
    | 2, _ =>
      have : po_C (rz_R m u v) 2 = 0 := by simp [po_C]
      rw [this, ← c2]; grind
    | 3, _ =>
      have : po_C (rz_R m u v) 3 = 0 := by simp [po_C]
      rw [this, ← c3]; grind
    | j + 4, hj => omega
theorem ga_rn {R : Type} [Lean.Grind.CommRing R] {U u V v c al be : R} (h : U * u + V * v = c) (k : al * v = be * u) : c * al = u * (U * al + V * be) := by grind
/-- R is not 0 when u and v are coprime -/
theorem rz_R_n0 {m : Nat} {u v : po_P} (hm4 : m ≤ 4) (hu : zp_t m u) (hv : ∀ t, m < t → v t = 0) (h : zp_cop u v) : rz_R m u v ≠ 0 := fun hR => by
  obtain ⟨x, y, z, w, n, e0, e1, e2, e3⟩ := rz_dep hR
  have col : ∀ j, j < 4 → x * rz_M m u v 0 j + y * rz_M m u v 1 j + z * rz_M m u v 2 j + w * rz_M m u v 3 j = 0 := fun j hj => rz_4 (P := fun j => x * rz_M m u v 0 j + y * rz_M m u v 1 j + z * rz_M m u v 2 j + w * rz_M m u v 3 j = 0) hj e0 e1 e2 e3
  have al0 := rz_c4_fin (k0 := x) (k1 := y) (k2 := z) (k3 := w) hu.2
  have eq : po_mul (rz_c4 x y z w u) v = po_mul (rz_c4 x y z w v) u := by
    funext j
    have h1 := rz_comb x y z w u v j
    have h2 : x * rz_B u v 0 j + y * rz_B u v 1 j + z * rz_B u v 2 j + w * rz_B u v 3 j = 0 := by
      by_cases hj : m ≤ j
      · rw [rz_B_0 hu.2 hv 0 j hj, rz_B_0 hu.2 hv 1 j hj, rz_B_0 hu.2 hv 2 j hj, rz_B_0 hu.2 hv 3 j hj]; omega
      · have := col j (by omega)
        rw [rz_M_B (by omega), rz_M_B (by omega), rz_M_B (by omega), rz_M_B (by omega)] at this
        exact this
    omega
  have lz : ∀ j, j < 4 → m ≤ j → (if j = 0 then x else if j = 1 then y else if j = 2 then z else w) = 0 := fun j hj hmj => by
    have c := col j hj
    rw [rz_M_I hu.2 hv hmj, rz_M_I hu.2 hv hmj, rz_M_I hu.2 hv hmj, rz_M_I hu.2 hv hmj] at c
    match j, hj with
    | 0, _ => simp at c ⊢; exact c
    | 1, _ => simp at c ⊢; exact c
    | 2, _ => simp at c ⊢; exact c
    | 3, _ => simp at c ⊢; exact c
  have nz : ∃ t, rz_c4 x y z w u t ≠ 0 := by
    have um := hu.1
    by_cases x0 : x = 0
    · by_cases y0 : y = 0
      · by_cases z0 : z = 0
        · have w0 : w ≠ 0 := by omega
          have : 4 ≤ m := Classical.byContradiction (fun q => w0 (by have := lz 3 (by omega) (by omega); simpa using this))
          refine ⟨m - 4, ?_⟩
          simp only [rz_c4]
          rw [x0, y0, z0, show m - 4 + 4 = m by omega]
          intro q
          exact (Int.mul_eq_zero.mp (show w * u m = 0 by omega)).elim w0 um
        · have : 3 ≤ m := Classical.byContradiction (fun q => z0 (by have := lz 2 (by omega) (by omega); simpa using this))
          refine ⟨m - 3, ?_⟩
          simp only [rz_c4]
          rw [x0, y0, show m - 3 + 3 = m by omega, hu.2 (m - 3 + 4) (by omega)]
          intro q
          exact (Int.mul_eq_zero.mp (show z * u m = 0 by omega)).elim z0 um
      · have : 2 ≤ m := Classical.byContradiction (fun q => y0 (by have := lz 1 (by omega) (by omega); simpa using this))
        refine ⟨m - 2, ?_⟩
        simp only [rz_c4]
        rw [x0, show m - 2 + 2 = m by omega, hu.2 (m - 2 + 3) (by omega), hu.2 (m - 2 + 4) (by omega)]
        intro q
        exact (Int.mul_eq_zero.mp (show y * u m = 0 by omega)).elim y0 um
    · have : 1 ≤ m := Classical.byContradiction (fun q => x0 (by have := lz 0 (by omega) (by omega); simpa using this))
      refine ⟨m - 1, ?_⟩
      simp only [rz_c4]
      rw [show m - 1 + 1 = m by omega, hu.2 (m - 1 + 2) (by omega), hu.2 (m - 1 + 3) (by omega), hu.2 (m - 1 + 4) (by omega)]
      intro q
      exact (Int.mul_eq_zero.mp (show x * u m = 0 by omega)).elim x0 um
  obtain ⟨U, V, c, c0, f1, f2, hc⟩ := h
  have fa : po_fin 0 (rz_c4 x y z w u) := po_fin_0 al0
  have fb : po_fin 0 (rz_c4 x y z w v) := po_fin_0 (rz_c4_fin hv)
  obtain ⟨a, ha⟩ := zp_ex fa nz
  have hlt : a < m := Classical.byContradiction (fun q => ha.1 (al0 a (by omega)))
  have e := @ga_rn po_P po_ring _ _ _ _ _ _ _ hc eq
  obtain ⟨s, t, h1, _, h3⟩ := zp_t_div (zp_t_mul (zp_t_C c0) ha) e (zp_t_fin hu) (po_fin_add (po_fin_mul f1 fa) (po_fin_mul f2 fb))
  have := zp_t_u h1 hu
  omega
/-- n F less x F' -/
def rz_v (n : Nat) (F : po_P) : po_P := fun i => ((n : Int) - i) * F i
theorem rz_v_e (n : Nat) (F : po_P) : po_mul (po_C n) F = po_add (rz_v n F) (po_mul (po_X 1 1) (po_der F)) := by
  funext i
  show po_mul _ _ i = rz_v n F i + po_mul _ _ i
  rw [po_mul_C, po_mul_X]
  simp only [rz_v, po_der]
  cases i with
  | zero => rw [if_neg (by omega)]; simp
  | succ i =>
    rw [if_pos (by omega), show i + 1 - 1 = i by omega]
    grind
theorem rz_v_0 {n : Nat} {F : po_P} (h : ∀ i, n + 1 < i → F i = 0) : ∀ t, n < t → rz_v (n + 1) F t = 0 := fun t ht => by
  simp only [rz_v]
  by_cases e : t = n + 1
  · rw [e, Int.sub_self, Int.zero_mul]
  · rw [h t (by omega), Int.mul_zero]
/-- the number R of a polynomial of degree n + 1 -/
def rz_F (n : Nat) (F : po_P) : Int := rz_R n (po_der F) (rz_v (n + 1) F)
theorem ga_rf {R : Type} [Lean.Grind.CommRing R] {n F v X u U V r : R} (h : n * F = v + X * u) (k : U * v - V * u = r) : (U * n) * F + (0 - V - U * X) * u = r := by grind
theorem rz_F_cb {n : Nat} {F : po_P} (hn : 1 ≤ n) (hn4 : n ≤ 4) (hF : ∀ i, n + 1 < i → F i = 0) : ∃ U V : po_P, po_fin 0 U ∧ po_fin 0 V ∧ po_add (po_mul U F) (po_mul V (po_der F)) = po_C (rz_F n F) := by
  obtain ⟨U, V, f1, f2, e⟩ := rz_R_cb hn hn4 (u := po_der F) (v := rz_v (n + 1) F) (fun t ht => by simp only [po_der]; rw [hF (t + 1) (by omega), Int.mul_zero]) (rz_v_0 hF)
  have F1 : po_fin 0 U := po_fin_0 f1
  have F2 : po_fin 0 V := po_fin_0 f2
  have g1 := po_fin_mul F1 (po_fin_C 0 ((n + 1 : Nat) : Int))
  have g2 := po_fin_sub (po_fin_sub (po_fin_C 0 0) F2) (po_fin_mul F1 (po_fin_X 0 1 1))
  exact ⟨_, _, g1, g2, @ga_rf po_P po_ring _ _ _ _ _ _ _ _ (rz_v_e (n + 1) F) e⟩
theorem ga_rs {R : Type} [Lean.Grind.CommRing R] {n F v X u U V c : R} (h : n * F = v + X * u) (k : U * F + V * u = c) : (U * X + n * V) * u + U * v = n * c := by grind
theorem rz_F_n0 {n : Nat} {F : po_P} (hn4 : n ≤ 4) (hF : zp_t (n + 1) F) (h : zp_sf F) : rz_F n F ≠ 0 := by
  obtain ⟨U, V, c, c0, f1, f2, e⟩ := h
  have k := @ga_rs po_P po_ring _ _ _ _ _ _ _ _ (rz_v_e (n + 1) F) e
  have g1 := po_fin_add (po_fin_mul f1 (po_fin_X 0 1 1)) (po_fin_mul (po_fin_C 0 ((n + 1 : Nat) : Int)) f2)
  refine rz_R_n0 hn4 (zp_der_t hF) (rz_v_0 hF.2) ⟨_, _, ((n + 1 : Nat) : Int) * c, fun z => (Int.mul_eq_zero.mp z).elim (by omega) c0, g1, f1, ?_⟩
  rw [po_C_mul]; exact k
end
section
/-! how great the number R can be; a good prime exists -/
theorem zb_mm2 {x y : Int} {X Y : Nat} (hx : x.natAbs ≤ X) (hy : y.natAbs ≤ Y) : (x * y).natAbs ≤ X * Y := by
  rw [Int.natAbs_mul]; exact Nat.mul_le_mul hx hy
theorem rz_d3_b {a b c d e f g h i : Int} {X Y Z : Nat} (ha : a.natAbs ≤ X) (hb : b.natAbs ≤ X) (hc : c.natAbs ≤ X) (hd : d.natAbs ≤ Y) (he : e.natAbs ≤ Y) (hf : f.natAbs ≤ Y) (hg : g.natAbs ≤ Z) (hh : h.natAbs ≤ Z) (hi : i.natAbs ≤ Z) : (rz_d3 a b c d e f g h i).natAbs ≤ 6 * (X * Y * Z) := by
  have t : ∀ p q r s t : Int, p.natAbs ≤ X → q.natAbs ≤ Y → r.natAbs ≤ Y → s.natAbs ≤ Z → t.natAbs ≤ Z → (p * (q * s - r * t)).natAbs ≤ 2 * (X * Y * Z) := by
    intro p q r s t hp hq hr hs ht
    have h1 := zb_mm2 hq hs
    have h2 := zb_mm2 hr ht
    have h3 : (q * s - r * t).natAbs ≤ 2 * (Y * Z) := by omega
    have h4 := zb_mm2 hp h3
    rw [show 2 * (X * Y * Z) = X * (2 * (Y * Z)) by grind]
    exact h4
  have t1 := t a e f i h ha he hf hi hh
  have t2 := t b d f i g hb hd hf hi hg
  have t3 := t c d e h g hc hd he hh hg
  simp only [rz_d3]
  omega
theorem rz_d4_b {a0 a1 a2 a3 b0 b1 b2 b3 c0 c1 c2 c3 d0 d1 d2 d3 : Int} {A B C D : Nat} (ha0 : a0.natAbs ≤ A) (ha1 : a1.natAbs ≤ A) (ha2 : a2.natAbs ≤ A) (ha3 : a3.natAbs ≤ A) (hb0 : b0.natAbs ≤ B) (hb1 : b1.natAbs ≤ B) (hb2 : b2.natAbs ≤ B) (hb3 : b3.natAbs ≤ B) (hc0 : c0.natAbs ≤ C) (hc1 : c1.natAbs ≤ C) (hc2 : c2.natAbs ≤ C) (hc3 : c3.natAbs ≤ C) (hd0 : d0.natAbs ≤ D) (hd1 : d1.natAbs ≤ D) (hd2 : d2.natAbs ≤ D) (hd3 : d3.natAbs ≤ D) : (rz_d4 a0 a1 a2 a3 b0 b1 b2 b3 c0 c1 c2 c3 d0 d1 d2 d3).natAbs ≤ 24 * (A * B * C * D) := by
  have t1 := zb_mm2 (rz_d3_b hb1 hb2 hb3 hc1 hc2 hc3 hd1 hd2 hd3) ha0
  have t2 := zb_mm2 (rz_d3_b ha1 ha2 ha3 hc1 hc2 hc3 hd1 hd2 hd3) hb0
  have t3 := zb_mm2 (rz_d3_b ha1 ha2 ha3 hb1 hb2 hb3 hd1 hd2 hd3) hc0
  have t4 := zb_mm2 (rz_d3_b ha1 ha2 ha3 hb1 hb2 hb3 hc1 hc2 hc3) hd0
  rw [show 6 * (B * C * D) * A = 6 * (A * B * C * D) by grind] at t1
  rw [show 6 * (A * C * D) * B = 6 * (A * B * C * D) by grind] at t2
  rw [show 6 * (A * B * D) * C = 6 * (A * B * C * D) by grind] at t3
  rw [show 6 * (A * B * C) * D = 6 * (A * B * C * D) by grind] at t4
  simp only [rz_d4]
  clear ha0 ha1 ha2 ha3 hb0 hb1 hb2 hb3 hc0 hc1 hc2 hc3 hd0 hd1 hd2 hd3
  omega
def zb_cv : Nat → (Nat → Nat) → (Nat → Nat) → Nat
  | 0, F, G => F 0 * G 0
  | n + 1, F, G => F 0 * G (n + 1) + zb_cv n (fun t => F (t + 1)) G
theorem zb_cv_b {g : po_P} {G : Nat → Nat} (hg : ∀ i, (g i).natAbs ≤ G i) : ∀ (n : Nat) (f : po_P) (F : Nat → Nat), (∀ i, (f i).natAbs ≤ F i) → (po_mul f g n).natAbs ≤ zb_cv n F G
  | 0, f, F, hf => zb_mm2 (hf 0) (hg 0)
  | n + 1, f, F, hf => by
    rw [po_mul_s, zb_cv]
    have h1 := zb_mm2 (hf 0) (hg (n + 1))
    have h2 := zb_cv_b hg n (po_sh f) (fun t => F (t + 1)) (fun i => hf (i + 1))
    omega
theorem rz_B_b {u v : po_P} {U V : Nat → Nat} (hu : ∀ i, (u i).natAbs ≤ U i) (hv : ∀ i, (v i).natAbs ≤ V i) (i j : Nat) : (rz_B u v i j).natAbs ≤ zb_cv j (fun t => U (t + (i + 1))) V + zb_cv j (fun t => V (t + (i + 1))) U := by
  have h1 := zb_cv_b hv j (rz_s (i + 1) u) (fun t => U (t + (i + 1))) (fun t => hu _)
  have h2 := zb_cv_b hu j (rz_s (i + 1) v) (fun t => V (t + (i + 1))) (fun t => hv _)
  show (po_mul _ _ j - po_mul _ _ j).natAbs ≤ _
  omega
def rz_U5 (t : Nat) : Nat := if t ≤ 4 then (t + 1) * 20 else 0
def rz_V5 (t : Nat) : Nat := (5 - t) * 20
def rz_e5 (i : Nat) : Nat := if i = 0 then 33600 else if i = 1 then 25600 else if i = 2 then 18400 else 10400
theorem rz_5 : ∀ i, i < 4 → ∀ j, j < 4 → zb_cv j (fun t => rz_U5 (t + (i + 1))) rz_V5 + zb_cv j (fun t => rz_V5 (t + (i + 1))) rz_U5 ≤ rz_e5 i := by decide +kernel
theorem rz_F5 {F : po_P} (hF : ∀ i, 5 < i → F i = 0) (hb : ∀ i, (F i).natAbs ≤ 20) : (rz_F 4 F).natAbs ≤ 3950405222400000000 := by
  have hu : ∀ i, (po_der F i).natAbs ≤ rz_U5 i := fun i => by
    simp only [rz_U5, po_der]
    by_cases h : i ≤ 4
    · rw [if_pos h, Int.natAbs_mul]
      exact Nat.mul_le_mul (by omega) (hb _)
    · rw [if_neg h, hF (i + 1) (by omega), Int.mul_zero]; decide
  have hv : ∀ i, (rz_v 5 F i).natAbs ≤ rz_V5 i := fun i => by
    simp only [rz_V5, rz_v]
    by_cases h : i ≤ 5
    · rw [Int.natAbs_mul]
      exact Nat.mul_le_mul (by omega) (hb _)
    · rw [hF i (by omega), Int.mul_zero]; exact Nat.zero_le _
  have M : ∀ i j, i < 4 → j < 4 → (rz_M 4 (po_der F) (rz_v 5 F) i j).natAbs ≤ rz_e5 i := fun i j hi hj => by
    rw [rz_M_B hj]
    exact Nat.le_trans (rz_B_b hu hv i j) (rz_5 i hi j hj)
  have := rz_d4_b (M 0 0 (by omega) (by omega)) (M 0 1 (by omega) (by omega)) (M 0 2 (by omega) (by omega)) (M 0 3 (by omega) (by omega)) (M 1 0 (by omega) (by omega)) (M 1 1 (by omega) (by omega)) (M 1 2 (by omega) (by omega)) (M 1 3 (by omega) (by omega)) (M 2 0 (by omega) (by omega)) (M 2 1 (by omega) (by omega)) (M 2 2 (by omega) (by omega)) (M 2 3 (by omega) (by omega)) (M 3 0 (by omega) (by omega)) (M 3 1 (by omega) (by omega)) (M 3 2 (by omega) (by omega)) (M 3 3 (by omega) (by omega))
  have e : 24 * (rz_e5 0 * rz_e5 1 * rz_e5 2 * rz_e5 3) = 3950405222400000000 := by decide +kernel
  rw [e] at this
  exact this
/-- degree at most 4, all coefficients at most B -/
theorem rz_F4 {n B : Nat} {F : po_P} (hn : n ≤ 3) (hF : ∀ i, n + 1 < i → F i = 0) (hb : ∀ i, (F i).natAbs ≤ B) (hB : 1 ≤ B) : (rz_F n F).natAbs ≤ 24 * ((128 * (B * B)) * (128 * (B * B)) * (128 * (B * B)) * 1) := by
  have hu : ∀ i, (po_der F i).natAbs ≤ (fun t => if t ≤ 3 then 4 * B else 0) i := fun i => by
    show _ ≤ if i ≤ 3 then 4 * B else 0
    simp only [po_der]
    by_cases h : i ≤ 3
    · rw [if_pos h, Int.natAbs_mul]
      exact Nat.mul_le_mul (by omega) (hb _)
    · rw [if_neg h, hF (i + 1) (by omega), Int.mul_zero]; decide
  have hv0 := rz_v_0 hF
  have hu0 : ∀ t, n < t → po_der F t = 0 := fun t ht => by simp only [po_der]; rw [hF (t + 1) (by omega), Int.mul_zero]
  have hv : ∀ i, (rz_v (n + 1) F i).natAbs ≤ (fun t => if t ≤ 3 then 4 * B else 0) i := fun i => by
    show _ ≤ if i ≤ 3 then 4 * B else 0
    by_cases h : i ≤ 3
    · rw [if_pos h]
      by_cases h' : n < i
      · rw [hv0 i h']; exact Nat.zero_le _
      · simp only [rz_v]
        rw [Int.natAbs_mul]
        exact Nat.mul_le_mul (by omega) (hb _)
    · rw [if_neg h, hv0 i (by omega)]; decide
  have cv : ∀ (j : Nat), j < 4 → ∀ F G : Nat → Nat, (∀ i, F i ≤ 4 * B) → (∀ i, G i ≤ 4 * B) → zb_cv j F G ≤ 64 * (B * B) := by
    intro j hj F G hF hG
    have p : ∀ a b, F a * G b ≤ 16 * (B * B) := fun a b => by
      have := Nat.mul_le_mul (hF a) (hG b)
      rwa [show 4 * B * (4 * B) = 16 * (B * B) by grind] at this
    match j, hj with
    | 0, _ => have := p 0 0; show F 0 * G 0 ≤ _; omega
    | 1, _ => have := p 0 1; have := p 1 0; show F 0 * G 1 + F 1 * G 0 ≤ _; omega
    | 2, _ => have := p 0 2; have := p 1 1; have := p 2 0; show F 0 * G 2 + (F 1 * G 1 + F 2 * G 0) ≤ _; omega
    | 3, _ => have := p 0 3; have := p 1 2; have := p 2 1; have := p 3 0; show F 0 * G 3 + (F 1 * G 2 + (F 2 * G 1 + F 3 * G 0)) ≤ _; omega
  have le : ∀ i, (fun t => if t ≤ 3 then 4 * B else 0) i ≤ 4 * B := fun i => by
    show (if i ≤ 3 then 4 * B else 0) ≤ _
    split <;> omega
  have BB : 1 ≤ B * B := Nat.mul_le_mul hB hB
  have M : ∀ i j, j < 4 → (rz_M n (po_der F) (rz_v (n + 1) F) i j).natAbs ≤ 128 * (B * B) := fun i j hj => by
    by_cases h : j < n
    · rw [rz_M_B h]
      have h1 := rz_B_b hu hv i j
      have h2 : zb_cv j (fun t => if t + (i + 1) ≤ 3 then 4 * B else 0) (fun t => if t ≤ 3 then 4 * B else 0) ≤ 64 * (B * B) := cv j hj _ _ (fun t => le (t + (i + 1))) le
      omega
    · rw [rz_M_I hu0 hv0 (by omega)]
      split <;> simp <;> omega
  have M3 : ∀ j, j < 4 → (rz_M n (po_der F) (rz_v (n + 1) F) 3 j).natAbs ≤ 1 := fun j hj => by
    simp only [rz_M]
    have : rz_B (po_der F) (rz_v (n + 1) F) 3 j = 0 := by
      have eu : rz_s (3 + 1) (po_der F) = fun _ => 0 := by funext t; exact hu0 _ (by omega)
      have ev : rz_s (3 + 1) (rz_v (n + 1) F) = fun _ => 0 := by funext t; exact hv0 _ (by omega)
      show po_mul (rz_s (3 + 1) _) _ j - po_mul (rz_s (3 + 1) _) _ j = 0
      rw [eu, ev, po_mul_zL, po_mul_zL]; rfl
    rw [this]
    split <;> simp
  exact rz_d4_b (M 0 0 (by omega)) (M 0 1 (by omega)) (M 0 2 (by omega)) (M 0 3 (by omega)) (M 1 0 (by omega)) (M 1 1 (by omega)) (M 1 2 (by omega)) (M 1 3 (by omega)) (M 2 0 (by omega)) (M 2 1 (by omega)) (M 2 2 (by omega)) (M 2 3 (by omega)) (M3 0 (by omega)) (M3 1 (by omega)) (M3 2 (by omega)) (M3 3 (by omega))
/-- the primes of the list together -/
def pm_pp : Nat → Nat
  | 0 => 1
  | k + 1 => pm_pp k * pm_L.getD k 0
theorem pm_pp_n : ∀ k, k < 29 → pm_pp k % pm_L.getD k 0 ≠ 0 := by decide +kernel
theorem pm_pp_v : pm_pp 29 = 15805027320208803894072603145771831246637343495 := by decide +kernel
theorem pm_all {N : Int} (h : ∀ k, k < 29 → ((pm_L.getD k 0 : Nat) : Int) ∣ N) : ∀ k, k ≤ 29 → ((pm_pp k : Nat) : Int) ∣ N
  | 0, _ => Int.one_dvd N
  | k + 1, hk => by
    obtain ⟨x, hx⟩ := pm_all h k (by omega)
    have h1 := h k (by omega)
    have pr := pm_L_prime (k := k) (by omega)
    rw [hx] at h1
    rcases (po_prime_dom pr).2 _ _ h1 with z | z
    · exfalso
      have := Int.ofNat_dvd.mp z
      exact pm_pp_n k (by omega) (Nat.mod_eq_zero_of_dvd this)
    · obtain ⟨y, hy⟩ := z
      exact ⟨y, by rw [hx, hy, pm_pp]; simp only [Int.natCast_mul]; grind⟩
theorem pm_big {N : Int} (h : ∀ k, k < 29 → ((pm_L.getD k 0 : Nat) : Int) ∣ N) (hN : N.natAbs < 15805027320208803894072603145771831246637343495) : N = 0 := by
  have := pm_all h 29 (by omega)
  rw [pm_pp_v] at this
  apply Classical.byContradiction
  intro z
  have := Int.natAbs_dvd_natAbs.mpr this
  have := Nat.le_of_dvd (by omega) this
  have e : (((15805027320208803894072603145771831246637343495 : Nat)) : Int).natAbs = 15805027320208803894072603145771831246637343495 := rfl
  omega
/-- a bad prime divides the leading coefficient or R -/
theorem pm_bad {p : Int} (hp : po_prime p) {L : po_P} {n : Nat} {R : Int} (hL : zp_t n L) (hR : po_cb p L (po_der L) (po_C R)) (h : fd_bad p L) : p ∣ L n * R := by
  rcases h with ⟨d, h1, h2, h3⟩ | ⟨g, k, h1, h2, h3, h4, h5⟩
  · have : d = n := zp_t_u ⟨h1, h2⟩ hL
    rw [this] at h3
    exact Int.dvd_mul_of_dvd_left h3
  · obtain ⟨_, _, g3, g4, _⟩ := h1
    have dv := po_dv_cb g3 g4 hR
    apply Classical.byContradiction
    intro z
    exact po_mo_n1 (fd_top_mo h4 h5) h2 (fun y => z (Int.dvd_mul_of_dvd_right y)) dv
end
section
/-! reversed polynomials; wrapping divisors -/
def rz_rv (d : Nat) (f : po_P) : po_P := fun i => if i ≤ d then f (d - i) else 0
theorem rz_rv_i {d i : Nat} {f : po_P} (h : i ≤ d) : rz_rv d f i = f (d - i) := if_pos h
theorem rz_rv_o {d i : Nat} {f : po_P} (h : d < i) : rz_rv d f i = 0 := if_neg (by omega)
theorem rz_rv_mul {s : po_P} {k : Nat} (hs : ∀ i, k < i → s i = 0) : ∀ (e : Nat) (T : po_P), (∀ i, e < i → T i = 0) → po_mul (rz_rv e T) (rz_rv k s) = rz_rv (e + k) (po_mul T s)
  | 0, T, hT => by
    have e1 : T = po_C (T 0) := by
      funext j; simp only [po_C]
      by_cases z : j = 0
      · rw [if_pos z, z]
      · rw [if_neg z]; exact hT j (by omega)
    have e2 : rz_rv 0 T = po_C (T 0) := by
      funext j; simp only [po_C]
      by_cases z : j = 0
      · rw [if_pos z, z]; rfl
      · rw [if_neg z]; exact rz_rv_o (by omega)
    funext i
    rw [e2, po_mul_C, Nat.zero_add]
    by_cases h : i ≤ k
    · rw [rz_rv_i h, rz_rv_i h]
      have : po_mul T s (k - i) = po_mul (po_C (T 0)) s (k - i) := by rw [← e1]
      rw [this, po_mul_C]
    · rw [rz_rv_o (by omega), rz_rv_o (by omega), Int.mul_zero]
  | e + 1, T, hT => by
    have ih := rz_rv_mul hs e (po_sh T) (fun i hi => hT (i + 1) (by omega))
    have sp : rz_rv (e + 1) T = po_add (po_X (e + 1) (T 0)) (rz_rv e (po_sh T)) := by
      funext j
      show _ = po_X (e + 1) (T 0) j + rz_rv e (po_sh T) j
      simp only [po_X]
      by_cases h : j ≤ e
      · rw [rz_rv_i (by omega), rz_rv_i h, if_neg (by omega)]
        show T (e + 1 - j) = 0 + T (e - j + 1)
        rw [show e + 1 - j = e - j + 1 by omega]; omega
      · rw [rz_rv_o (d := e) (by omega)]
        by_cases h2 : j = e + 1
        · rw [rz_rv_i (by omega), if_pos h2, h2, Nat.sub_self]; omega
        · rw [rz_rv_o (by omega), if_neg h2]; rfl
    funext i
    rw [sp, po_mul_addL, ih, po_mul_X]
    by_cases h : i ≤ e + k
    · rw [rz_rv_i h, rz_rv_i (d := e + 1 + k) (by omega), show e + 1 + k - i = (e + k - i) + 1 by omega, po_mul_s]
      by_cases h2 : e + 1 ≤ i
      · rw [if_pos h2, rz_rv_i (by omega), show k - (i - (e + 1)) = e + k - i + 1 by omega]
      · rw [if_neg h2, hs (e + k - i + 1) (by omega), Int.mul_zero]
    · rw [rz_rv_o (d := e + k) (by omega)]
      by_cases h2 : i = e + k + 1
      · rw [if_pos (by omega), rz_rv_i (by omega), rz_rv_i (by omega), show e + 1 + k - i = 0 by omega, po_mul_0, show k - (i - (e + 1)) = 0 by omega]; omega
      · rw [if_pos (by omega), rz_rv_o (by omega), rz_rv_o (by omega), Int.mul_zero]; rfl
theorem rz_rv_0 {d : Nat} {f : po_P} : ∀ t, d < t → rz_rv d f t = 0 := fun _ h => rz_rv_o h
theorem rz_rv_eq {N : Int} {d : Nat} {f g : po_P} (h : po_eq N f g) : po_eq N (rz_rv d f) (rz_rv d g) := fun i => by
  by_cases hi : i ≤ d
  · rw [rz_rv_i hi, rz_rv_i hi]; exact h _
  · rw [rz_rv_o (by omega), rz_rv_o (by omega)]; simp
theorem rz_rvB1 {u v : po_P} (hu : ∀ t, 1 < t → u t = 0) (hv : ∀ t, 1 < t → v t = 0) : rz_B (rz_rv 1 u) (rz_rv 1 v) 0 0 = - rz_B u v 0 0 := by
  have u2 := hu 2 (by omega)
  have v2 := hv 2 (by omega)
  simp [rz_B, po_sub, po_mul_s, po_mul_0, po_sh, rz_s, rz_rv, u2, v2]; try grind
theorem rz_rvB2 {u v : po_P} (hu : ∀ t, 2 < t → u t = 0) (hv : ∀ t, 2 < t → v t = 0) : rz_B (rz_rv 2 u) (rz_rv 2 v) 0 0 = - rz_B u v 1 1 ∧ rz_B (rz_rv 2 u) (rz_rv 2 v) 0 1 = - rz_B u v 1 0 ∧ rz_B (rz_rv 2 u) (rz_rv 2 v) 1 0 = - rz_B u v 0 1 ∧ rz_B (rz_rv 2 u) (rz_rv 2 v) 1 1 = - rz_B u v 0 0 := by
  have u3 := hu 3 (by omega)
  have v3 := hv 3 (by omega)
  have u4 := hu 4 (by omega)
  have v4 := hv 4 (by omega)
  refine ⟨?_, ?_, ?_, ?_⟩ <;> (simp [rz_B, po_sub, po_mul_s, po_mul_0, po_sh, rz_s, rz_rv, u3, v3, u4, v4]; try grind)
theorem rz_rvB3 {u v : po_P} (hu : ∀ t, 3 < t → u t = 0) (hv : ∀ t, 3 < t → v t = 0) : rz_B (rz_rv 3 u) (rz_rv 3 v) 0 0 = - rz_B u v 2 2 ∧ rz_B (rz_rv 3 u) (rz_rv 3 v) 0 1 = - rz_B u v 2 1 ∧ rz_B (rz_rv 3 u) (rz_rv 3 v) 0 2 = - rz_B u v 2 0 ∧ rz_B (rz_rv 3 u) (rz_rv 3 v) 1 0 = - rz_B u v 1 2 ∧ rz_B (rz_rv 3 u) (rz_rv 3 v) 1 1 = - rz_B u v 1 1 ∧ rz_B (rz_rv 3 u) (rz_rv 3 v) 1 2 = - rz_B u v 1 0 ∧ rz_B (rz_rv 3 u) (rz_rv 3 v) 2 0 = - rz_B u v 0 2 ∧ rz_B (rz_rv 3 u) (rz_rv 3 v) 2 1 = - rz_B u v 0 1 ∧ rz_B (rz_rv 3 u) (rz_rv 3 v) 2 2 = - rz_B u v 0 0 := by
  have u4 := hu 4 (by omega)
  have v4 := hv 4 (by omega)
  have u5 := hu 5 (by omega)
  have v5 := hv 5 (by omega)
  have u6 := hu 6 (by omega)
  have v6 := hv 6 (by omega)
  refine ⟨?_, ?_, ?_, ?_, ?_, ?_, ?_, ?_, ?_⟩ <;> (simp [rz_B, po_sub, po_mul_s, po_mul_0, po_sh, rz_s, rz_rv, u4, v4, u5, v5, u6, v6]; try grind)
theorem rz_rvB4 {u v : po_P} (hu : ∀ t, 4 < t → u t = 0) (hv : ∀ t, 4 < t → v t = 0) : rz_B (rz_rv 4 u) (rz_rv 4 v) 0 0 = - rz_B u v 3 3 ∧ rz_B (rz_rv 4 u) (rz_rv 4 v) 0 1 = - rz_B u v 3 2 ∧ rz_B (rz_rv 4 u) (rz_rv 4 v) 0 2 = - rz_B u v 3 1 ∧ rz_B (rz_rv 4 u) (rz_rv 4 v) 0 3 = - rz_B u v 3 0 ∧ rz_B (rz_rv 4 u) (rz_rv 4 v) 1 0 = - rz_B u v 2 3 ∧ rz_B (rz_rv 4 u) (rz_rv 4 v) 1 1 = - rz_B u v 2 2 ∧ rz_B (rz_rv 4 u) (rz_rv 4 v) 1 2 = - rz_B u v 2 1 ∧ rz_B (rz_rv 4 u) (rz_rv 4 v) 1 3 = - rz_B u v 2 0 ∧ rz_B (rz_rv 4 u) (rz_rv 4 v) 2 0 = - rz_B u v 1 3 ∧ rz_B (rz_rv 4 u) (rz_rv 4 v) 2 1 = - rz_B u v 1 2 ∧ rz_B (rz_rv 4 u) (rz_rv 4 v) 2 2 = - rz_B u v 1 1 ∧ rz_B (rz_rv 4 u) (rz_rv 4 v) 2 3 = - rz_B u v 1 0 ∧ rz_B (rz_rv 4 u) (rz_rv 4 v) 3 0 = - rz_B u v 0 3 ∧ rz_B (rz_rv 4 u) (rz_rv 4 v) 3 1 = - rz_B u v 0 2 ∧ rz_B (rz_rv 4 u) (rz_rv 4 v) 3 2 = - rz_B u v 0 1 ∧ rz_B (rz_rv 4 u) (rz_rv 4 v) 3 3 = - rz_B u v 0 0 := by
  have u5 := hu 5 (by omega)
  have v5 := hv 5 (by omega)
  have u6 := hu 6 (by omega)
  have v6 := hv 6 (by omega)
  have u7 := hu 7 (by omega)
  have v7 := hv 7 (by omega)
  have u8 := hu 8 (by omega)
  have v8 := hv 8 (by omega)
  refine ⟨?_, ?_, ?_, ?_, ?_, ?_, ?_, ?_, ?_, ?_, ?_, ?_, ?_, ?_, ?_, ?_⟩ <;> (simp [rz_B, po_sub, po_mul_s, po_mul_0, po_sh, rz_s, rz_rv, u5, v5, u6, v6, u7, v7, u8, v8]; try grind)
theorem rz_d4r1 (a0 : Int) : rz_d4 (-a0) 0 0 0 0 1 0 0 0 0 1 0 0 0 0 1 = - rz_d4 a0 0 0 0 0 1 0 0 0 0 1 0 0 0 0 1 := by simp only [rz_d4, rz_d3]; grind
theorem rz_d4r2 (a0 a1 b0 b1 : Int) : rz_d4 (-b1) (-b0) 0 0 (-a1) (-a0) 0 0 0 0 1 0 0 0 0 1 = rz_d4 a0 a1 0 0 b0 b1 0 0 0 0 1 0 0 0 0 1 := by simp only [rz_d4, rz_d3]; grind
theorem rz_d4r3 (a0 a1 a2 b0 b1 b2 c0 c1 c2 : Int) : rz_d4 (-c2) (-c1) (-c0) 0 (-b2) (-b1) (-b0) 0 (-a2) (-a1) (-a0) 0 0 0 0 1 = - rz_d4 a0 a1 a2 0 b0 b1 b2 0 c0 c1 c2 0 0 0 0 1 := by simp only [rz_d4, rz_d3]; grind
theorem rz_d4r4 (a0 a1 a2 a3 b0 b1 b2 b3 c0 c1 c2 c3 d0 d1 d2 d3 : Int) : rz_d4 (-d3) (-d2) (-d1) (-d0) (-c3) (-c2) (-c1) (-c0) (-b3) (-b2) (-b1) (-b0) (-a3) (-a2) (-a1) (-a0) = rz_d4 a0 a1 a2 a3 b0 b1 b2 b3 c0 c1 c2 c3 d0 d1 d2 d3 := by simp only [rz_d4, rz_d3]; grind
theorem rz_Rr1 {u v : po_P} (hu : ∀ t, 1 < t → u t = 0) (hv : ∀ t, 1 < t → v t = 0) : rz_R 1 (rz_rv 1 u) (rz_rv 1 v) = - rz_R 1 u v := by
  have h00 := rz_rvB1 hu hv
  simp only [rz_R]
  have I : ∀ (u v : po_P), (∀ t, 1 < t → u t = 0) → (∀ t, 1 < t → v t = 0) → ∀ i j, 1 ≤ i ∨ 1 ≤ j → rz_M 1 u v i j = if i = j then 1 else 0 := fun u v hu hv i j h => by
    by_cases hj : 1 ≤ j
    · exact rz_M_I hu hv hj
    · rw [rz_M_B (by omega), if_neg (by omega)]
      have eu : rz_s (i + 1) u = fun _ => 0 := by funext t; exact hu _ (by omega)
      have ev : rz_s (i + 1) v = fun _ => 0 := by funext t; exact hv _ (by omega)
      show po_mul (rz_s (i + 1) u) v j - po_mul (rz_s (i + 1) v) u j = 0
      rw [eu, ev, po_mul_zL, po_mul_zL]; rfl
  have J : ∀ (u v : po_P) (i j : Nat), j < 1 → rz_M 1 u v i j = rz_B u v i j := fun u v i j h => rz_M_B h
  rw [J (rz_rv 1 u) (rz_rv 1 v) 0 0 (by omega), h00, I (rz_rv 1 u) (rz_rv 1 v) rz_rv_0 rz_rv_0 0 1 (by omega), I (rz_rv 1 u) (rz_rv 1 v) rz_rv_0 rz_rv_0 0 2 (by omega), I (rz_rv 1 u) (rz_rv 1 v) rz_rv_0 rz_rv_0 0 3 (by omega), I (rz_rv 1 u) (rz_rv 1 v) rz_rv_0 rz_rv_0 1 0 (by omega), I (rz_rv 1 u) (rz_rv 1 v) rz_rv_0 rz_rv_0 1 1 (by omega), I (rz_rv 1 u) (rz_rv 1 v) rz_rv_0 rz_rv_0 1 2 (by omega), I (rz_rv 1 u) (rz_rv 1 v) rz_rv_0 rz_rv_0 1 3 (by omega), I (rz_rv 1 u) (rz_rv 1 v) rz_rv_0 rz_rv_0 2 0 (by omega), I (rz_rv 1 u) (rz_rv 1 v) rz_rv_0 rz_rv_0 2 1 (by omega), I (rz_rv 1 u) (rz_rv 1 v) rz_rv_0 rz_rv_0 2 2 (by omega), I (rz_rv 1 u) (rz_rv 1 v) rz_rv_0 rz_rv_0 2 3 (by omega), I (rz_rv 1 u) (rz_rv 1 v) rz_rv_0 rz_rv_0 3 0 (by omega), I (rz_rv 1 u) (rz_rv 1 v) rz_rv_0 rz_rv_0 3 1 (by omega), I (rz_rv 1 u) (rz_rv 1 v) rz_rv_0 rz_rv_0 3 2 (by omega), I (rz_rv 1 u) (rz_rv 1 v) rz_rv_0 rz_rv_0 3 3 (by omega), J u v 0 0 (by omega), I u v hu hv 0 1 (by omega), I u v hu hv 0 2 (by omega), I u v hu hv 0 3 (by omega), I u v hu hv 1 0 (by omega), I u v hu hv 1 1 (by omega), I u v hu hv 1 2 (by omega), I u v hu hv 1 3 (by omega), I u v hu hv 2 0 (by omega), I u v hu hv 2 1 (by omega), I u v hu hv 2 2 (by omega), I u v hu hv 2 3 (by omega), I u v hu hv 3 0 (by omega), I u v hu hv 3 1 (by omega), I u v hu hv 3 2 (by omega), I u v hu hv 3 3 (by omega)]
  exact rz_d4r1 _
theorem rz_Rr2 {u v : po_P} (hu : ∀ t, 2 < t → u t = 0) (hv : ∀ t, 2 < t → v t = 0) : rz_R 2 (rz_rv 2 u) (rz_rv 2 v) = rz_R 2 u v := by
  obtain ⟨h00, h01, h10, h11⟩ := rz_rvB2 hu hv
  simp only [rz_R]
  have I : ∀ (u v : po_P), (∀ t, 2 < t → u t = 0) → (∀ t, 2 < t → v t = 0) → ∀ i j, 2 ≤ i ∨ 2 ≤ j → rz_M 2 u v i j = if i = j then 1 else 0 := fun u v hu hv i j h => by
    by_cases hj : 2 ≤ j
    · exact rz_M_I hu hv hj
    · rw [rz_M_B (by omega), if_neg (by omega)]
      have eu : rz_s (i + 1) u = fun _ => 0 := by funext t; exact hu _ (by omega)
      have ev : rz_s (i + 1) v = fun _ => 0 := by funext t; exact hv _ (by omega)
      show po_mul (rz_s (i + 1) u) v j - po_mul (rz_s (i + 1) v) u j = 0
      rw [eu, ev, po_mul_zL, po_mul_zL]; rfl
  have J : ∀ (u v : po_P) (i j : Nat), j < 2 → rz_M 2 u v i j = rz_B u v i j := fun u v i j h => rz_M_B h
  rw [J (rz_rv 2 u) (rz_rv 2 v) 0 0 (by omega), h00, J (rz_rv 2 u) (rz_rv 2 v) 0 1 (by omega), h01, I (rz_rv 2 u) (rz_rv 2 v) rz_rv_0 rz_rv_0 0 2 (by omega), I (rz_rv 2 u) (rz_rv 2 v) rz_rv_0 rz_rv_0 0 3 (by omega), J (rz_rv 2 u) (rz_rv 2 v) 1 0 (by omega), h10, J (rz_rv 2 u) (rz_rv 2 v) 1 1 (by omega), h11, I (rz_rv 2 u) (rz_rv 2 v) rz_rv_0 rz_rv_0 1 2 (by omega), I (rz_rv 2 u) (rz_rv 2 v) rz_rv_0 rz_rv_0 1 3 (by omega), I (rz_rv 2 u) (rz_rv 2 v) rz_rv_0 rz_rv_0 2 0 (by omega), I (rz_rv 2 u) (rz_rv 2 v) rz_rv_0 rz_rv_0 2 1 (by omega), I (rz_rv 2 u) (rz_rv 2 v) rz_rv_0 rz_rv_0 2 2 (by omega), I (rz_rv 2 u) (rz_rv 2 v) rz_rv_0 rz_rv_0 2 3 (by omega), I (rz_rv 2 u) (rz_rv 2 v) rz_rv_0 rz_rv_0 3 0 (by omega), I (rz_rv 2 u) (rz_rv 2 v) rz_rv_0 rz_rv_0 3 1 (by omega), I (rz_rv 2 u) (rz_rv 2 v) rz_rv_0 rz_rv_0 3 2 (by omega), I (rz_rv 2 u) (rz_rv 2 v) rz_rv_0 rz_rv_0 3 3 (by omega), J u v 0 0 (by omega), J u v 0 1 (by omega), I u v hu hv 0 2 (by omega), I u v hu hv 0 3 (by omega), J u v 1 0 (by omega), J u v 1 1 (by omega), I u v hu hv 1 2 (by omega), I u v hu hv 1 3 (by omega), I u v hu hv 2 0 (by omega), I u v hu hv 2 1 (by omega), I u v hu hv 2 2 (by omega), I u v hu hv 2 3 (by omega), I u v hu hv 3 0 (by omega), I u v hu hv 3 1 (by omega), I u v hu hv 3 2 (by omega), I u v hu hv 3 3 (by omega)]
  exact rz_d4r2 _ _ _ _
theorem rz_Rr3 {u v : po_P} (hu : ∀ t, 3 < t → u t = 0) (hv : ∀ t, 3 < t → v t = 0) : rz_R 3 (rz_rv 3 u) (rz_rv 3 v) = - rz_R 3 u v := by
  obtain ⟨h00, h01, h02, h10, h11, h12, h20, h21, h22⟩ := rz_rvB3 hu hv
  simp only [rz_R]
  have I : ∀ (u v : po_P), (∀ t, 3 < t → u t = 0) → (∀ t, 3 < t → v t = 0) → ∀ i j, 3 ≤ i ∨ 3 ≤ j → rz_M 3 u v i j = if i = j then 1 else 0 := fun u v hu hv i j h => by
    by_cases hj : 3 ≤ j
    · exact rz_M_I hu hv hj
    · rw [rz_M_B (by omega), if_neg (by omega)]
      have eu : rz_s (i + 1) u = fun _ => 0 := by funext t; exact hu _ (by omega)
      have ev : rz_s (i + 1) v = fun _ => 0 := by funext t; exact hv _ (by omega)
      show po_mul (rz_s (i + 1) u) v j - po_mul (rz_s (i + 1) v) u j = 0
      rw [eu, ev, po_mul_zL, po_mul_zL]; rfl
  have J : ∀ (u v : po_P) (i j : Nat), j < 3 → rz_M 3 u v i j = rz_B u v i j := fun u v i j h => rz_M_B h
  rw [J (rz_rv 3 u) (rz_rv 3 v) 0 0 (by omega), h00, J (rz_rv 3 u) (rz_rv 3 v) 0 1 (by omega), h01, J (rz_rv 3 u) (rz_rv 3 v) 0 2 (by omega), h02, I (rz_rv 3 u) (rz_rv 3 v) rz_rv_0 rz_rv_0 0 3 (by omega), J (rz_rv 3 u) (rz_rv 3 v) 1 0 (by omega), h10, J (rz_rv 3 u) (rz_rv 3 v) 1 1 (by omega), h11, J (rz_rv 3 u) (rz_rv 3 v) 1 2 (by omega), h12, I (rz_rv 3 u) (rz_rv 3 v) rz_rv_0 rz_rv_0 1 3 (by omega), J (rz_rv 3 u) (rz_rv 3 v) 2 0 (by omega), h20, J (rz_rv 3 u) (rz_rv 3 v) 2 1 (by omega), h21, J (rz_rv 3 u) (rz_rv 3 v) 2 2 (by omega), h22, I (rz_rv 3 u) (rz_rv 3 v) rz_rv_0 rz_rv_0 2 3 (by omega), I (rz_rv 3 u) (rz_rv 3 v) rz_rv_0 rz_rv_0 3 0 (by omega), I (rz_rv 3 u) (rz_rv 3 v) rz_rv_0 rz_rv_0 3 1 (by omega), I (rz_rv 3 u) (rz_rv 3 v) rz_rv_0 rz_rv_0 3 2 (by omega), I (rz_rv 3 u) (rz_rv 3 v) rz_rv_0 rz_rv_0 3 3 (by omega), J u v 0 0 (by omega), J u v 0 1 (by omega), J u v 0 2 (by omega), I u v hu hv 0 3 (by omega), J u v 1 0 (by omega), J u v 1 1 (by omega), J u v 1 2 (by omega), I u v hu hv 1 3 (by omega), J u v 2 0 (by omega), J u v 2 1 (by omega), J u v 2 2 (by omega), I u v hu hv 2 3 (by omega), I u v hu hv 3 0 (by omega), I u v hu hv 3 1 (by omega), I u v hu hv 3 2 (by omega), I u v hu hv 3 3 (by omega)]
  exact rz_d4r3 _ _ _ _ _ _ _ _ _
theorem rz_Rr4 {u v : po_P} (hu : ∀ t, 4 < t → u t = 0) (hv : ∀ t, 4 < t → v t = 0) : rz_R 4 (rz_rv 4 u) (rz_rv 4 v) = rz_R 4 u v := by
  obtain ⟨h00, h01, h02, h03, h10, h11, h12, h13, h20, h21, h22, h23, h30, h31, h32, h33⟩ := rz_rvB4 hu hv
  simp only [rz_R]
  have I : ∀ (u v : po_P), (∀ t, 4 < t → u t = 0) → (∀ t, 4 < t → v t = 0) → ∀ i j, 4 ≤ i ∨ 4 ≤ j → rz_M 4 u v i j = if i = j then 1 else 0 := fun u v hu hv i j h => by
    by_cases hj : 4 ≤ j
    · exact rz_M_I hu hv hj
    · rw [rz_M_B (by omega), if_neg (by omega)]
      have eu : rz_s (i + 1) u = fun _ => 0 := by funext t; exact hu _ (by omega)
      have ev : rz_s (i + 1) v = fun _ => 0 := by funext t; exact hv _ (by omega)
      show po_mul (rz_s (i + 1) u) v j - po_mul (rz_s (i + 1) v) u j = 0
      rw [eu, ev, po_mul_zL, po_mul_zL]; rfl
  have J : ∀ (u v : po_P) (i j : Nat), j < 4 → rz_M 4 u v i j = rz_B u v i j := fun u v i j h => rz_M_B h
  rw [J (rz_rv 4 u) (rz_rv 4 v) 0 0 (by omega), h00, J (rz_rv 4 u) (rz_rv 4 v) 0 1 (by omega), h01, J (rz_rv 4 u) (rz_rv 4 v) 0 2 (by omega), h02, J (rz_rv 4 u) (rz_rv 4 v) 0 3 (by omega), h03, J (rz_rv 4 u) (rz_rv 4 v) 1 0 (by omega), h10, J (rz_rv 4 u) (rz_rv 4 v) 1 1 (by omega), h11, J (rz_rv 4 u) (rz_rv 4 v) 1 2 (by omega), h12, J (rz_rv 4 u) (rz_rv 4 v) 1 3 (by omega), h13, J (rz_rv 4 u) (rz_rv 4 v) 2 0 (by omega), h20, J (rz_rv 4 u) (rz_rv 4 v) 2 1 (by omega), h21, J (rz_rv 4 u) (rz_rv 4 v) 2 2 (by omega), h22, J (rz_rv 4 u) (rz_rv 4 v) 2 3 (by omega), h23, J (rz_rv 4 u) (rz_rv 4 v) 3 0 (by omega), h30, J (rz_rv 4 u) (rz_rv 4 v) 3 1 (by omega), h31, J (rz_rv 4 u) (rz_rv 4 v) 3 2 (by omega), h32, J (rz_rv 4 u) (rz_rv 4 v) 3 3 (by omega), h33, J u v 0 0 (by omega), J u v 0 1 (by omega), J u v 0 2 (by omega), J u v 0 3 (by omega), J u v 1 0 (by omega), J u v 1 1 (by omega), J u v 1 2 (by omega), J u v 1 3 (by omega), J u v 2 0 (by omega), J u v 2 1 (by omega), J u v 2 2 (by omega), J u v 2 3 (by omega), J u v 3 0 (by omega), J u v 3 1 (by omega), J u v 3 2 (by omega), J u v 3 3 (by omega)]
  exact rz_d4r4 _ _ _ _ _ _ _ _ _ _ _ _ _ _ _ _
theorem rz_R_rv {m : Nat} {u v : po_P} (hm : 1 ≤ m) (hm4 : m ≤ 4) (hu : ∀ t, m < t → u t = 0) (hv : ∀ t, m < t → v t = 0) : rz_R m (rz_rv m u) (rz_rv m v) = rz_R m u v ∨ rz_R m (rz_rv m u) (rz_rv m v) = - rz_R m u v := by
  match m, hm, hm4, hu, hv with
  | 1, _, _, hu, hv => exact Or.inr (rz_Rr1 hu hv)
  | 2, _, _, hu, hv => exact Or.inl (rz_Rr2 hu hv)
  | 3, _, _, hu, hv => exact Or.inr (rz_Rr3 hu hv)
  | 4, _, _, hu, hv => exact Or.inl (rz_Rr4 hu hv)
  | m + 5, _, h, _, _ => omega
end
section
/-! a wrapping common divisor of F and F' forces R to be 0 modulo 2^64 -/
theorem pm_two : po_prime 2 := pm_prime (p := 2) (by decide) 0 (by decide) (by decide)
theorem rz_half {f : po_P} (h : ∀ i, (2 : Int) ∣ f i) : f = po_mul (po_C 2) (fun i => f i / 2) := by
  funext i; rw [po_mul_C]; exact (Int.mul_ediv_cancel' (h i)).symm
theorem rz_W2 {T : po_P} (hT : ∃ i, 1 ≤ i ∧ ¬ (2 : Int) ∣ T i) (fT : po_fin 0 T) : ∀ (k : Nat) (w : po_P) (R : Int), po_fin 0 w → po_eq (2 ^ k) (po_mul T w) (po_C R) → (2 : Int) ^ k ∣ R
  | 0, w, R, _, _ => Int.one_dvd R
  | k + 1, w, R, fw, h => by
    have dm := po_prime_dom pm_two
    obtain ⟨i0, hi1, hi2⟩ := hT
    have p2 : (2 : Int) ∣ 2 ^ (k + 1) := ⟨2 ^ k, by rw [Int.pow_succ, Int.mul_comm]⟩
    have h2 := po_eq_dvd p2 h
    obtain ⟨n, hn⟩ := zp_fin_m (m := 2) fT
    obtain ⟨d, hd⟩ := po_tp_ex n hn ⟨i0, hi2⟩
    have d1 : 1 ≤ d := Classical.byContradiction (fun z => hi2 (hd.1 i0 (by omega)))
    have w2 : ∀ i, (2 : Int) ∣ w i := fun i => Classical.byContradiction (fun z => by
      obtain ⟨n', hn'⟩ := zp_fin_m (m := 2) fw
      obtain ⟨b, hb⟩ := po_tp_ex n' hn' ⟨i, z⟩
      have t := po_tp_mul dm hd hb
      have := (po_eq_i h2 (d + b)).mpr (by simp only [po_C]; rw [if_neg (by omega)]; exact Int.dvd_zero _)
      exact t.2 this)
    have ew := rz_half w2
    have r2 : (2 : Int) ∣ R := by
      have h0 := (po_eq_i h2 0).mp (by rw [po_mul_0]; exact Int.dvd_mul_of_dvd_right (w2 0))
      simpa [po_C] using h0
    obtain ⟨R', hR'⟩ := r2
    have fw' : po_fin 0 (fun i => w i / 2) := by
      obtain ⟨n', hn'⟩ := zp_fin fw
      exact ⟨n', fun i hi => by show (0 : Int) ∣ w i / 2; rw [hn' i hi]; exact Int.dvd_refl 0⟩
    have h3 : po_eq (2 ^ k) (po_mul T (fun i => w i / 2)) (po_C R') := fun i => by
      have h4 := h i
      have e1 : po_mul T w i = 2 * po_mul T (fun i => w i / 2) i := by
        have : po_mul T w = po_mul (po_C 2) (po_mul T (fun i => w i / 2)) := by rw [← zp_mula, zp_mulc (po_C 2), zp_mula, ← ew]
        rw [this, po_mul_C]
      have e2 : po_C R i = 2 * po_C R' i := by simp only [po_C]; split <;> omega
      rw [e1, e2, ← Int.mul_sub, Int.pow_succ, Int.mul_comm] at h4
      exact Int.dvd_of_mul_dvd_mul_left (by decide) h4
    obtain ⟨x, hx⟩ := rz_W2 ⟨i0, hi1, hi2⟩ fT k _ R' fw' h3
    exact ⟨x, by rw [hR', hx, Int.pow_succ]; grind⟩
theorem ga_w1 {R : Type} [Lean.Grind.CommRing R] {N u v T s s' x y U V c : R} (hu : u = T * s + N * x) (hv : v = T * s' + N * y) (h : U * v - V * u = c) : T * (U * s' - V * s) = c + N * (V * x - U * y) := by grind
theorem rz_W1 {m : Nat} {u v T s s' : po_P} (hm : 1 ≤ m) (hm4 : m ≤ 4) (hu : ∀ t, m < t → u t = 0) (hv : ∀ t, m < t → v t = 0) (fT : po_fin 0 T) (fs : po_fin 0 s) (fs' : po_fin 0 s') (eu : po_eq (2 ^ 64) u (po_mul T s)) (ev : po_eq (2 ^ 64) v (po_mul T s')) (hT : ∃ i, 1 ≤ i ∧ ¬ (2 : Int) ∣ T i) : (2 : Int) ^ 64 ∣ rz_R m u v := by
  obtain ⟨U, V, f1, f2, e⟩ := rz_R_cb hm hm4 hu hv
  obtain ⟨x, hx⟩ := po_eq_ex eu
  obtain ⟨y, hy⟩ := po_eq_ex ev
  have F1 : po_fin 0 U := po_fin_0 f1
  have F2 : po_fin 0 V := po_fin_0 f2
  exact rz_W2 hT fT 64 _ _ (po_fin_sub (po_fin_mul F1 fs') (po_fin_mul F2 fs)) (po_ex_eq (@ga_w1 po_P po_ring _ _ _ _ _ _ _ _ _ _ _ hx hy e))
theorem rz_W {m e : Nat} {u v T s s' : po_P} (hm4 : m ≤ 4) (he : 1 ≤ e) (hem : e ≤ m) (hu : ∀ t, m < t → u t = 0) (hv : ∀ t, m < t → v t = 0) (hT : ∀ i, e < i → T i = 0) (hp : zp_pr T) (hs : ∀ i, m < i + e → s i = 0) (hs' : ∀ i, m < i + e → s' i = 0) (eu : po_eq (2 ^ 64) u (po_mul T s)) (ev : po_eq (2 ^ 64) v (po_mul T s')) : (2 : Int) ^ 64 ∣ rz_R m u v := by
  have fT : po_fin 0 T := po_fin_0 (n := e + 1) (fun i hi => hT i (by omega))
  have fs : po_fin 0 s := po_fin_0 (n := m + 1) (fun i hi => hs i (by omega))
  have fs' : po_fin 0 s' := po_fin_0 (n := m + 1) (fun i hi => hs' i (by omega))
  by_cases h : ∃ i, 1 ≤ i ∧ ¬ (2 : Int) ∣ T i
  · exact rz_W1 (by omega) hm4 hu hv fT fs fs' eu ev h
  · have h0 : ¬ (2 : Int) ∣ T 0 := fun z => by
      have := hp 2 (fun i => by
        cases i with
        | zero => exact z
        | succ i => exact Classical.byContradiction (fun y => h ⟨i + 1, by omega, y⟩))
      exact (po_prime_dom pm_two).1 this
    have mul : ∀ q : po_P, (∀ i, m < i + e → q i = 0) → rz_rv m (po_mul T q) = po_mul (rz_rv e T) (rz_rv (m - e) q) := fun q hq => by
      rw [rz_rv_mul (k := m - e) (fun i hi => hq i (by omega)) e T hT, show e + (m - e) = m by omega]
    have eu' := rz_rv_eq (d := m) eu
    have ev' := rz_rv_eq (d := m) ev
    rw [mul s hs] at eu'
    rw [mul s' hs'] at ev'
    have fr : ∀ (d : Nat) (f : po_P), po_fin 0 (rz_rv d f) := fun d f => po_fin_0 (n := d + 1) (fun i hi => rz_rv_o (by omega))
    have R := rz_W1 (by omega) hm4 rz_rv_0 rz_rv_0 (fr _ _) (fr _ _) (fr _ _) eu' ev' ⟨e, he, by rw [rz_rv_i (Nat.le_refl e), Nat.sub_self]; exact h0⟩
    rcases rz_R_rv (by omega) hm4 hu hv with z | z
    · rw [z] at R; exact R
    · rw [z] at R; exact Int.dvd_neg.mp R
theorem rz_in {x y : Int} (h : (18446744073709551616 : Int) ∣ x - y) (hx : -9223372036854775808 ≤ x ∧ x < 9223372036854775808) (hy : -9223372036854775808 ≤ y ∧ y < 9223372036854775808) : x = y := by omega
theorem ga_w2 {R : Type} [Lean.Grind.CommRing R] {N n F q T x c B s y X v u : R} (h : n * F = v + X * u) (hF : F = q * T + N * x) (hB : B = s * T + N * y) (hu : u = c * B) : u = T * (c * s) + N * (c * y) ∧ v = T * (n * q - X * (c * s)) + N * (n * x - X * (c * y)) := by
  constructor <;> grind
/-- T divides F and its derivative as wrapping numbers -/
theorem rz_WF {n e : Nat} {F B T : po_P} {c : Int} (hn4 : n ≤ 4) (hF : zp_t (n + 1) F) (hb : ∀ i, (F i).natAbs ≤ 20) (hB : ∀ i, po_der F i = c * B i) (he : 1 ≤ e) (hp : zp_n e T) (h1 : fd_D F T) (h2 : fd_D B T) : (2 : Int) ^ 64 ∣ rz_F n F := by
  obtain ⟨q, e1, t1, t2, q1, q2, q3⟩ := h1
  obtain ⟨s, e2, t3, t4, s1, s2, s3⟩ := h2
  have x1 : e1 = e := zp_t_u ⟨by omega, t2⟩ (zp_n_t hp)
  have x2 : e2 = e := zp_t_u ⟨by omega, t4⟩ (zp_n_t hp)
  subst x1
  subst x2
  have uF := zp_der_t hF
  have c0 : c ≠ 0 := fun z => uF.1 (by rw [hB n, z, Int.zero_mul])
  have db : ∀ i, (po_der F i).natAbs ≤ 100 := fun i => by
    simp only [po_der]
    by_cases h : i ≤ 4
    · rw [Int.natAbs_mul]
      have := Nat.mul_le_mul (show ((i : Int) + 1).natAbs ≤ 5 by omega) (hb (i + 1))
      omega
    · rw [hF.2 (i + 1) (by omega), Int.mul_zero]; decide
  have Bb : ∀ i, (B i).natAbs ≤ 100 := fun i => zb_abs (x := B i) (y := c) (by rw [hB i]; exact Int.mul_comm _ _) c0 (db i)
  have B0 : ∀ i, n < i → B i = 0 := fun i hi => by
    have := uF.2 i hi
    rw [hB i] at this
    exact (Int.mul_eq_zero.mp this).resolve_left c0
  have Bn : B n ≠ 0 := fun z => uF.1 (by rw [hB n, z, Int.mul_zero])
  have q0 := q3 (n + 1) hF.2
  have s0 := s3 n B0
  have hen : e2 ≤ n := Classical.byContradiction (fun z => by
    have : po_mul s T n = 0 := by
      have : s = fun _ => 0 := by funext i; exact s0 i (by omega)
      rw [this, po_mul_zL]
    have h5 := s1 n
    rw [this] at h5
    have := Bb n
    exact Bn (rz_in h5 (by omega) (by omega)))
  have top : ∀ (a D : Nat) (A q : po_P), (∀ i, D < i + e2 → q i = 0) → a + e2 = D → po_mul q T D = q a * T e2 := fun a D A q hq ha => by
    have := (zp_top (d := a) (e := e2) (f := q) (g := T) (fun i hi => hq i (by omega)) t4).1
    rw [← ha]; exact this
  have g1 : T e2 * q (n + 1 - e2) = F (n + 1) := by
    have h5 := q1 (n + 1)
    rw [top (n + 1 - e2) (n + 1) F q q0 (by omega), Int.mul_comm] at h5
    have := hb (n + 1)
    exact (rz_in h5 (by omega) (q2 _)).symm
  have g2 : T e2 * s (n - e2) = B n := by
    have h5 := s1 n
    rw [top (n - e2) n B s s0 (by omega), Int.mul_comm] at h5
    have := Bb n
    exact (rz_in h5 (by omega) (s2 _)).symm
  obtain ⟨x, hx⟩ := po_eq_ex q1
  obtain ⟨y, hy⟩ := po_eq_ex s1
  have hu : po_der F = po_mul (po_C c) B := by funext i; rw [po_mul_C]; exact hB i
  obtain ⟨k1, k2⟩ := @ga_w2 po_P po_ring _ _ _ _ _ _ _ _ _ _ _ _ _ (rz_v_e (n + 1) F) hx hy hu
  have key : c * s (n - e2) = ((n + 1 : Nat) : Int) * q (n + 1 - e2) := by
    have h5 := hB n
    simp only [po_der] at h5
    rw [← g1, ← g2] at h5
    have h6 : T e2 * (((n + 1 : Nat) : Int) * q (n + 1 - e2)) = T e2 * (c * s (n - e2)) := by
      have : (((n + 1 : Nat) : Int)) = (n : Int) + 1 := by omega
      rw [this]
      have : T e2 * (((n : Int) + 1) * q (n + 1 - e2)) = ((n : Int) + 1) * (T e2 * q (n + 1 - e2)) := by grind
      rw [this, h5]; grind
    exact (Int.eq_of_mul_eq_mul_left (by omega) h6).symm
  refine rz_W (e := e2) (T := T) (s := po_mul (po_C c) s) (s' := po_sub (po_mul (po_C ((n + 1 : Nat) : Int)) q) (po_mul (po_X 1 1) (po_mul (po_C c) s))) hn4 he hen uF.2 (rz_v_0 hF.2) t4 hp.1 (fun i hi => by rw [po_mul_C, s0 i hi, Int.mul_zero]) (fun i hi => ?_) (po_ex_eq k1) (po_ex_eq k2)
  show po_mul _ q i - po_mul _ _ i = 0
  rw [po_mul_C, po_mul_X]
  by_cases h5 : n + 1 < i + e2
  · rw [q0 i h5, if_pos (by omega), po_mul_C, s0 (i - 1) (by omega)]; omega
  · have h6 : i = n + 1 - e2 := by omega
    rw [h6, if_pos (by omega), po_mul_C, show n + 1 - e2 - 1 = n - e2 by omega, key]; omega
end
section
/-! what a try with a great prime gives when the prime is good -/
def zp_cb (r : Int) (A B : po_P) : Prop := ∃ U V : po_P, po_fin 0 U ∧ po_fin 0 V ∧ po_add (po_mul U A) (po_mul V B) = po_C r
theorem zp_cb_p {r : Int} {A B : po_P} (p : Int) (h : zp_cb r A B) : po_cb p A B (po_C r) := by
  obtain ⟨U, V, f1, f2, e⟩ := h
  exact ⟨U, V, zp_fin_m f1, zp_fin_m f2, po_eq_e e.symm⟩
theorem zp_cb_c {r : Int} {A B : po_P} (h : zp_cb r A B) (hr : r ≠ 0) : zp_cop A B := by
  obtain ⟨U, V, f1, f2, e⟩ := h
  exact ⟨U, V, r, hr, f1, f2, e⟩
theorem nz_mul {p : Int} {f g : po_P} {d : Nat} (h : po_tp p d (po_mul f g)) (ff : po_fin p f) (fg : po_fin p g) : (∃ a, po_tp p a f) ∧ ∃ b, po_tp p b g := by
  obtain ⟨n1, h1⟩ := ff
  obtain ⟨n2, h2⟩ := fg
  constructor
  · exact po_tp_ex n1 h1 (Classical.byContradiction (fun z => h.2 (po_mul_dv _ f (fun i => Classical.byContradiction (fun y => z ⟨i, y⟩)))))
  · refine po_tp_ex n2 h2 (Classical.byContradiction (fun z => h.2 ?_))
    rw [po_mul_comm]
    exact po_mul_dv _ g (fun i => Classical.byContradiction (fun y => z ⟨i, y⟩))
theorem nz_deg {p : Int} (hp : po_dom p) {f g : po_P} {a d : Nat} (hg : po_tp p a g) (hf : po_tp p d f) (h : po_dv p g f) : a ≤ d := by
  obtain ⟨q, fq, e⟩ := h
  have t := po_tp_eq e hf
  obtain ⟨_, b, hb⟩ := nz_mul t (po_tp_fin hg) fq
  have := po_tp_u (po_tp_mul hp hg hb) t
  omega
/-- a monic polynomial and another one that divide each other -/
theorem nz_assoc {p : Int} (hp : po_prime p) {γ G : po_P} {d g : Nat} (hγ : po_mo p d γ) (hG : po_tp p g G) (h1 : po_dv p γ G) (h2 : po_dv p G γ) : d = g ∧ po_eq p G (po_mul (po_C (G g)) γ) := by
  have dom := po_prime_dom hp
  have tγ := po_mo_tp dom.1 hγ
  have a := nz_deg dom tγ hG h1
  have b := nz_deg dom hG tγ h2
  have e : d = g := by omega
  subst e
  refine ⟨rfl, ?_⟩
  have dv : po_dv p γ (po_sub G (po_mul (po_C (G d)) γ)) := po_dv_sub h1 (po_dv_mulL _ (po_fin_C _ _) (po_dv_r p γ))
  have := po_mo_lt hγ dv (fun i hi => by
    show p ∣ G i - po_mul _ _ i
    rw [po_mul_C]
    by_cases z : i = d
    · rw [z]
      have := Int.dvd_mul_of_dvd_right (b := - G d) hγ.2
      rwa [show - G d * (γ d - 1) = G d - G d * γ d by grind] at this
    · exact Int.dvd_sub (hG.1 i (by omega)) (Int.dvd_mul_of_dvd_right (hγ.1 i (by omega))))
  exact this
theorem nz_cn {p x y : Int} (hp : 0 < p) (h : p ∣ x - y) (h1 : -p < 2 * y) (h2 : 2 * y ≤ p) : (if 2 * (x % p) ≤ p then x % p else x % p - p) = y := by
  have e : x % p = y % p := Int.emod_eq_emod_iff_emod_sub_eq_zero.mpr (Int.emod_eq_zero_of_dvd h)
  rw [e]
  by_cases z : 0 ≤ y
  · rw [Int.emod_eq_of_lt z (by omega), if_pos h2]
  · have : y % p = y + p := by
      have h3 : (y + p) % p = y % p := Int.add_emod_right y p
      rw [← h3, Int.emod_eq_of_lt (by omega) (by omega)]
    rw [this, if_neg (by omega)]; omega
theorem ga_tg {R : Type} [Lean.Grind.CommRing R] {U V F D r G : R} (h : U * F + V * D = r) : r * G = U * (G * F) + V * (G * D) := by grind
theorem ga_ti {R : Type} [Lean.Grind.CommRing R] {p x q y r G γ o : R} (h : r * G = γ * q + p * x) (k : r * o = 1 + p * y) : G = γ * (o * q) + p * (o * x - y * G) := by grind
theorem fd_try_G {p : Int} (hp : po_prime p) (hp3 : 10000000 ≤ p) {W B G F D T : po_P} {g : Nat} (hG : zp_n g G) (hW : W = po_mul G F) (hB : B = po_mul G D) (fF : po_fin 0 F) (fD : po_fin 0 D) {r : Int} (hr : zp_cb r F D) (hpr : ¬ p ∣ r) (hbG : ∀ i, (G i).natAbs ≤ 60000) (hb : ∀ i, (W i).natAbs ≤ 20) (h : fd_try p W B T) : T = G := by
  obtain ⟨γ, la, ⟨γrd, γcb, γW, γB, γm⟩, ⟨d1, d2, w1, w2, b1, b2, hla⟩, hpp⟩ := h
  have dom := po_prime_dom hp
  have p1 := hp.1
  have small : ∀ x : Int, x ≠ 0 → x.natAbs ≤ 60000 → ¬ p ∣ x := fun x x0 hx z => by
    have := Int.natAbs_dvd_natAbs.mpr z
    have := Nat.le_of_dvd (by omega) this
    omega
  have γn : ∃ d, d < 12 ∧ γ d = 1 ∧ ∀ i, d < i → γ i = 0 := by
    rcases γm with z | z
    · exfalso
      obtain ⟨q, _, e⟩ := γW
      have h1 := e d1
      have : γ = fun _ => 0 := by funext i; exact z i
      rw [this, po_mul_zL, Int.sub_zero] at h1
      have := hb d1
      exact small _ w1 (by omega) h1
    · exact z
  obtain ⟨d, _, γ1, γ2⟩ := γn
  have hγ : po_mo p d γ := fd_top_mo γ1 γ2
  have lead := hb d1
  have gpos := hG.2.1
  have tG : po_tp p g G := ⟨fun i hi => by rw [hG.2.2 i (by omega)]; exact Int.dvd_zero p, small _ (by omega) (hbG g)⟩
  have dvG : po_dv p G γ := po_dv_cb ⟨F, zp_fin_m fF, po_eq_e hW⟩ ⟨D, zp_fin_m fD, po_eq_e hB⟩ γcb
  have dvγ : po_dv p γ G := by
    obtain ⟨U, V, f1, f2, e⟩ := hr
    have cb : po_cb p W B (po_mul (po_C r) G) := ⟨U, V, zp_fin_m f1, zp_fin_m f2, po_eq_e (by rw [hW, hB]; exact @ga_tg po_P po_ring _ _ _ _ _ _ e)⟩
    obtain ⟨q, fq, eq⟩ := po_dv_cb γW γB cb
    obtain ⟨o, ho⟩ := nt_inv hp hpr
    obtain ⟨x, hx⟩ := po_eq_ex eq
    have e2 : po_eq p (po_mul (po_C r) (po_C o)) (po_C 1) := by rw [← po_C_mul, Int.mul_comm]; exact po_C_eq ho
    obtain ⟨y, hy⟩ := po_eq_ex e2
    exact ⟨po_mul (po_C o) q, po_fin_mul (po_fin_C _ _) fq, po_ex_eq (@ga_ti po_P po_ring _ _ _ _ _ _ _ _ hx hy)⟩
  obtain ⟨dg, ass⟩ := nz_assoc hp hγ tG dvγ dvG
  -- the leading coefficient of G divides la
  have lc : ∀ (A X : po_P) (e : Nat), A = po_mul G X → po_fin 0 X → A e ≠ 0 → (∀ i, e < i → A i = 0) → G g ∣ A e := fun A X e hA fX a0 a1 => by
    obtain ⟨s, t, hs, ht, hst⟩ := zp_t_div ⟨a0, a1⟩ hA (zp_n_fin hG) fX
    have := zp_t_u hs (zp_n_t hG)
    subst this
    have h3 := (zp_top hG.2.2 ht.2).1
    rw [← hA, hst] at h3
    exact ⟨_, h3⟩
  have l1 := lc W F d1 hW fF w1 w2
  have l2 := lc B D d2 hB fD b1 b2
  have lad : (G g) ∣ la := by
    rw [hla]
    have := Nat.dvd_gcd (Int.natAbs_dvd_natAbs.mpr l1) (Int.natAbs_dvd_natAbs.mpr l2)
    exact Int.natAbs_dvd_natAbs.mp this
  obtain ⟨k, hk⟩ := lad
  have la1 : 0 < la ∧ la ≤ 20 := by
    rw [hla]
    have h3 := Nat.gcd_dvd_left (W d1).natAbs (B d2).natAbs
    have h4 := Nat.le_of_dvd (by omega) h3
    have h5 : Nat.gcd (W d1).natAbs (B d2).natAbs ≠ 0 := fun z => by
      rw [z] at h3
      have := Nat.eq_zero_of_zero_dvd h3
      omega
    omega
  have k1 : 0 < k := Int.pos_of_mul_pos_right (by rw [← hk]; exact la1.1) gpos
  have k20 : k ≤ 20 := by
    have : k * 1 ≤ k * G g := Int.mul_le_mul_of_nonneg_left (by omega) (by omega)
    rw [Int.mul_comm k (G g), ← hk] at this
    omega
  have X : fd_cn p (fun i => γ i * la % p) = po_mul (po_C k) G := by
    funext i
    simp only [fd_cn]
    rw [po_mul_C]
    have h3 := ass i
    rw [po_mul_C] at h3
    have h4 := Int.dvd_mul_of_dvd_right (b := k) h3
    have gb := hbG i
    have h5 : (k * G i).natAbs ≤ 20 * 60000 := by
      rw [Int.natAbs_mul]; exact Nat.mul_le_mul (by omega) gb
    refine nz_cn (by omega) ?_ (by omega) (by omega)
    rw [hk]
    have h6 := Int.dvd_neg.mpr h4
    rwa [show -(k * (G i - G g * γ i)) = γ i * (G g * k) - k * G i by grind] at h6
  have prT := zp_pp hpp
  rw [X] at hpp
  obtain ⟨c, c0, _, c2, e, _, e1, e2⟩ := hpp
  have hc : po_mul (po_C c) T = po_mul G (po_C k) := by
    rw [zp_mulc G]; funext i; rw [po_mul_C]; exact (c2 i).symm
  obtain ⟨X', x1, x2⟩ := zp_gauss hG.1 c0 hc
  have nT : zp_n e T := ⟨prT, e1, e2⟩
  obtain ⟨_, b, hb', hs⟩ := zp_n_div nT x2 (zp_fin_q c0 x1 (po_fin_C _ _)) hG.2.1 hG.2.2
  have tt : zp_t (0 + e) (po_mul (po_C c) T) := zp_t_mul (zp_t_C c0) (zp_n_t nT)
  rw [hc] at tt
  have := zp_t_u tt (zp_t_mul (zp_n_t hG) (zp_t_C (c := k) (by omega)))
  have b0 : b = 0 := by omega
  subst b0
  rw [x2, zp_n0 hb', zp_m1]
end
section
/-! resultants of small polynomials; the derivative of a product of powers -/
theorem ga_res {R : Type} [Lean.Grind.CommRing R] {A Q Q1 q X L S r a b P : R} (hQ : Q = q + X * Q1) (h : P * Q1 = L * S + r) (hL : L = b + a * X) : (P * a) * Q = L * (a * X * S + r) + (P * a * q - b * r) := by grind
theorem zp_lin_e {L : po_P} (hL : ∀ i, 1 < i → L i = 0) : L = po_add (po_C (L 0)) (po_mul (po_C (L 1)) (po_X 1 1)) := by
  funext i
  show L i = po_C (L 0) i + po_mul _ _ i
  rw [po_mul_C]
  simp only [po_C, po_X]
  match i with
  | 0 => simp
  | 1 => simp
  | i + 2 => rw [hL (i + 2) (by omega), if_neg (by omega), if_neg (by omega)]; simp
theorem zp_res {L : po_P} {A B : Nat} (hL : ∀ i, 1 < i → L i = 0) (hA : ∀ i, (L i).natAbs ≤ A) : ∀ (k : Nat) (Q : po_P), (∀ i, k < i → Q i = 0) → (∀ i, (Q i).natAbs ≤ B) → ∃ (S : po_P) (r : Int), po_fin 0 S ∧ po_mul (po_C (L 1 ^ k)) Q = po_add (po_mul L S) (po_C r) ∧ r.natAbs ≤ (k + 1) * (A ^ k * B)
  | 0, Q, hQ, hB => by
    refine ⟨po_C 0, Q 0, po_fin_C _ _, ?_, by have := hB 0; simpa using this⟩
    funext i
    show po_mul _ _ i = po_mul _ _ i + po_C (Q 0) i
    rw [po_mul_C, po_mul_comm, po_mul_C]
    simp only [po_C]
    by_cases z : i = 0
    · rw [if_pos z, z]; simp
    · rw [if_neg z, hQ i (by omega)]; simp
  | k + 1, Q, hQ, hB => by
    obtain ⟨S, r, fS, e, hr⟩ := zp_res hL hA k (po_sh Q) (fun i hi => hQ (i + 1) (by omega)) (fun i => hB (i + 1))
    have h := @ga_res po_P po_ring (po_C 0) _ _ _ _ _ _ _ _ _ _ (po_hor Q) e (zp_lin_e hL)
    refine ⟨po_add (po_mul (po_mul (po_C (L 1)) (po_X 1 1)) S) (po_C r), L 1 ^ k * L 1 * Q 0 - L 0 * r, po_fin_add (po_fin_mul (po_fin_mul (po_fin_C _ _) (po_fin_X _ _ _)) fS) (po_fin_C _ _), ?_, ?_⟩
    · rw [Int.pow_succ]
      have e1 : po_C (L 1 ^ k * L 1 * Q 0 - L 0 * r) = po_sub (po_mul (po_mul (po_C (L 1 ^ k)) (po_C (L 1))) (po_C (Q 0))) (po_mul (po_C (L 0)) (po_C r)) := by
        rw [← po_C_mul, ← po_C_mul, ← po_C_mul]
        funext i; simp only [po_C, po_sub]; split <;> omega
      rw [e1, po_C_mul]
      exact h
    · have h1 : (L 1 ^ k * L 1 * Q 0).natAbs ≤ A ^ k * A * B := by
        rw [Int.natAbs_mul, Int.natAbs_mul, Int.natAbs_pow]
        exact Nat.mul_le_mul (Nat.mul_le_mul (Nat.pow_le_pow_left (hA 1) k) (hA 1)) (hB 0)
      have h2 : (L 0 * r).natAbs ≤ A * ((k + 1) * (A ^ k * B)) := by
        rw [Int.natAbs_mul]; exact Nat.mul_le_mul (hA 0) hr
      have h3 : (k + 1 + 1) * (A ^ (k + 1) * B) = A ^ k * A * B + A * ((k + 1) * (A ^ k * B)) := by
        rw [Nat.pow_succ, Nat.add_mul (k + 1) 1]; grind
      rw [h3]; omega
theorem ga_rs2 {R : Type} [Lean.Grind.CommRing R] {P Q L S r z : R} (h : P * Q = L * S + r) (hz : z = 0) : (z - S) * L + P * Q = r := by grind
theorem zp_res_cb {L Q : po_P} {k A B : Nat} (hL : zp_t 1 L) (hLp : zp_pr L) (hA : ∀ i, (L i).natAbs ≤ A) (hQ : ∀ i, k < i → Q i = 0) (hB : ∀ i, (Q i).natAbs ≤ B) (hc : zp_cop L Q) : ∃ r : Int, r ≠ 0 ∧ zp_cb r L Q ∧ r.natAbs ≤ (k + 1) * (A ^ k * B) := by
  obtain ⟨S, r, fS, e, hr⟩ := zp_res hL.2 hA k Q hQ hB
  have fQ : po_fin 0 Q := po_fin_0 (n := k + 1) (fun i hi => hQ i (by omega))
  refine ⟨r, fun z => ?_, ⟨po_sub (po_C 0) S, po_C (L 1 ^ k), po_fin_sub (po_fin_C _ _) fS, po_fin_C _ _, @ga_rs2 po_P po_ring _ _ _ _ _ (po_C 0) e rfl⟩, hr⟩
  have c0 : L 1 ^ k ≠ 0 := Int.pow_ne_zero hL.1
  have e2 : po_mul (po_C (L 1 ^ k)) Q = po_mul L S := by
    rw [e, z]
    funext i
    show po_mul L S i + po_C 0 i = _
    simp [po_C]
  obtain ⟨Y, y1, y2⟩ := zp_gauss hLp c0 e2
  have fY := zp_fin_q c0 y1 fS
  have : zp_cop (po_mul L (po_C 1)) (po_mul L Y) := by rw [zp_m1, ← y2]; exact hc
  have t := zp_cop_t this (zp_t_fin hL) (po_fin_C _ _) fY
  have := zp_t_u t hL
  omega
/-- the discriminants of degree 2 and 3 -/
theorem rz_F_1 {Q : po_P} (hQ : ∀ i, 2 < i → Q i = 0) : rz_F 1 Q = 4 * (Q 0 * Q 2) - Q 1 * Q 1 := by
  have u2 : ∀ t, 1 < t → po_der Q t = 0 := fun t ht => by simp only [po_der]; rw [hQ (t + 1) (by omega), Int.mul_zero]
  have v2 := rz_v_0 (n := 1) hQ
  have I : ∀ i j, 1 ≤ j → rz_M 1 (po_der Q) (rz_v 2 Q) i j = if i = j then 1 else 0 := fun i j h => rz_M_I u2 v2 h
  have J : ∀ i, rz_M 1 (po_der Q) (rz_v 2 Q) i 0 = rz_B (po_der Q) (rz_v 2 Q) i 0 := fun i => rz_M_B (by omega)
  have e : rz_B (po_der Q) (rz_v 2 Q) 0 0 = 4 * (Q 0 * Q 2) - Q 1 * Q 1 := by
    simp [rz_B, po_sub, po_mul_0, rz_s, rz_v, po_der]; grind
  show rz_d4 _ _ _ _ _ _ _ _ _ _ _ _ _ _ _ _ = _
  rw [I 0 1 (by omega), I 0 2 (by omega), I 0 3 (by omega), I 1 1 (by omega), I 1 2 (by omega), I 1 3 (by omega), I 2 1 (by omega), I 2 2 (by omega), I 2 3 (by omega), I 3 1 (by omega), I 3 2 (by omega), I 3 3 (by omega), J 0, e]
  simp only [rz_d4, rz_d3]
  simp
theorem rz_F_2 {Q : po_P} (hQ : ∀ i, 3 < i → Q i = 0) : rz_F 2 Q = (6 * (Q 0 * Q 2) - 2 * (Q 1 * Q 1)) * (6 * (Q 1 * Q 3) - 2 * (Q 2 * Q 2)) - (9 * (Q 0 * Q 3) - Q 1 * Q 2) * (9 * (Q 0 * Q 3) - Q 1 * Q 2) := by
  have u2 : ∀ t, 2 < t → po_der Q t = 0 := fun t ht => by simp only [po_der]; rw [hQ (t + 1) (by omega), Int.mul_zero]
  have v2 := rz_v_0 (n := 2) hQ
  have I : ∀ i j, 2 ≤ j → rz_M 2 (po_der Q) (rz_v 3 Q) i j = if i = j then 1 else 0 := fun i j h => rz_M_I u2 v2 h
  have J : ∀ i j, j < 2 → rz_M 2 (po_der Q) (rz_v 3 Q) i j = rz_B (po_der Q) (rz_v 3 Q) i j := fun i j h => rz_M_B h
  have q4 := hQ 4 (by omega)
  have e00 : rz_B (po_der Q) (rz_v 3 Q) 0 0 = 6 * (Q 0 * Q 2) - 2 * (Q 1 * Q 1) := by
    simp [rz_B, po_sub, po_mul_0, po_mul_s, po_sh, rz_s, rz_v, po_der]; grind
  have e01 : rz_B (po_der Q) (rz_v 3 Q) 0 1 = 9 * (Q 0 * Q 3) - Q 1 * Q 2 := by
    simp [rz_B, po_sub, po_mul_0, po_mul_s, po_sh, rz_s, rz_v, po_der]; grind
  have e10 : rz_B (po_der Q) (rz_v 3 Q) 1 0 = 9 * (Q 0 * Q 3) - Q 1 * Q 2 := by
    simp [rz_B, po_sub, po_mul_0, po_mul_s, po_sh, rz_s, rz_v, po_der]; grind
  have e11 : rz_B (po_der Q) (rz_v 3 Q) 1 1 = 6 * (Q 1 * Q 3) - 2 * (Q 2 * Q 2) := by
    simp [rz_B, po_sub, po_mul_0, po_mul_s, po_sh, rz_s, rz_v, po_der, q4]; grind
  show rz_d4 _ _ _ _ _ _ _ _ _ _ _ _ _ _ _ _ = _
  rw [I 0 2 (by omega), I 0 3 (by omega), I 1 2 (by omega), I 1 3 (by omega), I 2 2 (by omega), I 2 3 (by omega), I 3 2 (by omega), I 3 3 (by omega), J 0 0 (by omega), J 0 1 (by omega), J 1 0 (by omega), J 1 1 (by omega), e00, e01, e10, e11]
  simp only [rz_d4, rz_d3]
  simp
  grind
theorem ga_dp2 {R : Type} [Lean.Grind.CommRing R] {P f f' n n' o P' : R} (h : P' = n * (P * f')) (hn : n' = n + o) (ho : o = 1) : P' * f + P * f * f' = n' * (P * f * f') := by grind
theorem zp_der_pow (f : po_P) : ∀ k : Nat, po_der (po_pow f (k + 1)) = po_mul (po_C ((k + 1 : Nat) : Int)) (po_mul (po_pow f k) (po_der f))
  | 0 => by
    have : po_pow f (0 + 1) = f := zp_pow1 f
    rw [this]
    show _ = po_mul (po_C 1) (po_mul (po_C 1) _)
    rw [zp_1m, zp_1m]
  | k + 1 => by
    rw [po_pow, po_der_mul, zp_der_pow f k]
    have e : po_C ((k + 1 + 1 : Nat) : Int) = po_add (po_C ((k + 1 : Nat) : Int)) (po_C 1) := by rw [← po_C_add]; rfl
    have := @ga_dp2 po_P po_ring (po_pow f k) f (po_der f) (po_C ((k + 1 : Nat) : Int)) (po_C ((k + 1 + 1 : Nat) : Int)) (po_C 1) _ rfl e rfl
    exact this
theorem ga_dpp {R : Type} [Lean.Grind.CommRing R] {A B L Q L' Q' i j A' B' : R} (hA : A' = i * (A * L')) (hB : B' = j * (B * Q')) : A' * (B * Q) + (A * L) * B' = (A * B) * (i * (L' * Q) + j * (L * Q')) := by grind
/-- the derivative of a product of powers -/
theorem zp_der_pp (L Q : po_P) (i j : Nat) : po_der (po_mul (po_pow L (i + 1)) (po_pow Q (j + 1))) = po_mul (po_mul (po_pow L i) (po_pow Q j)) (po_add (po_mul (po_C ((i + 1 : Nat) : Int)) (po_mul (po_der L) Q)) (po_mul (po_C ((j + 1 : Nat) : Int)) (po_mul L (po_der Q)))) := by
  rw [po_der_mul]
  have h1 := zp_der_pow L i
  have h2 := zp_der_pow Q j
  exact @ga_dpp po_P po_ring (po_pow L i) (po_pow Q j) L Q (po_der L) (po_der Q) _ _ _ _ h1 h2
end
section
/-! the numbers of a pattern: bounds, resultants -/
theorem zb_cub {W L Q : po_P} (hL : zp_t 1 L) (hQ : zp_t 3 Q) (e : W = po_mul L (po_mul L Q)) (hW : ∀ i, (W i).natAbs ≤ 20) (t : Nat) : (Q t).natAbs ≤ 60 := by
  have hH := zp_t_mul hL hQ
  have H0 : ∀ i, 5 ≤ i → po_mul L Q i = 0 := fun i hi => hH.2 i (by omega)
  have Q0 : ∀ i, 4 ≤ i → Q i = 0 := fun i hi => hQ.2 i (by omega)
  have l1 := hL.1
  by_cases ht : 4 ≤ t
  · rw [Q0 t ht]; exact Nat.zero_le _
  · rcases Nat.lt_trichotomy (L 0).natAbs (L 1).natAbs with z | z | z
    · have h1 : ∀ k, (po_mul L Q k).natAbs ≤ 20 := fun k => by
        by_cases hk : 5 ≤ k
        · rw [H0 k hk]; exact Nat.zero_le _
        · exact zb_dne hL.2 e z H0 hW (5 - k) k (by omega)
      have := zb_dne hL.2 rfl z Q0 h1 (4 - t) t (by omega)
      omega
    · by_cases h2 : t ≤ 1
      · have l0 : L 0 ≠ 0 := by omega
        have h1 := zb_up (b := fun _ => 20) (s := fun k => (k + 1) * 20) hL.2 e l0 (by omega) hW (by simp) (fun k => by show 20 + (k + 1) * 20 ≤ (k + 1 + 1) * 20; omega)
        have h3 := zb_up (b := fun k => (k + 1) * 20) (s := fun k => 10 * ((k + 1) * (k + 2))) hL.2 rfl l0 (by omega) h1 (by simp) (fun k => by
          show (k + 1 + 1) * 20 + 10 * ((k + 1) * (k + 2)) ≤ 10 * ((k + 1 + 1) * (k + 1 + 2))
          have : (k + 1 + 1) * (k + 1 + 2) = (k + 1) * (k + 2) + 2 * (k + 2) := by grind
          omega) t
        have h4 : ∀ t, t ≤ 1 → 10 * ((t + 1) * (t + 2)) ≤ 60 := by decide
        exact Nat.le_trans h3 (h4 t h2)
      · have h1 : ∀ k, (po_mul L Q k).natAbs ≤ (5 - k) * 20 := fun k => by
          by_cases hk : 5 ≤ k
          · rw [H0 k hk]; exact Nat.zero_le _
          · exact zb_dn (b := fun _ => 20) (s := fun k => (5 - k) * 20) hL.2 e l1 (by omega) H0 hW (fun k hk => by show 20 + (5 - (k + 1)) * 20 ≤ (5 - k) * 20; omega) (5 - k) k (by omega)
        have h3 := zb_dn (n := 4) (b := fun k => (5 - k) * 20) (s := fun k => if k = 0 then 200 else if k = 1 then 120 else if k = 2 then 60 else if k = 3 then 20 else 0) hL.2 rfl l1 (by omega) Q0 h1 (by decide) (4 - t) t (by omega)
        have h4 : ∀ t, ¬ t ≤ 1 → ¬ 4 ≤ t → (if t = 0 then 200 else if t = 1 then 120 else if t = 2 then 60 else if t = 3 then 20 else 0) ≤ 60 := by
          intro t a b
          rw [if_neg (by omega), if_neg (by omega)]
          split
          · omega
          · split <;> omega
        exact Nat.le_trans h3 (h4 t h2 ht)
    · have h1 := zb_upe hL.2 e z hW
      have := zb_upe hL.2 rfl z h1 t
      omega
theorem zp_pow_s (f : po_P) (k : Nat) : po_pow f (k + 1) = po_mul f (po_pow f k) := by rw [po_pow, zp_mulc]
theorem ga_pt {R : Type} [Lean.Grind.CommRing R] {a b c d : R} : a * b * (c * d) = (a * c) * (b * d) ∧ b * a * (d * c) = d * (b * a * c) ∧ b * a * (d * c) = b * (a * (d * c)) := by
  refine ⟨?_, ?_, ?_⟩ <;> grind
section
variable {n : Nat} {W L Q : po_P} {i j dL dQ : Nat}
theorem pt_deg (h : zp_pat n W L Q (i + 1) (j + 1) dL dQ) : W = po_mul (po_mul (po_pow L i) (po_pow Q j)) (po_mul L Q) ∧ zp_n (dL * i + dQ * j) (po_mul (po_pow L i) (po_pow Q j)) ∧ zp_n (dL + dQ) (po_mul L Q) ∧ dL * i + dQ * j + (dL + dQ) = n := by
  obtain ⟨h1, h2, h3, h4, h5, h6, h7, h8, h9⟩ := h
  refine ⟨?_, zp_n_mul (zp_n_pow h2 i) (zp_n_pow h3 j), zp_n_mul h2 h3, ?_⟩
  · rw [h1, po_pow, po_pow]; exact (@ga_pt po_P po_ring _ _ _ _).1
  · rw [← h8, Nat.mul_succ, Nat.mul_succ]; omega
theorem pt_bL (hb : ∀ t, (W t).natAbs ≤ 20) (h : zp_pat n W L Q (i + 1) (j + 1) dL dQ) : ∀ t, (L t).natAbs ≤ 20 := by
  obtain ⟨h1, h2, h3, h4, h5, h6, h7, h8, h9⟩ := h
  rcases h9 with h9 | h9
  · obtain ⟨h9, _⟩ := h9
    subst h9
    rw [zp_n0 h2]
    intro t; simp only [po_C]; split <;> decide
  · obtain ⟨h9, _⟩ := h9
    subst h9
    have e : W = po_mul L (po_mul (po_pow L i) (po_pow Q (j + 1))) := by rw [h1, zp_pow_s L, zp_mula]
    exact zb_lin0 (zp_n_t h2) e (zp_n_t (zp_n_mul (zp_n_pow h2 i) (zp_n_pow h3 (j + 1)))) hb
theorem pt_eQ (h : zp_pat n W L Q (i + 1) (j + 1) dL dQ) : W = po_mul Q (po_mul (po_pow L (i + 1)) (po_pow Q j)) ∧ zp_n (dL * (i + 1) + dQ * j) (po_mul (po_pow L (i + 1)) (po_pow Q j)) ∧ dQ + (dL * (i + 1) + dQ * j) = n := by
  obtain ⟨h1, h2, h3, h4, h5, h6, h7, h8, h9⟩ := h
  refine ⟨?_, zp_n_mul (zp_n_pow h2 (i + 1)) (zp_n_pow h3 j), ?_⟩
  · rw [h1, zp_pow_s Q, ← zp_mula, zp_mulc _ Q, zp_mula]
  · rw [← h8, Nat.mul_succ dQ]; omega
theorem pt_bQ (hn : n ≤ 5) (hb : ∀ t, (W t).natAbs ≤ 20) (h : zp_pat n W L Q (i + 1) (j + 1) dL dQ) : ∀ t, (Q t).natAbs ≤ 60000 := by
  obtain ⟨e, h1, h2⟩ := pt_eQ h
  exact zb_all (n := n) (zp_n_t h.2.2.1) (zp_n_t h1) e (by omega) hb
/-- a small number for Q and its derivative -/
theorem pt_rQ (hn : n ≤ 5) (hb : ∀ t, (W t).natAbs ≤ 20) (h : zp_pat n W L Q (i + 1) (j + 1) dL dQ) (hS : ¬ (dL = 0 ∧ j = 0)) : ∃ r : Int, r ≠ 0 ∧ r.natAbs < 2147483647 ∧ zp_cb r Q (po_der Q) := by
  have bQ := pt_bQ hn hb h
  obtain ⟨e, k1, k2⟩ := pt_eQ h
  obtain ⟨h1, h2, h3, h4, h5, h6, h7, h8, h9⟩ := h
  have sQ : zp_sf Q := (zp_sf_d (T := Q) (Y := L) (by rw [zp_mulc]; exact h4) (zp_n_fin h3) (zp_n_fin h2)).1
  have d3 : dQ ≤ 2 ∨ (dQ = 3 ∧ dL = 1 ∧ i = 1 ∧ j = 0) := by
    rcases h9 with ⟨a, b⟩ | ⟨a, b⟩
    · rcases b with b | b
      · exfalso; exact hS ⟨a, by omega⟩
      · exact Or.inl b
    · rcases b with b | ⟨b, c, d⟩
      · exact Or.inl b
      · exact Or.inr ⟨b, a, by omega, by omega⟩
  by_cases d1 : dQ = 1
  · subst d1
    have t := zp_n_t h3
    refine ⟨Q 1, t.1, by have := bQ 1; omega, po_C 0, po_C 1, po_fin_C _ _, po_fin_C _ _, ?_⟩
    funext s
    show po_mul _ _ s + po_mul _ _ s = _
    rw [po_mul_C, po_mul_C]
    simp only [po_der, po_C]
    by_cases z : s = 0
    · rw [if_pos z, z]; simp
    · rw [if_neg z, t.2 (s + 1) (by omega)]; simp
  · by_cases d2 : dQ = 2
    · subst d2
      have t := zp_n_t h3
      have q := zb_quad t (zp_n_t k1) (by omega) e hb
      obtain ⟨U, V, f1, f2, e2⟩ := rz_F_cb (n := 1) (F := Q) (by omega) (by omega) t.2
      refine ⟨rz_F 1 Q, rz_F_n0 (by omega) t sQ, ?_, U, V, f1, f2, e2⟩
      rw [rz_F_1 t.2]
      have b1 := zb_mm2 (q 0) (q 2)
      have b2 := zb_mm2 (q 1) (q 1)
      omega
    · have : dQ = 3 ∧ dL = 1 ∧ i = 1 ∧ j = 0 := by
        rcases d3 with z | z
        · exfalso; omega
        · exact z
      obtain ⟨x1, x2, x3, x4⟩ := this
      subst x1
      subst x2
      subst x3
      subst x4
      have t := zp_n_t h3
      have q := zb_cub (W := W) (zp_n_t h2) t (by rw [h1, zp_pow1, zp_pow_s, zp_pow1, zp_mula]) hb
      obtain ⟨U, V, f1, f2, e2⟩ := rz_F_cb (n := 2) (F := Q) (by omega) (by omega) t.2
      refine ⟨rz_F 2 Q, rz_F_n0 (by omega) t sQ, ?_, U, V, f1, f2, e2⟩
      rw [rz_F_2 t.2]
      have b02 := zb_mm2 (q 0) (q 2)
      have b11 := zb_mm2 (q 1) (q 1)
      have b13 := zb_mm2 (q 1) (q 3)
      have b22 := zb_mm2 (q 2) (q 2)
      have b03 := zb_mm2 (q 0) (q 3)
      have b12 := zb_mm2 (q 1) (q 2)
      have c1 : (6 * (Q 0 * Q 2) - 2 * (Q 1 * Q 1)).natAbs ≤ 28800 := by omega
      have c2 : (6 * (Q 1 * Q 3) - 2 * (Q 2 * Q 2)).natAbs ≤ 28800 := by omega
      have c3 : (9 * (Q 0 * Q 3) - Q 1 * Q 2).natAbs ≤ 36000 := by omega
      have m1 := zb_mm2 c1 c2
      have m2 := zb_mm2 c3 c3
      clear c1 c2 c3 b02 b11 b13 b22 b03 b12
      omega
/-- a small number for L and Q -/
theorem pt_rL (hn : n ≤ 5) (hb : ∀ t, (W t).natAbs ≤ 20) (h : zp_pat n W L Q (i + 1) (j + 1) dL dQ) : ∃ r : Int, r ≠ 0 ∧ r.natAbs < 2147483647 ∧ zp_cb r L Q := by
  have bQ := pt_bQ hn hb h
  have bL := pt_bL hb h
  obtain ⟨h1, h2, h3, h4, h5, h6, h7, h8, h9⟩ := h
  rcases h9 with ⟨a, b⟩ | ⟨a, b⟩
  · subst a
    refine ⟨1, by decide, by decide, po_C 1, po_C 0, po_fin_C _ _, po_fin_C _ _, ?_⟩
    rw [zp_n0 h2]
    funext s
    show po_mul _ _ s + po_mul _ _ s = _
    rw [po_mul_C, po_mul_C]; omega
  · subst a
    obtain ⟨_, c⟩ := zp_sf_d h4 (zp_n_fin h2) (zp_n_fin h3)
    obtain ⟨r, r0, r1, r2⟩ := zp_res_cb (k := dQ) (zp_n_t h2) h2.1 bL (zp_n_t h3).2 bQ c
    refine ⟨r, r0, Nat.lt_of_le_of_lt r2 ?_, r1⟩
    have : dQ ≤ 3 := by rcases b with b | b <;> omega
    match dQ, this with
    | 0, _ => decide
    | 1, _ => decide
    | 2, _ => decide
    | 3, _ => decide
end
theorem ga_q1 {R : Type} [Lean.Grind.CommRing R] {S L T Q r i a j Q' D : R} (h : S * L + T * Q = r) (hD : D = i * (a * Q) + j * (L * Q')) : (i * a * S - j * T * Q') * L + T * D = i * a * r := by grind
theorem ga_q2 {R : Type} [Lean.Grind.CommRing R] {S L T Q r i a j Q' D U V q : R} (h : S * L + T * Q = r) (k : U * Q + V * Q' = q) (hD : D = i * (a * Q) + j * (L * Q')) : (j * U * r + j * V * Q' * T - V * S * i * a) * Q + (V * S) * D = j * q * r := by grind
theorem ga_q3 {R : Type} [Lean.Grind.CommRing R] {U A V D r U' B V' r' : R} (h : U * A + V * D = r) (k : U' * B + V' * D = r') : (U * U') * (A * B) + (V * r' + U * A * V') * D = r * r' := by grind
theorem zp_cb_mul {r r' : Int} {A B D : po_P} (h : zp_cb r A D) (k : zp_cb r' B D) (fA : po_fin 0 A) : zp_cb (r * r') (po_mul A B) D := by
  obtain ⟨U, V, f1, f2, e⟩ := h
  obtain ⟨U', V', g1, g2, e'⟩ := k
  have F2 := po_fin_add (po_fin_mul f2 (po_fin_C 0 r')) (po_fin_mul (po_fin_mul f1 fA) g2)
  exact ⟨_, _, po_fin_mul f1 g1, F2, by rw [po_C_mul]; exact @ga_q3 po_P po_ring _ _ _ _ _ _ _ _ _ e e'⟩
end
section
/-! greatestCommon gives the greatest common divisor of W and its derivative -/
theorem pm_sm {p x : Int} (hp : 0 < p) (h0 : x ≠ 0) (h : x.natAbs < p.natAbs) : ¬ p ∣ x := fun z => by
  have := Nat.le_of_dvd (by omega) (Int.natAbs_dvd_natAbs.mpr z)
  omega
def pt_D (L Q : po_P) (i j : Nat) : po_P := po_add (po_mul (po_C ((i + 1 : Nat) : Int)) (po_mul (po_der L) Q)) (po_mul (po_C ((j + 1 : Nat) : Int)) (po_mul L (po_der Q)))
theorem pt_dL {L : po_P} (h : ∀ i, 1 < i → L i = 0) : po_der L = po_C (L 1) := by
  funext t
  simp only [po_der, po_C]
  by_cases z : t = 0
  · rw [if_pos z, z]; simp
  · rw [if_neg z, h (t + 1) (by omega)]; simp
section
variable {n : Nat} {W L Q : po_P} {i j dL dQ : Nat}
theorem pt_ij (hn : n ≤ 5) (h : zp_pat n W L Q (i + 1) (j + 1) dL dQ) : j + 1 ≤ 5 ∧ (dL = 1 → i + 1 ≤ 5) ∧ dL ≤ 1 := by
  obtain ⟨h1, h2, h3, h4, h5, h6, h7, h8, h9⟩ := h
  have a : 1 * (j + 1) ≤ dQ * (j + 1) := Nat.mul_le_mul_right _ h5
  refine ⟨by omega, fun z => ?_, by rcases h9 with z | z <;> omega⟩
  subst z
  omega
theorem pt_rD (hn : n ≤ 5) (hb : ∀ t, (W t).natAbs ≤ 20) (h : zp_pat n W L Q (i + 1) (j + 1) dL dQ) (hS : ¬ (dL = 0 ∧ j = 0)) : ∃ r : Int, ¬ (2147483647 : Int) ∣ r ∧ zp_cb r (po_mul L Q) (pt_D L Q i j) := by
  obtain ⟨q, q0, q1, hq⟩ := pt_rQ hn hb h hS
  obtain ⟨r, r0, r1, hr⟩ := pt_rL hn hb h
  have bL := pt_bL hb h
  obtain ⟨ij1, ij2, ij3⟩ := pt_ij hn h
  obtain ⟨h1, h2, h3, h4, h5, h6, h7, h8, h9⟩ := h
  have dom := po_prime_dom pm_1
  have sm : ∀ x : Int, x ≠ 0 → x.natAbs < 2147483647 → ¬ (2147483647 : Int) ∣ x := fun x a b => pm_sm (by decide) a b
  have ml : ∀ x y : Int, ¬ (2147483647 : Int) ∣ x → ¬ (2147483647 : Int) ∣ y → ¬ (2147483647 : Int) ∣ x * y := fun x y a b z => (dom.2 _ _ z).elim a b
  have fL : po_fin 0 L := zp_n_fin h2
  have fQ : po_fin 0 Q := zp_n_fin h3
  have fL' := po_der_fin fL
  have fQ' := po_der_fin fQ
  have C := fun c => po_fin_C 0 c
  have A2 : zp_cb (((j + 1 : Nat) : Int) * q * r) Q (pt_D L Q i j) := by
    obtain ⟨U, V, f1, f2, e⟩ := hq
    obtain ⟨S, T, f3, f4, e'⟩ := hr
    have F1 := po_fin_sub (po_fin_add (po_fin_mul (po_fin_mul (C ((j + 1 : Nat) : Int)) f1) (C r)) (po_fin_mul (po_fin_mul (po_fin_mul (C ((j + 1 : Nat) : Int)) f2) fQ') f4)) (po_fin_mul (po_fin_mul (po_fin_mul f2 f3) (C ((i + 1 : Nat) : Int))) fL')
    exact ⟨_, _, F1, po_fin_mul f2 f3, by rw [po_C_mul, po_C_mul]; exact @ga_q2 po_P po_ring _ _ _ _ _ _ _ _ _ _ _ _ _ e' e rfl⟩
  have nA2 : ¬ (2147483647 : Int) ∣ ((j + 1 : Nat) : Int) * q * r := ml _ _ (ml _ _ (sm _ (by omega) (by omega)) (sm q q0 q1)) (sm r r0 r1)
  rcases h9 with ⟨a, _⟩ | ⟨a, _⟩
  · subst a
    have A1 : zp_cb 1 L (pt_D L Q i j) := by
      refine ⟨po_C 1, po_C 0, C 1, C 0, ?_⟩
      rw [zp_n0 h2]
      funext s
      show po_mul _ _ s + po_mul _ _ s = _
      rw [po_mul_C, po_mul_C]; omega
    exact ⟨_, ml _ _ (sm 1 (by decide) (by decide)) nA2, zp_cb_mul A1 A2 fL⟩
  · subst a
    have tL := zp_n_t h2
    have A1 : zp_cb (((i + 1 : Nat) : Int) * L 1 * r) L (pt_D L Q i j) := by
      obtain ⟨S, T, f3, f4, e'⟩ := hr
      have F1 := po_fin_sub (po_fin_mul (po_fin_mul (C ((i + 1 : Nat) : Int)) (C (L 1))) f3) (po_fin_mul (po_fin_mul (C ((j + 1 : Nat) : Int)) f4) fQ')
      exact ⟨_, _, F1, f4, by
        rw [po_C_mul, po_C_mul]
        exact @ga_q1 po_P po_ring _ _ _ _ _ _ _ _ _ _ e' (by rw [← pt_dL tL.2]; rfl)⟩
    have := ij2 rfl
    have := bL 1
    exact ⟨_, ml _ _ (ml _ _ (ml _ _ (sm _ (by omega) (by omega)) (sm _ tL.1 (by omega))) (sm r r0 r1)) nA2, zp_cb_mul A1 A2 fL⟩
theorem pt_bD (hn : n ≤ 5) (hb : ∀ t, (W t).natAbs ≤ 20) (h : zp_pat n W L Q (i + 1) (j + 1) dL dQ) (t : Nat) : (pt_D L Q i j t).natAbs ≤ 100000000 := by
  have bQ := pt_bQ hn hb h
  have bL := pt_bL hb h
  obtain ⟨ij1, ij2, ij3⟩ := pt_ij hn h
  obtain ⟨h1, h2, h3, h4, h5, h6, h7, h8, h9⟩ := h
  have L2 : ∀ i, 1 < i → L i = 0 := fun i hi => h2.2.2 i (by omega)
  have dQ5 : dQ ≤ 5 := by
    have : dQ * 1 ≤ dQ * (j + 1) := Nat.mul_le_mul_left _ (by omega)
    omega
  have b' : ∀ t, (po_der Q t).natAbs ≤ 300000 := fun t => by
    simp only [po_der]
    by_cases z : t ≤ 4
    · rw [Int.natAbs_mul]
      exact Nat.mul_le_mul (show ((t : Int) + 1).natAbs ≤ 5 by omega) (bQ (t + 1))
    · rw [h3.2.2 (t + 1) (by omega), Int.mul_zero]; decide
  have m1 : ∀ t, (po_mul L (po_der Q) t).natAbs ≤ 12000000 := fun t => by
    cases t with
    | zero =>
      rw [po_mul_0]
      have := zb_mm2 (bL 0) (b' 0)
      omega
    | succ t =>
      rw [zb_mul1 L2]
      have := zb_mm2 (bL 0) (b' (t + 1))
      have := zb_mm2 (bL 1) (b' t)
      omega
  show (po_mul _ _ t + po_mul _ _ t).natAbs ≤ _
  rw [po_mul_C, po_mul_C, pt_dL L2, po_mul_C]
  have c1 : (((i + 1 : Nat) : Int) * (L 1 * Q t)).natAbs ≤ 5 * (20 * 60000) := by
    by_cases z : dL = 1
    · have := ij2 z
      exact zb_mm2 (by omega) (zb_mm2 (bL 1) (bQ t))
    · have : L 1 = 0 := h2.2.2 1 (by omega)
      rw [this, Int.zero_mul, Int.mul_zero]; decide
  have c2 : (((j + 1 : Nat) : Int) * po_mul L (po_der Q) t).natAbs ≤ 5 * 12000000 := zb_mm2 (by omega) (m1 t)
  omega
end
theorem fd_TD_i {A G X : po_P} {g : Nat} (hG : zp_n g G) (e : A = po_mul G X) (fX : po_fin 0 X) (hg : ∀ t, (G t).natAbs ≤ 60000) (hX : ∀ t, (X t).natAbs ≤ 100000000) : fd_TQ A G X := by
  refine ⟨fX, by rw [e, zp_mulc], fun e1 p1 p2 s => ?_⟩
  have := zb_mm2 (hg e1) (hX s)
  omega
theorem pz_self {n : Nat} {W A : po_P} (h : zp_n n W) (hA : fd_pz W A) : A = W := by
  rcases hA with ⟨z, _⟩ | ⟨c, c0, _, c2, d, _, d1, d2⟩
  · exact absurd (z n) (zp_n_t h).1
  · have c1 : c ∣ 1 := h.1 c (fun i => ⟨A i, c2 i⟩)
    have dn : d = n := by
      have : zp_t d W := ⟨fun z => by
        rw [c2 d] at z
        rcases Int.mul_eq_zero.mp z with y | y
        · exact c0 y
        · omega, fun i hi => by rw [c2 i, d2 i hi, Int.mul_zero]⟩
      exact zp_t_u this (zp_n_t h)
    subst dn
    have pos := h.2.1
    have := c2 d
    have cp : 0 < c := by
      rw [this] at pos
      exact Int.pos_of_mul_pos_left pos d1
    have := Int.le_of_dvd (by omega) c1
    have : c = 1 := by omega
    funext i
    rw [c2 i, this]; omega
theorem zp_cb_cD {r c : Int} {F D D' : po_P} (h : zp_cb r F D) (e : D = po_mul (po_C c) D') : zp_cb r F D' := by
  obtain ⟨U, V, f1, f2, k⟩ := h
  rw [e, ← zp_mula] at k
  exact ⟨U, _, f1, po_fin_mul f2 (po_fin_C _ _), k⟩
theorem fd_try_n {p : Int} {A B T : po_P} (h : fd_try p A B T) : ∃ e, zp_n e T := by
  obtain ⟨γ, la, _, _, hpp⟩ := h
  have pr := zp_pp hpp
  obtain ⟨c, _, _, _, e, _, e1, e2⟩ := hpp
  exact ⟨e, pr, e1, e2⟩
theorem pt_gc {n : Nat} {W L Q : po_P} {i j dL dQ : Nat} (hn1 : 1 ≤ n) (hn : n ≤ 5) (hW : zp_n n W) (hb : ∀ t, (W t).natAbs ≤ 20) (h : zp_pat n W L Q (i + 1) (j + 1) dL dQ) {A' B' T : po_P} (hA : fd_pz W A') (hB : fd_pz (po_der W) B') (hT : fd_gc A' B' T) : T = po_mul (po_pow L i) (po_pow Q j) := by
  have := pz_self hW hA
  subst this
  obtain ⟨n', rfl⟩ : ∃ n', n = n' + 1 := ⟨n - 1, by omega⟩
  have tD := zp_der_t (zp_n_t hW)
  have hB' : fd_pp (po_der A') B' := by
    rcases hB with ⟨z, _⟩ | z
    · exact absurd (z n') tD.1
    · exact z
  have prB := zp_pp hB'
  obtain ⟨c, c0, _, c2, d, _, d1, d2⟩ := hB'
  have hgT : fd_gT A' B' T := by
    rcases hT with ⟨z, _⟩ | ⟨_, z, _⟩ | ⟨_, _, z⟩
    · exact absurd (z (n' + 1)) (zp_n_t hW).1
    · exact absurd (z d) (by omega)
    · exact z
  obtain ⟨eW, nG, nF, dg⟩ := pt_deg h
  have bG := zb_all (n := n' + 1) (zp_n_t nG) (zp_n_t nF) eW (by omega) hb
  have bF := zb_all (n := n' + 1) (T := po_mul L Q) (zp_n_t nF) (zp_n_t nG) (by rw [zp_mulc]; exact eW) (by omega) hb
  have eD : po_der A' = po_mul (po_mul (po_pow L i) (po_pow Q j)) (pt_D L Q i j) := by
    have := congrArg po_der h.1
    rw [zp_der_pp] at this
    exact this
  have eB : po_der A' = po_mul (po_C c) B' := by funext t; rw [po_mul_C]; exact c2 t
  have fF : po_fin 0 (po_mul L Q) := zp_n_fin nF
  have fB : po_fin 0 B' := po_fin_0 (n := d + 1) (fun t ht => d2 t (by omega))
  obtain ⟨D', x1, x2⟩ := zp_gauss (A := B') nG.1 c0 (eB.symm.trans eD)
  have fL : po_fin 0 L := zp_n_fin h.2.1
  have fQ : po_fin 0 Q := zp_n_fin h.2.2.1
  have fD : po_fin 0 (pt_D L Q i j) := po_fin_add (po_fin_mul (po_fin_C _ _) (po_fin_mul (po_der_fin fL) fQ)) (po_fin_mul (po_fin_C _ _) (po_fin_mul fL (po_der_fin fQ)))
  have fD' : po_fin 0 D' := zp_fin_q c0 x1 fD
  have bD' : ∀ t, (D' t).natAbs ≤ 100000000 := fun t => zb_abs (x := D' t) (y := c) (by rw [x1, po_mul_C]; exact Int.mul_comm _ _) c0 (pt_bD hn hb h t)
  have TD : fd_TD A' (po_mul (po_pow L i) (po_pow Q j)) ∧ fd_TD B' (po_mul (po_pow L i) (po_pow Q j)) := ⟨⟨_, fd_TD_i nG eW fF bG (fun t => by have := bF t; omega)⟩, ⟨_, fd_TD_i nG x2 fD' bG bD'⟩⟩
  by_cases hS : dL = 0 ∧ j = 0
  · obtain ⟨s1, s2⟩ := hS
    subst s1
    subst s2
    have eL := zp_n0 h.2.1
    have eG : po_mul (po_pow L i) (po_pow Q 0) = po_C 1 := by
      rw [eL, zp_pow_1]; exact zp_1m _
    rw [eG] at eW x2 TD ⊢
    rw [zp_1m] at eW x2
    have sf : zp_sf A' := by rw [eW]; exact h.2.2.2.1
    -- the number R
    obtain ⟨r, r0, r1, r2, r3⟩ : ∃ r : Int, r ≠ 0 ∧ r.natAbs ≤ 3950405222400000000 ∧ zp_cb r A' (po_der A') ∧ ∀ T e, zp_n e T → 1 ≤ e → fd_D A' T → fd_D B' T → (2 : Int) ^ 64 ∣ r := by
      by_cases n0 : n' = 0
      · subst n0
        refine ⟨A' 1, (zp_n_t hW).1, by have := hb 1; omega, ⟨po_C 0, po_C 1, po_fin_C _ _, po_fin_C _ _, ?_⟩, fun T e hT he _ hD => ?_⟩
        · rw [pt_dL (zp_n_t hW).2]
          funext s
          show po_mul _ _ s + po_mul _ _ s = _
          rw [po_mul_C, po_mul_C]; omega
        · exfalso
          obtain ⟨q, e1, t1, t2, q1, q2, q3⟩ := hD
          have e1e : e1 = e := zp_t_u ⟨by omega, t2⟩ (zp_n_t hT)
          have B0 : ∀ t, 0 < t → B' t = 0 := fun t ht => by
            have := tD.2 t ht
            rw [c2 t] at this
            exact (Int.mul_eq_zero.mp this).resolve_left c0
          have qz : q = fun _ => 0 := by funext t; exact q3 0 B0 t (by omega)
          have h1 := q1 0
          rw [qz, po_mul_zL] at h1
          have d0 : d = 0 := Classical.byContradiction (fun z => by have := B0 d (by omega); omega)
          rw [d0] at d1
          have hb1 := hb 1
          have c20 : A' 1 = c * B' 0 := by
            have := c2 0
            simpa [po_der] using this
          have := zb_abs (x := B' 0) (y := c) (w := A' 1) (by rw [c20]; exact Int.mul_comm _ _) c0 hb1
          omega
      · obtain ⟨U, V, f1, f2, e2⟩ := rz_F_cb (n := n') (F := A') (by omega) (by omega) (zp_n_t hW).2
        refine ⟨rz_F n' A', rz_F_n0 (by omega) (zp_n_t hW) sf, ?_, ⟨U, V, f1, f2, e2⟩, fun T e hT he h1 h2 => rz_WF (by omega) (zp_n_t hW) hb c2 he hT h1 h2⟩
        by_cases n4 : n' = 4
        · subst n4; exact rz_F5 (zp_n_t hW).2 hb
        · have := rz_F4 (B := 20) (by omega) (zp_n_t hW).2 hb (by omega)
          omega
    have r2' : zp_cb r A' B' := zp_cb_cD r2 eB
    have n1 := zp_n1
    have b1 : ∀ t, (po_C 1 t).natAbs ≤ 60000 := fun t => by simp only [po_C]; split <;> decide
    have tr : ∀ p : Int, po_prime p → 10000000 ≤ p → ¬ p ∣ r → ∀ T, fd_try p A' B' T → T = po_C 1 := fun p hp hp2 hpr T ht =>
      fd_try_G hp hp2 n1 (F := A') (D := B') (zp_1m _).symm (zp_1m _).symm (zp_n_fin hW) fB r2' hpr b1 hb ht
    rcases hgT with ⟨t1, t2, t3⟩ | ⟨⟨T1, t1, t2⟩, t3⟩
    · obtain ⟨e, he⟩ := fd_try_n t1
      by_cases e0 : e = 0
      · subst e0; exact zp_n0 he
      · exfalso
        have := r3 T e he (by omega) t2 t3
        have := Nat.le_of_dvd (by omega) (Int.natAbs_dvd_natAbs.mpr this)
        have e64 : ((2 : Int) ^ 64).natAbs = 18446744073709551616 := by decide
        omega
    · by_cases d1 : (2147483647 : Int) ∣ r
      · refine tr 2147483629 pm_2 (by decide) (fun d2 => ?_) T t3
        obtain ⟨x, hx⟩ := d1
        rw [hx] at d2
        rcases (po_prime_dom pm_2).2 _ _ d2 with z | z
        · exact absurd z (by decide)
        · obtain ⟨y, hy⟩ := z
          rw [hy] at hx
          have y0 : y ≠ 0 := fun z => r0 (by rw [hx, z]; rfl)
          rw [hx] at r1
          omega
      · exfalso
        have := tr 2147483647 pm_1 (by decide) d1 T1 t1
        rw [this] at t2
        exact t2 TD
  · obtain ⟨r, hr1, hr2⟩ := pt_rD hn hb h hS
    have tr : ∀ T, fd_try 2147483647 A' B' T → T = po_mul (po_pow L i) (po_pow Q j) := fun T ht =>
      fd_try_G pm_1 (by decide) nG eW x2 fF fD' (zp_cb_cD hr2 x1) hr1 bG hb ht
    rcases hgT with ⟨t1, _, _⟩ | ⟨⟨T1, t1, t2⟩, _⟩
    · exact tr T t1
    · exfalso
      rw [tr T1 t1] at t2
      exact t2 TD
end
section
/-! a good prime exists for LEFT; good and bad exclude each other -/
theorem pt_cp {n : Nat} {W L Q : po_P} {i j dL dQ : Nat} (hn : n ≤ 5) (hb : ∀ t, (W t).natAbs ≤ 20) (h : zp_pat n W L Q (i + 1) (j + 1) dL dQ) (hbad : ∀ k, k < 29 → fd_bad (pm_L.getD k 0 : Nat) (po_mul L Q)) : False := by
  obtain ⟨eW, nG, nF, dg⟩ := pt_deg h
  have sf := h.2.2.2.1
  have d1 := h.2.2.2.2.1
  have eW' : W = po_mul (po_mul L Q) (po_mul (po_pow L i) (po_pow Q j)) := by rw [zp_mulc]; exact eW
  have tF := zp_n_t nF
  have lead := zb_lead tF (zp_n_t nG) eW' hb
  have bF := zb_all (n := n) tF (zp_n_t nG) eW' (by omega) hb
  obtain ⟨r, r0, r1, r2⟩ : ∃ r : Int, r ≠ 0 ∧ r.natAbs ≤ 2348273369088000000000000000000000000 ∧ zp_cb r (po_mul L Q) (po_der (po_mul L Q)) := by
    have f1 : 1 ≤ dL + dQ := by omega
    generalize dL + dQ = f at *
    match f, f1, nF, tF with
    | 1, _, _, tF =>
      refine ⟨po_mul L Q 1, tF.1, by have := bF 1; omega, po_C 0, po_C 1, po_fin_C _ _, po_fin_C _ _, ?_⟩
      rw [pt_dL tF.2]
      funext s
      show po_mul _ _ s + po_mul _ _ s = _
      rw [po_mul_C, po_mul_C]; omega
    | f + 2, _, nF, tF =>
      obtain ⟨U, V, f1, f2, e2⟩ := rz_F_cb (n := f + 1) (F := po_mul L Q) (by omega) (by omega) tF.2
      refine ⟨rz_F (f + 1) (po_mul L Q), rz_F_n0 (by omega) tF sf, ?_, U, V, f1, f2, e2⟩
      by_cases f3 : f = 3
      · subst f3
        have g0 : dL * i + dQ * j = 0 := by omega
        rw [g0] at nG
        rw [zp_n0 nG, zp_1m] at eW
        exact Nat.le_trans (rz_F5 tF.2 (by rw [← eW]; exact hb)) (by decide)
      · have := rz_F4 (B := 60000) (by omega) tF.2 bF (by omega)
        omega
  have dv : ∀ k, k < 29 → ((pm_L.getD k 0 : Nat) : Int) ∣ po_mul L Q (dL + dQ) * r := fun k hk => pm_bad (pm_L_prime hk) tF (zp_cb_p _ r2) (hbad k hk)
  have := pm_big dv (by
    have := zb_mm2 lead r1
    omega)
  rcases Int.mul_eq_zero.mp this with z | z
  · exact tF.1 z
  · exact r0 z
theorem fd_gb {p : Int} (hp : po_prime p) {L : po_P} (h : fd_good p L) (k : fd_bad p L) : False := by
  obtain ⟨h1, h2⟩ := h
  rcases k with ⟨d, k1, k2, k3⟩ | ⟨g, k, k1, k2, k3, k4, k5⟩
  · exact h1 d k1 k2 k3
  · obtain ⟨_, _, g3, g4, _⟩ := k1
    exact po_mo_n1 (fd_top_mo k4 k5) k2 (po_prime_dom hp).1 (po_dv_cb g3 g4 h2)
theorem fd_good_u {L : po_P} {k k' : Nat} (hk : k < 29) (hk' : k' < 29) (h : fd_good (pm_L.getD k 0 : Nat) L) (b : ∀ j, j < k → fd_bad (pm_L.getD j 0 : Nat) L) (h' : fd_good (pm_L.getD k' 0 : Nat) L) (b' : ∀ j, j < k' → fd_bad (pm_L.getD j 0 : Nat) L) : k = k' := by
  rcases Nat.lt_trichotomy k k' with z | z | z
  · exact (fd_gb (pm_L_prime hk) h (b' k z)).elim
  · exact z
  · exact (fd_gb (pm_L_prime hk') h' (b k' z)).elim
end
section
/-! lifted factors are unique -/
theorem ga_h1 {R : Type} [Lean.Grind.CommRing R] {u w u' w' q p δ ε x : R} (h1 : u' = u + q * δ) (h2 : w' = w + q * ε) (h : u' * w' = u * w + q * p * x) : q * (u * ε + w * δ + q * (δ * ε)) = q * (p * x) := by grind
theorem ga_h2 {R : Type} [Lean.Grind.CommRing R] {u w p δ ε x U V y q q' o : R} (h : u * ε + w * δ + q * (δ * ε) = p * x) (hq : q = p * q') (k : o = U * u + V * w + p * y) (ho : o = 1) : δ = u * (U * δ - V * ε) + p * (V * x - V * (q' * (δ * ε)) + y * δ) := by grind
theorem ga_h3 {R : Type} [Lean.Grind.CommRing R] {u w p δ ε x q q' δ' : R} (h : u * ε + w * δ + q * (δ * ε) = p * x) (hq : q = p * q') (hd : δ = 0 + p * δ') : u * ε = 0 + p * (x - w * δ' - q' * (δ * ε)) := by grind
theorem hu_two {P : Nat} (hp : po_prime P) {u u' w w' : po_P} {d : Nat} (hu : u d = 1 ∧ ∀ i, d < i → u i = 0) (hu' : u' d = 1 ∧ ∀ i, d < i → u' i = 0) (fw : po_fin 0 w) (fw' : po_fin 0 w') (hc : po_cb P u w (po_C 1)) (e1 : po_eq P u' u) (e2 : po_eq P w' w) : ∀ K, po_eq ((P : Int) ^ K) (po_mul u' w') (po_mul u w) → po_eq ((P : Int) ^ K) u' u ∧ po_eq ((P : Int) ^ K) w' w
  | 0, _ => ⟨fun i => by rw [Int.pow_zero]; exact Int.one_dvd _, fun i => by rw [Int.pow_zero]; exact Int.one_dvd _⟩
  | 1, _ => by rw [Int.pow_succ, Int.pow_zero, Int.one_mul]; exact ⟨e1, e2⟩
  | K + 2, h => by
    have dom := po_prime_dom hp
    have p1 := hp.1
    have pK : ((P : Int) ^ (K + 1)) ∣ (P : Int) ^ (K + 2) := ⟨P, Int.pow_succ (P : Int) (K + 1)⟩
    obtain ⟨i1, i2⟩ := hu_two hp hu hu' fw fw' hc e1 e2 (K + 1) (po_eq_dvd pK h)
    obtain ⟨δ, hδ⟩ := po_eq_ex i1
    obtain ⟨ε, hε⟩ := po_eq_ex i2
    obtain ⟨x, hx⟩ := po_eq_ex h
    have q0 : (P : Int) ^ (K + 1) ≠ 0 := Int.pow_ne_zero (by omega)
    have cq : po_C ((P : Int) ^ (K + 2)) = po_mul (po_C ((P : Int) ^ (K + 1))) (po_C P) := by rw [← po_C_mul]; rfl
    rw [cq] at hx
    have k1 := zp_can ⟨0, by simpa [po_C] using q0⟩ (@ga_h1 po_P po_ring _ _ _ _ _ _ _ _ _ hδ hε hx)
    have hq : po_C ((P : Int) ^ (K + 1)) = po_mul (po_C P) (po_C ((P : Int) ^ K)) := by rw [← po_C_mul, Int.pow_succ, Int.mul_comm]
    obtain ⟨U, V, f1, f2, hcb⟩ := hc
    obtain ⟨y, hy⟩ := po_eq_ex hcb
    have fu : po_fin 0 u := po_fin_0 (n := d + 1) (fun i hi => hu.2 i (by omega))
    -- finiteness of the two differences
    have dif : ∀ (a b c : po_P) (q : Int), q ≠ 0 → a = po_add b (po_mul (po_C q) c) → ∀ i, q * c i = a i - b i := fun a b c q _ e i => by
      have := congrFun e i
      have e2 : a i = b i + po_mul (po_C q) c i := this
      rw [po_mul_C] at e2; omega
    have dδ := dif u' u δ _ q0 hδ
    have dε := dif w' w ε _ q0 hε
    have δ0 : ∀ i, d ≤ i → δ i = 0 := fun i hi => by
      have := dδ i
      have e : u' i - u i = 0 := by
        by_cases z : i = d
        · rw [z, hu.1, hu'.1]; rfl
        · rw [hu.2 i (by omega), hu'.2 i (by omega)]; rfl
      rw [e] at this
      exact (Int.mul_eq_zero.mp this).resolve_left q0
    have fδ : po_fin 0 δ := po_fin_0 δ0
    have fε : po_fin 0 ε := by
      obtain ⟨a, ha⟩ := zp_fin fw
      obtain ⟨b, hb⟩ := zp_fin fw'
      refine po_fin_0 (n := max a b) (fun i hi => ?_)
      have := dε i
      rw [ha i (by omega), hb i (by omega)] at this
      exact (Int.mul_eq_zero.mp (show _ = (0 : Int) by omega)).resolve_left q0
    have k2 := @ga_h2 po_P po_ring _ _ _ _ _ _ _ _ _ _ _ (po_C 1) k1 hq hy rfl
    have dv : po_dv P u δ := ⟨_, po_fin_sub (po_fin_mul f1 (zp_fin_m fδ)) (po_fin_mul f2 (zp_fin_m fε)), po_ex_eq k2⟩
    have mu : po_mo P d u := fd_top_mo hu.1 hu.2
    have δp : ∀ i, (P : Int) ∣ δ i := po_mo_lt mu dv (fun i hi => by rw [δ0 i hi]; exact Int.dvd_zero _)
    have eδ : po_eq P δ (po_C 0) := fun i => by
      have := δp i
      simpa [po_C] using this
    obtain ⟨δ', hδ'⟩ := po_eq_ex eδ
    have k3 := @ga_h3 po_P po_ring _ _ _ _ _ _ _ _ _ k1 hq hδ'
    have εp : ∀ i, (P : Int) ∣ ε i := po_can0 dom ⟨d, by rw [hu.1]; exact dom.1⟩ (fun i => (po_eq_i (po_ex_eq k3) i).mpr (by show (P : Int) ∣ po_C 0 i; simp [po_C]))
    have fin : ∀ (a b c : po_P), (∀ i, (P : Int) ^ (K + 1) * c i = a i - b i) → (∀ i, (P : Int) ∣ c i) → po_eq ((P : Int) ^ (K + 2)) a b := fun a b c e1 e2 i => by
      rw [← e1 i, Int.pow_succ (P : Int) (K + 1)]
      exact Int.mul_dvd_mul_left _ (e2 i)
    exact ⟨fin _ _ _ dδ δp, fin _ _ _ dε εp⟩
theorem ga_sfdm {R : Type} [Lean.Grind.CommRing R] {u t y v t' y' c m z : R} (h : c = u * (t * y) + v * (t' * y + t * y') + m * z) : c = (u * y + v * y') * t + (v * y) * t' + m * z ∧ c = (u * y + v * y') * t + (v * t') * y + m * z := by
  constructor <;> grind
theorem po_sqf_d {m : Int} {T Y : po_P} (h : po_sqf m (po_mul T Y)) (fT : po_fin m T) (fY : po_fin m Y) : po_sqf m T ∧ po_cb m T Y (po_C 1) := by
  obtain ⟨U, V, f1, f2, e⟩ := h
  rw [po_der_mul] at e
  obtain ⟨z, hz⟩ := po_eq_ex e
  obtain ⟨a, b⟩ := @ga_sfdm po_P po_ring _ _ _ _ _ _ _ _ _ hz
  have g1 := po_fin_add (po_fin_mul f1 fY) (po_fin_mul f2 (po_der_fin fY))
  exact ⟨⟨_, _, g1, po_fin_mul f2 fY, po_ex_eq a⟩, ⟨_, _, g1, po_fin_mul f2 (po_der_fin fT), po_ex_eq b⟩⟩
theorem ga_cbl {R : Type} [Lean.Grind.CommRing R] {o U u V B m z e ld y : R} (h : o = U * u + V * B + m * z) (k : e * ld = o + m * y) (ho : o = 1) : o = U * u + (V * e) * (ld * B) + m * (z - V * B * y) := by grind
theorem ga_pl {R : Type} [Lean.Grind.CommRing R] {l p v : R} : l * (p * v) = v * (l * p) := by grind
/-- the lifted pieces are determined by the product and the pieces modulo P -/
theorem hu_all {P K : Nat} (hp : po_prime P) {ld : Int} (hld : ¬ (P : Int) ∣ ld) {Pc V V' : Nat → po_P} {dg : Nat → Nat} : ∀ l, la_V P K Pc V dg l → la_V P K Pc V' dg l → po_sqf P (po_prod V l) → po_eq ((P : Int) ^ K) (po_mul (po_C ld) (po_prod V' l)) (po_mul (po_C ld) (po_prod V l)) → ∀ j, j < l → V' j = V j
  | 0, _, _, _, _ => fun j hj => absurd hj (by omega)
  | l + 1, h, h', hs, e => by
    have dom := po_prime_dom hp
    obtain ⟨v1, v2, v3, v4⟩ := h l (by omega)
    obtain ⟨w1, w2, w3, w4⟩ := h' l (by omega)
    have finV : ∀ (m : Int) (V : Nat → po_P), la_V P K Pc V dg (l + 1) → ∀ j, j < l + 1 → po_fin m (V j) := fun m V h j hj => po_fin_0 (n := dg j + 1) (fun i hi => (h j hj).2.2.1 i (by omega))
    have fp : ∀ (m : Int) (V : Nat → po_P), la_V P K Pc V dg (l + 1) → po_fin m (po_prod V l) := fun m V h => po_prod_fin l (fun j hj => finV m V h j (by omega))
    rw [po_prod] at hs
    have hs2 : po_sqf P (po_mul (V l) (po_prod V l)) := by rw [zp_mulc]; exact hs
    obtain ⟨_, c1⟩ := po_sqf_d hs2 (finV _ V h l (by omega)) (fp _ V h)
    obtain ⟨s1, _⟩ := po_sqf_d hs (fp _ V h) (finV _ V h l (by omega))
    obtain ⟨b, hb⟩ := nt_inv hp hld
    have c2 : po_cb P (V l) (po_mul (po_C ld) (po_prod V l)) (po_C 1) := by
      obtain ⟨U, X, f1, f2, ec⟩ := c1
      obtain ⟨z, hz⟩ := po_eq_ex ec
      have e2 : po_eq P (po_mul (po_C b) (po_C ld)) (po_C 1) := by rw [← po_C_mul]; exact po_C_eq hb
      obtain ⟨y, hy⟩ := po_eq_ex e2
      exact ⟨U, _, f1, po_fin_mul f2 (po_fin_C _ _), po_ex_eq (@ga_cbl po_P po_ring (po_C 1) _ _ _ _ _ _ _ _ _ hz hy rfl)⟩
    have pr : ∀ k, k ≤ l → po_eq P (po_prod V' k) (po_prod V k) := by
      intro k
      induction k with
      | zero => intro _; exact po_eq_r _ _
      | succ k ih => intro hk; exact po_eq_mul (ih (by omega)) (po_eq_t (h' k (by omega)).2.2.2 (po_eq_s (h k (by omega)).2.2.2))
    have e' : po_eq ((P : Int) ^ K) (po_mul (V' l) (po_mul (po_C ld) (po_prod V' l))) (po_mul (V l) (po_mul (po_C ld) (po_prod V l))) := by
      have a1 : po_mul (po_C ld) (po_prod V' (l + 1)) = po_mul (V' l) (po_mul (po_C ld) (po_prod V' l)) := @ga_pl po_P po_ring _ _ _
      have a2 : po_mul (po_C ld) (po_prod V (l + 1)) = po_mul (V l) (po_mul (po_C ld) (po_prod V l)) := @ga_pl po_P po_ring _ _ _
      rw [← a1, ← a2]; exact e
    obtain ⟨k1, k2⟩ := hu_two hp ⟨v2, v3⟩ ⟨w2, w3⟩ (po_fin_mul (po_fin_C _ _) (fp 0 V h)) (po_fin_mul (po_fin_C _ _) (fp 0 V' h')) c2 (po_eq_t w4 (po_eq_s v4)) (po_eq_mul (po_eq_r _ _) (pr l (by omega))) K e'
    intro j hj
    by_cases z : j = l
    · rw [z]; exact fd_rd_eq w1 v1 k1
    · exact hu_all hp hld l (fun j hj => h j (by omega)) (fun j hj => h' j (by omega)) s1 k2 j (by omega)
end
section
/-! a wrapping division that is small enough is a true one -/
theorem zb_qT {T : po_P} {B : Nat} (hT : ∀ i, (T i).natAbs ≤ B) : ∀ (j : Nat) (q : po_P) (S : Nat), (∀ k, 4 ≤ k → q k = 0) → (q 0).natAbs + (q 1).natAbs + (q 2).natAbs + (q 3).natAbs ≤ S → (po_mul q T j).natAbs ≤ S * B := by
  have m : ∀ (x : Int) (t : Nat), (x * T t).natAbs ≤ x.natAbs * B := fun x t => by rw [Int.natAbs_mul]; exact Nat.mul_le_mul_left _ (hT t)
  intro j q S hq hS
  have z4 : ∀ k, po_sh (po_sh (po_sh (po_sh q))) k = 0 := fun k => hq _ (by omega)
  have z : po_sh (po_sh (po_sh (po_sh q))) = fun _ => 0 := by funext k; exact z4 k
  have e : (po_mul q T j).natAbs ≤ ((q 0).natAbs + (q 1).natAbs + (q 2).natAbs + (q 3).natAbs) * B := by
    rw [Nat.add_mul, Nat.add_mul, Nat.add_mul]
    match j with
    | 0 =>
      show (q 0 * T 0).natAbs ≤ _
      have := m (q 0) 0
      omega
    | 1 =>
      show (q 0 * T 1 + q 1 * T 0).natAbs ≤ _
      have := m (q 0) 1
      have := m (q 1) 0
      omega
    | 2 =>
      show (q 0 * T 2 + (q 1 * T 1 + q 2 * T 0)).natAbs ≤ _
      have := m (q 0) 2
      have := m (q 1) 1
      have := m (q 2) 0
      omega
    | 3 =>
      show (q 0 * T 3 + (q 1 * T 2 + (q 2 * T 1 + q 3 * T 0))).natAbs ≤ _
      have := m (q 0) 3
      have := m (q 1) 2
      have := m (q 2) 1
      have := m (q 3) 0
      omega
    | j + 4 =>
      have e : po_mul q T (j + 4) = q 0 * T (j + 4) + (q 1 * T (j + 3) + (q 2 * T (j + 2) + (q 3 * T (j + 1) + po_mul (po_sh (po_sh (po_sh (po_sh q)))) T j))) := rfl
      rw [e, z, po_mul_zL]
      have := m (q 0) (j + 4)
      have := m (q 1) (j + 3)
      have := m (q 2) (j + 2)
      have := m (q 3) (j + 1)
      omega
  exact Nat.le_trans e (Nat.mul_le_mul_right B hS)
/-- one step: the wrapped leading product is exact -/
theorem sz_st {x z w : Int} {c : Nat} (h : (18446744073709551616 : Int) ∣ x - (z + w)) (hw : -9223372036854775808 ≤ w ∧ w < 9223372036854775808) (hc : (x - z).natAbs ≤ c) (c63 : c < 9223372036854775808) : x = z + w ∧ w.natAbs ≤ c := by
  have : x - z = w := rz_in (by rwa [show x - z - w = x - (z + w) by omega]) (by omega) hw
  omega
theorem sz_le {y t : Int} {c : Nat} (ht : 0 < t) (h : (y * t).natAbs ≤ c) : y.natAbs ≤ c := by
  rw [Int.natAbs_mul] at h
  have : y.natAbs * 1 ≤ y.natAbs * t.natAbs := Nat.mul_le_mul_left _ (by omega)
  omega
theorem sz_true {A T : po_P} {D e a B H C0 C1 C2 C3 : Nat} {M : Int} (hA : ∀ i, D < i → A i = 0) (hAb : ∀ i, (A i).natAbs ≤ a) (hTb : ∀ i, (T i).natAbs ≤ B) (hTe : 0 < T e) (hT0 : ∀ i, e < i → T i = 0) (he : 1 ≤ e) (hD : D ≤ e + 3)
    (hH : ∀ q0, q0 * T e = A D → q0.natAbs ≤ C0 ∧ ∀ s, (q0 * T s).natAbs ≤ H) (n1 : a + H ≤ C1) (n2 : a + H + C1 * B ≤ C2) (n3 : a + H + C1 * B + C2 * B ≤ C3) (n4 : C3 < 9223372036854775808) (n5 : ((a + (C0 + C1 + C2 + C3) * B : Nat) : Int) < 18446744073709551616 * M)
    (hM : ∃ X, po_fin M X ∧ po_eq M A (po_mul X T)) (hl : ∀ x, M ∣ x * T e → M ∣ x) (hc : ∀ r, (18446744073709551616 : Int) ∣ r → M ∣ r → 18446744073709551616 * M ∣ r) (h : fd_D A T) : fd_TD A T := by
  obtain ⟨q, e', t1, t2, q1, q2, q3⟩ := h
  have ee : e' = e := zp_t_u ⟨by omega, t2⟩ ⟨by omega, hT0⟩
  subst ee
  have q0 := q3 D hA
  have fq : po_fin 0 q := po_fin_0 (n := D + 1) (fun i hi => q0 i (by omega))
  have aC : a ≤ C1 := by omega
  have C12 : C1 ≤ C2 ∨ B = 0 := by
    by_cases z : B = 0
    · exact Or.inr z
    · have : C1 * 1 ≤ C1 * B := Nat.mul_le_mul_left _ (by omega)
      exact Or.inl (by omega)
  have Bpos : 1 ≤ B := by have := hTb e'; omega
  have C23 : C2 ≤ C3 := by
    have : C2 * 1 ≤ C2 * B := Nat.mul_le_mul_left _ (by omega)
    omega
  -- exactness of the upper coefficients
  have ex : (∀ i, e' ≤ i → A i = po_mul q T i) ∧ (q 0).natAbs + (q 1).natAbs + (q 2).natAbs + (q 3).natAbs ≤ C0 + C1 + C2 + C3 := by
    by_cases hDe : D < e'
    · have z : q = fun _ => 0 := by funext i; exact q0 i (by omega)
      refine ⟨fun i hi => ?_, by rw [z]; simp⟩
      rw [z, po_mul_zL]; exact hA i (by omega)
    · obtain ⟨tp, rfl⟩ : ∃ tp, D = e' + tp := ⟨D - e', by omega⟩
      have rv := rz_rv_mul (s := T) (k := e') hT0 tp q (fun i hi => q0 i (by omega))
      have co : ∀ s, s ≤ tp → po_mul q T (e' + (tp - s)) = po_mul (rz_rv tp q) (rz_rv e' T) s := fun s hs => by
        rw [rv, rz_rv_i (by omega)]; congr 1; omega
      have cg : ∀ s, s ≤ tp → (18446744073709551616 : Int) ∣ A (e' + (tp - s)) - po_mul (rz_rv tp q) (rz_rv e' T) s := fun s hs => by
        rw [← co s hs]; exact q1 _
      have y : ∀ s, s ≤ tp → rz_rv tp q s = q (tp - s) := fun s hs => rz_rv_i hs
      have t0 : rz_rv e' T 0 = T e' := rz_rv_i (Nat.zero_le _)
      have tb : ∀ s, (rz_rv e' T s).natAbs ≤ B := fun s => by
        by_cases z : s ≤ e'
        · rw [rz_rv_i z]; exact hTb _
        · rw [rz_rv_o (by omega)]; exact Nat.zero_le _
      have rg : ∀ s, s ≤ tp → -9223372036854775808 ≤ rz_rv tp q s * rz_rv e' T 0 ∧ rz_rv tp q s * rz_rv e' T 0 < 9223372036854775808 := fun s hs => by
        rw [t0, y s hs, Int.mul_comm]; exact q2 _
      have tpos : 0 < rz_rv e' T 0 := by rw [t0]; exact hTe
      have s0 : A (e' + tp) = rz_rv tp q 0 * rz_rv e' T 0 := by
        have h1 := cg 0 (by omega)
        rw [po_mul_0] at h1
        have := hAb (e' + (tp - 0))
        have h2 := rz_in h1 (by omega) (rg 0 (by omega))
        exact h2
      obtain ⟨b0, bH⟩ := hH (rz_rv tp q 0) (by rw [s0, t0])
      have bH' : ∀ s, (rz_rv tp q 0 * rz_rv e' T s).natAbs ≤ H := fun s => by
        by_cases z : s ≤ e'
        · rw [rz_rv_i (d := e') z]; exact bH _
        · rw [rz_rv_o (d := e') (by omega), Int.mul_zero]; exact Nat.zero_le _
      have s1 : (1 ≤ tp → A (e' + (tp - 1)) = po_mul (rz_rv tp q) (rz_rv e' T) 1) ∧ (rz_rv tp q 1).natAbs ≤ C1 := by
        by_cases z : 1 ≤ tp
        · have h1 := cg 1 z
          have ex : po_mul (rz_rv tp q) (rz_rv e' T) 1 = rz_rv tp q 0 * rz_rv e' T 1 + rz_rv tp q 1 * rz_rv e' T 0 := by rw [po_mul_s, po_mul_0]; rfl
          rw [ex] at h1 ⊢
          have h2 := hAb (e' + (tp - 1))
          have h3 := bH' 1
          obtain ⟨k1, k2⟩ := sz_st (c := C1) h1 (rg 1 z) (by omega) (by omega)
          exact ⟨fun _ => k1, sz_le tpos k2⟩
        · exact ⟨fun w => absurd w z, by rw [rz_rv_o (by omega)]; exact Nat.zero_le _⟩
      have s2 : (2 ≤ tp → A (e' + (tp - 2)) = po_mul (rz_rv tp q) (rz_rv e' T) 2) ∧ (rz_rv tp q 2).natAbs ≤ C2 := by
        by_cases z : 2 ≤ tp
        · have h1 := cg 2 z
          have ex : po_mul (rz_rv tp q) (rz_rv e' T) 2 = (rz_rv tp q 0 * rz_rv e' T 2 + rz_rv tp q 1 * rz_rv e' T 1) + rz_rv tp q 2 * rz_rv e' T 0 := by
            rw [po_mul_s, po_mul_s, po_mul_0, Int.add_assoc]; rfl
          rw [ex] at h1 ⊢
          have h2 := hAb (e' + (tp - 2))
          have h3 := bH' 2
          have h4 := zb_mm2 s1.2 (tb 1)
          obtain ⟨k1, k2⟩ := sz_st (c := C2) h1 (rg 2 z) (by omega) (by omega)
          exact ⟨fun _ => k1, sz_le tpos k2⟩
        · exact ⟨fun w => absurd w z, by rw [rz_rv_o (by omega)]; exact Nat.zero_le _⟩
      have s3 : (3 ≤ tp → A (e' + (tp - 3)) = po_mul (rz_rv tp q) (rz_rv e' T) 3) ∧ (rz_rv tp q 3).natAbs ≤ C3 := by
        by_cases z : 3 ≤ tp
        · have h1 := cg 3 z
          have ex : po_mul (rz_rv tp q) (rz_rv e' T) 3 = (rz_rv tp q 0 * rz_rv e' T 3 + rz_rv tp q 1 * rz_rv e' T 2 + rz_rv tp q 2 * rz_rv e' T 1) + rz_rv tp q 3 * rz_rv e' T 0 := by
            rw [po_mul_s, po_mul_s, po_mul_s, po_mul_0, Int.add_assoc, Int.add_assoc]; rfl
          rw [ex] at h1 ⊢
          have h2 := hAb (e' + (tp - 3))
          have h3 := bH' 3
          have h4 := zb_mm2 s1.2 (tb 2)
          have h5 := zb_mm2 s2.2 (tb 1)
          obtain ⟨k1, k2⟩ := sz_st (c := C3) h1 (rg 3 z) (by omega) (by omega)
          exact ⟨fun _ => k1, sz_le tpos k2⟩
        · exact ⟨fun w => absurd w z, by rw [rz_rv_o (by omega)]; exact Nat.zero_le _⟩
      constructor
      · intro i hi
        by_cases z : e' + tp < i
        · rw [hA i z, (zp_top (f := q) (g := T) (d := tp) (e := e') (fun i hi => q0 i (by omega)) hT0).2 i (by omega)]
        · obtain ⟨s, hs, rfl⟩ : ∃ s, s ≤ tp ∧ i = e' + (tp - s) := ⟨e' + tp - i, by omega, by omega⟩
          rw [co s hs]
          match s, hs with
          | 0, _ => rw [po_mul_0]; exact s0
          | 1, hs => exact s1.1 hs
          | 2, hs => exact s2.1 hs
          | 3, hs => exact s3.1 hs
          | s + 4, hs => omega
      · have y0 := y 0
        match tp, s1, s2, s3, b0, q0, hD with
        | 0, s1, s2, s3, b0, q0, _ =>
          rw [y 0 (by omega)] at b0
          rw [q0 1 (by omega), q0 2 (by omega), q0 3 (by omega)]
          simp only [Nat.sub_self] at b0
          simp only [Int.natAbs_zero]
          omega
        | 1, s1, s2, s3, b0, q0, _ =>
          have a0 : (q 1).natAbs ≤ C0 := by rw [y 0 (by omega)] at b0; exact b0
          have a1 : (q 0).natAbs ≤ C1 := by rw [y 1 (by omega)] at s1; exact s1.2
          rw [q0 2 (by omega), q0 3 (by omega)]
          simp only [Int.natAbs_zero]
          omega
        | 2, s1, s2, s3, b0, q0, _ =>
          have a0 : (q 2).natAbs ≤ C0 := by rw [y 0 (by omega)] at b0; exact b0
          have a1 : (q 1).natAbs ≤ C1 := by rw [y 1 (by omega)] at s1; exact s1.2
          have a2 : (q 0).natAbs ≤ C2 := by rw [y 2 (by omega)] at s2; exact s2.2
          rw [q0 3 (by omega)]
          simp only [Int.natAbs_zero]
          omega
        | 3, s1, s2, s3, b0, q0, _ =>
          have a0 : (q 3).natAbs ≤ C0 := by rw [y 0 (by omega)] at b0; exact b0
          have a1 : (q 2).natAbs ≤ C1 := by rw [y 1 (by omega)] at s1; exact s1.2
          have a2 : (q 1).natAbs ≤ C2 := by rw [y 2 (by omega)] at s2; exact s2.2
          have a3 : (q 0).natAbs ≤ C3 := by rw [y 3 (by omega)] at s3; exact s3.2
          omega
        | tp + 4, _, _, _, _, _, hD => omega
  obtain ⟨ex1, ex2⟩ := ex
  have q4 : ∀ k, 4 ≤ k → q k = 0 := fun k hk => q0 k (by omega)
  -- the rest modulo M
  have rM : ∀ i, M ∣ A i - po_mul q T i := by
    obtain ⟨X, fX, eX⟩ := hM
    have fqM : po_fin M q := zp_fin_m fq
    obtain ⟨dX, hX⟩ := po_fin_sub fX fqM
    have e1 : po_eq M (po_sub A (po_mul q T)) (po_mul (po_sub X q) T) := by
      obtain ⟨x, hx⟩ := po_eq_ex eX
      have := @ga_dsub po_P po_ring X q T
      intro i
      have h1 : po_mul (po_sub X q) T i = po_mul X T i - po_mul q T i := congrFun this i
      rw [h1]
      show M ∣ (A i - po_mul q T i) - (po_mul X T i - po_mul q T i)
      rw [show A i - po_mul q T i - (po_mul X T i - po_mul q T i) = A i - po_mul X T i by omega]
      exact eX i
    have qz := po_quot (m := M) (A := po_sub A (po_mul q T)) (B := T) (e := e') (D := e' - 1) (fun i hi => by rw [hT0 i (by omega)]; exact Int.dvd_zero _) hl (fun i hi => by
      show M ∣ A i - po_mul q T i
      rw [ex1 i (by omega), Int.sub_self]; exact Int.dvd_zero _) dX _ hX e1
    intro i
    exact (po_eq_i e1 i).mpr (po_mul_dv i _ (fun j => qz j (by omega)))
  refine ⟨q, fq, ?_, fun e2 p1 p2 j => ?_⟩
  · funext i
    have h1 := hc _ (q1 i) (rM i)
    have h2 := zb_qT hTb i q _ q4 ex2
    have h3 := hAb i
    apply Classical.byContradiction
    intro z
    have h4 := Int.natAbs_dvd_natAbs.mpr h1
    have h5 := Nat.le_of_dvd (by omega) h4
    have h6 : (A i - po_mul q T i).natAbs ≤ a + (C0 + C1 + C2 + C3) * B := by omega
    have h7 : 0 < 18446744073709551616 * M := Int.lt_of_le_of_lt (Int.natCast_nonneg _) n5
    omega
  · have : e2 = e' := zp_t_u ⟨by omega, p2⟩ ⟨by omega, hT0⟩
    rw [this]; exact q2 j
end
section
/-! a search by the kernel: linear wrapping divisors of polynomials of degree 5 -/
noncomputable def fs_f (x : Nat) (f : Nat → Bool) : Bool := Nat.rec (f 0) (fun k _ => f (Nat.succ k)) x
/-- a full look at one candidate (rare) -/
def fs_full (a g Y b : Nat) : Bool :=
  let r : Int := ((Y + 20 * a) % b : Nat) - 20 * a
  let c0 := r / a
  let y1 := ((Y : Int) - a * c0) / b
  let c1 := (y1 + 20) % b - 20
  let q1 := (y1 - c1) / b
  let c2 := (a * q1 + 20) % b - 20
  let q2 := (a * q1 - c2) / b
  let c3 := (a * q2 + 20) % b - 20
  let q3 := (a * q2 - c3) / b
  let c4 := a * q3 - b * g
  let bad : Bool := (a * c0 == r) && c0 ≤ 20 && -20 ≤ c0 && c1 ≤ 20 && c2 ≤ 20 && c3 ≤ 20 && c4 ≤ 20 && -20 ≤ c4
  !bad || (c0 == 0 && c1 == 0) || (c0 + c1 + c2 + c3 + c4 + a * g == 0 && c1 + 2 * c2 + 3 * c3 + 4 * c4 + 5 * (a * g) == 0) || (c0 - c1 + c2 - c3 + c4 - a * g == 0 && c1 - 2 * c2 + 3 * c3 - 4 * c4 + 5 * (a * g) == 0)
noncomputable def fs_bs (a g Y Z B b : Nat) (n : Nat) : Bool :=
  Nat.rec true (fun k ih => Bool.rec ih (Bool.rec false ih (fs_full a g Y (Nat.add b k))) (Nat.ble (Nat.mod Z (Nat.add b k)) B)) n
noncomputable def fs_t (a g A B Y X r : Nat) : Bool :=
  Bool.rec false (Bool.rec false (fs_f (Nat.add Y A) (fun Z => fs_bs a g Y Z B (Nat.sub r 5) 11)) (Nat.ble (Nat.succ X) (Nat.mul (Nat.pow (Nat.add r 6) 4) (Nat.sub (Nat.mul g (Nat.add r 6)) 21)))) (Nat.ble (Nat.succ (Nat.mul (Nat.pow (Nat.sub r 6) 4) (Nat.add (Nat.mul g (Nat.sub r 6)) 21))) X)
def fs_nx (g X r : Nat) : Nat := Nat.div (Nat.add (Nat.mul 4 r) (Nat.div X (Nat.mul g (Nat.pow r 4)))) 5
def fs_nw (g X r : Nat) (n : Nat) : Nat := Nat.rec r (fun _ x => fs_nx g X x) n
noncomputable def fs_ng (g X t r : Nat) : Nat := Bool.rec (fs_nx g X r) (fs_nw g X r 6) (Nat.ble t 1000)
noncomputable def fs_loop (a g A B N N3 tm : Nat) (n : Nat) : Nat → Bool :=
  Nat.rec (fun _ => true) (fun n ih r => fs_f (fs_ng g (Nat.mul N3 (Nat.sub tm n)) (Nat.sub tm n) r) (fun r' => Bool.rec false (ih r') (fs_t a g A B (Nat.mul N (Nat.sub tm n)) (Nat.mul N3 (Nat.sub tm n)) r'))) n
/-- the powers of the primes of the list that are used -/
def fs_m (k : Nat) : Nat := [177147, 78125, 117649, 161051, 371293, 83521, 130321, 279841, 707281, 923521, 1874161, 2825761, 79507, 103823, 148877, 205379, 226981, 300763, 357911, 389017, 493039, 571787, 704969, 912673, 1030301, 1092727, 1225043, 1295029, 1442897].getD k 0
/-- the greatest t -/
def fs_tm (a g m : Nat) : Nat := (m / (2 * g)) ^ 4 * (g * (m / (2 * g)) + 21) / (a ^ 3 * (2 ^ 64 * m))
noncomputable def fs_all (a g m : Nat) : Bool := fs_f (2 ^ 64 * m) (fun N => fs_f (a ^ 3 * N) (fun N3 => fs_f (fs_tm a g m) (fun tm => fs_f (fs_nw g N3 (m / (2 * g) + 1) 40) (fun r => fs_loop a g (20 * a) (40 * a) N N3 tm tm r))))
end
section
/-! values of polynomials -/
def ev_up (h : po_P) : po_P := fun i => match i with | 0 => 0 | i + 1 => h i
theorem ev_add (f g : po_P) (x : Int) : ∀ n, ∀ f g : po_P, po_ev n (po_add f g) x = po_ev n f x + po_ev n g x
  | 0, _, _ => rfl
  | n + 1, f, g => by
    have e : po_sh (po_add f g) = po_add (po_sh f) (po_sh g) := rfl
    simp only [po_ev]
    rw [e, ev_add f g x n (po_sh f) (po_sh g)]
    simp only [po_add]; grind
theorem ev_sc (c x : Int) : ∀ n, ∀ f : po_P, po_ev n (fun i => c * f i) x = c * po_ev n f x
  | 0, _ => by simp [po_ev]
  | n + 1, f => by
    have e : po_sh (fun i => c * f i) = fun i => c * po_sh f i := rfl
    simp only [po_ev]
    rw [e, ev_sc c x n (po_sh f)]; grind
theorem ev_0 (x : Int) : ∀ n, ∀ f : po_P, (∀ i, f i = 0) → po_ev n f x = 0
  | 0, _, _ => rfl
  | n + 1, f, h => by
    simp only [po_ev]
    rw [h 0, ev_0 x n (po_sh f) (fun i => h (i + 1)), Int.mul_zero]; rfl
theorem ev_ext (x : Int) : ∀ (n k : Nat) (f : po_P), (∀ i, n ≤ i → f i = 0) → po_ev (n + k) f x = po_ev n f x
  | 0, k, f, h => by rw [ev_0 x _ f (fun i => h i (by omega))]; rfl
  | n + 1, k, f, h => by
    rw [show n + 1 + k = (n + k) + 1 by omega]
    simp only [po_ev]
    rw [ev_ext x n k (po_sh f) (fun i hi => h (i + 1) (by omega))]
theorem ev_mul {g : po_P} {b : Nat} (hg : ∀ i, b ≤ i → g i = 0) (x : Int) : ∀ (a N : Nat) (f : po_P), (∀ i, a ≤ i → f i = 0) → a + b ≤ N → po_ev N (po_mul f g) x = po_ev N f x * po_ev N g x
  | 0, N, f, hf, _ => by
    have e : f = fun _ => 0 := by funext i; exact hf i (by omega)
    rw [ev_0 x N (po_mul f g) (fun i => by rw [e, po_mul_zL]), ev_0 x N f (fun i => hf i (by omega)), Int.zero_mul]
  | a + 1, 0, f, hf, h => by omega
  | a + 1, N + 1, f, hf, h => by
    have e : po_mul f g = po_add (fun i => f 0 * g i) (ev_up (po_mul (po_sh f) g)) := by
      funext i
      cases i with
      | zero => show _ = f 0 * g 0 + 0; rw [po_mul_0]; omega
      | succ i => exact po_mul_s f g i
    have e2 : po_ev (N + 1) (ev_up (po_mul (po_sh f) g)) x = x * po_ev N (po_mul (po_sh f) g) x := by
      show 0 + x * po_ev N (po_mul (po_sh f) g) x = _
      omega
    have e3 : po_ev N g x = po_ev (N + 1) g x := by
      obtain ⟨k, rfl⟩ : ∃ k, N = b + k := ⟨N - b, by omega⟩
      rw [ev_ext x b k g hg, show b + k + 1 = b + (k + 1) by omega, ev_ext x b (k + 1) g hg]
    rw [e, ev_add f g x, ev_sc, e2, ev_mul hg x a N (po_sh f) (fun i hi => hf (i + 1) (by omega)) (by omega), e3]
    have e4 : po_ev (N + 1) f x = f 0 + x * po_ev N (po_sh f) x := rfl
    rw [e4]; grind
/-- a double root: not without squares -/
theorem ev_nsf {F : po_P} {n : Nat} {x : Int} (hF : ∀ i, n ≤ i → F i = 0) (h0 : po_ev n F x = 0) (h1 : po_ev n (po_der F) x = 0) : ¬ zp_sf F := fun h => by
  obtain ⟨U, V, c, c0, f1, f2, e⟩ := h
  obtain ⟨a, ha⟩ := zp_fin f1
  obtain ⟨b, hb⟩ := zp_fin f2
  have hD : ∀ i, n ≤ i → po_der F i = 0 := fun i hi => by simp only [po_der]; rw [hF (i + 1) (by omega), Int.mul_zero]
  have k1 : po_ev (a + b + n + 1) F x = 0 := by rw [show a + b + n + 1 = n + (a + b + 1) by omega, ev_ext x n _ F hF]; exact h0
  have k2 : po_ev (a + b + n + 1) (po_der F) x = 0 := by rw [show a + b + n + 1 = n + (a + b + 1) by omega, ev_ext x n _ _ hD]; exact h1
  have k3 := congrArg (fun f => po_ev (a + b + n + 1) f x) e
  have k4 : po_ev (a + b + n + 1) (po_add (po_mul U F) (po_mul V (po_der F))) x = po_ev (a + b + n + 1) (po_C c) x := k3
  rw [ev_add U V, ev_mul hF x a _ U ha (by omega), ev_mul hD x b _ V hb (by omega), k1, k2] at k4
  have k5 : po_ev (a + b + n + 1) (po_C c) x = c := by
    show c + x * po_ev (a + b + n) (po_sh (po_C c)) x = c
    rw [ev_0 x _ (po_sh (po_C c)) (fun i => by simp [po_sh, po_C]), Int.mul_zero]; omega
  rw [k5] at k4
  exact c0 (by omega)
end
section
/-! what a passed search says -/
theorem fs_md {x q b c : Int} (hb : 41 < b) (h : x = c + b * q) (h1 : -20 ≤ c) (h2 : c ≤ 20) : (x + 20) % b - 20 = c ∧ (x - c) / b = q := by
  constructor
  · rw [h, show c + b * q + 20 = (c + 20) + b * q by omega, Int.add_mul_emod_self_left, Int.emod_eq_of_lt (by omega) (by omega)]; omega
  · rw [h, show c + b * q - c = b * q by omega, Int.mul_ediv_cancel_left _ (by omega)]
theorem fs_r0 {a b Y : Nat} {c0 c1 q1 : Int} (hb : 40 * a < b) (h1 : -20 ≤ c0) (h2 : c0 ≤ 20) (h : (Y : Int) = a * c0 + b * c1 + b * (b * q1)) : (((Y + 20 * a) % b : Nat) : Int) = a * (c0 + 20) := by
  have e : (((Y + 20 * a) % b : Nat) : Int) = ((Y : Int) + 20 * a) % b := by simp
  rw [e, h, show (a : Int) * c0 + b * c1 + b * (b * q1) + 20 * a = a * (c0 + 20) + b * (c1 + b * q1) by grind, Int.add_mul_emod_self_left]
  refine Int.emod_eq_of_lt (Int.mul_nonneg (by omega) (by omega)) ?_
  have : (a : Int) * (c0 + 20) ≤ a * 40 := Int.mul_le_mul_of_nonneg_left (by omega) (by omega)
  omega
def fs_ex (a g : Int) (c0 c1 c2 c3 c4 : Int) : Prop := (c0 = 0 ∧ c1 = 0) ∨ (c0 + c1 + c2 + c3 + c4 + a * g = 0 ∧ c1 + 2 * c2 + 3 * c3 + 4 * c4 + 5 * (a * g) = 0) ∨ (c0 - c1 + c2 - c3 + c4 - a * g = 0 ∧ c1 - 2 * c2 + 3 * c3 - 4 * c4 + 5 * (a * g) = 0)
theorem fs_full_ok {a g Y b : Nat} {c0 c1 c2 c3 c4 q1 q2 q3 : Int} (ha : 1 ≤ a) (hb : 40 * a < b) (hb2 : 41 < b) (b0 : -20 ≤ c0 ∧ c0 ≤ 20) (b1 : -20 ≤ c1 ∧ c1 ≤ 20) (b2 : -20 ≤ c2 ∧ c2 ≤ 20) (b3 : -20 ≤ c3 ∧ c3 ≤ 20) (b4 : -20 ≤ c4 ∧ c4 ≤ 20) (h3 : a * q3 = c4 + b * g) (h2 : a * q2 = c3 + b * q3) (h1 : a * q1 = c2 + b * q2) (h : (Y : Int) = a * c0 + b * c1 + b * (b * q1)) (hf : fs_full a g Y b = true) : fs_ex a g c0 c1 c2 c3 c4 := by
  have r0 := fs_r0 hb b0.1 b0.2 h
  have e0 : (a : Int) * (c0 + 20) - 20 * a = a * c0 := by grind
  have e1 : ((a : Int) * c0) / a = c0 := Int.mul_ediv_cancel_left _ (by omega)
  have e2 : ((Y : Int) - a * c0) / b = c1 + b * q1 := by
    rw [h, show (a : Int) * c0 + b * c1 + b * (b * q1) - a * c0 = b * (c1 + b * q1) by grind, Int.mul_ediv_cancel_left _ (by omega)]
  obtain ⟨m1, d1⟩ := fs_md (b := b) (by omega) (rfl : c1 + b * q1 = c1 + b * q1) b1.1 b1.2
  obtain ⟨m2, d2⟩ := fs_md (b := b) (by omega) h1 b2.1 b2.2
  obtain ⟨m3, d3⟩ := fs_md (b := b) (by omega) h2 b3.1 b3.2
  have e4 : (a : Int) * q3 - b * g = c4 := by omega
  unfold fs_full at hf
  simp only [r0, e0, e1, e2, m1, d1, m2, d2, m3, d3, e4] at hf
  simp [b0, b1, b2, b3, b4] at hf
  unfold fs_ex
  grind
end
section
/-! the loops of the search -/
theorem fs_f_e (x : Nat) (f : Nat → Bool) : fs_f x f = f x := by cases x <;> rfl
theorem fs_b1 {x y : Bool} (h : (Bool.rec false x y : Bool) = true) : y = true ∧ x = true := by
  cases y
  · cases h
  · exact ⟨rfl, h⟩
theorem fs_bs_ok {a g Y Z B b : Nat} : ∀ n, fs_bs a g Y Z B b n = true → ∀ k, k < n → Z % (b + k) ≤ B → fs_full a g Y (b + k) = true
  | 0, _, k, hk, _ => by omega
  | n + 1, h, k, hk, hz => by
    have h' : (Bool.rec (fs_bs a g Y Z B b n) (Bool.rec false (fs_bs a g Y Z B b n) (fs_full a g Y (Nat.add b n))) (Nat.ble (Nat.mod Z (Nat.add b n)) B) : Bool) = true := h
    cases e : Nat.ble (Nat.mod Z (Nat.add b n)) B with
    | false =>
      rw [e] at h'
      by_cases z : k = n
      · exfalso
        subst z
        have : Nat.ble (Z % (b + k)) B = true := Nat.ble_eq.mpr hz
        have e' : Nat.ble (Z % (b + k)) B = false := e
        rw [this] at e'; cases e'
      · exact fs_bs_ok n h' k (by omega) hz
    | true =>
      rw [e] at h'
      obtain ⟨h1, h2⟩ := fs_b1 h'
      by_cases z : k = n
      · subst z; exact h1
      · exact fs_bs_ok n h2 k (by omega) hz
theorem fs_t_ok {a g A B Y X r : Nat} (h : fs_t a g A B Y X r = true) : (r - 6) ^ 4 * (g * (r - 6) + 21) < X ∧ X < (r + 6) ^ 4 * (g * (r + 6) - 21) ∧ fs_bs a g Y (Y + A) B (r - 5) 11 = true := by
  unfold fs_t at h
  obtain ⟨h1, h2⟩ := fs_b1 h
  obtain ⟨h3, h4⟩ := fs_b1 h2
  rw [fs_f_e] at h4
  exact ⟨Nat.le_of_ble_eq_true h1, Nat.le_of_ble_eq_true h3, h4⟩
theorem fs_loop_ok {a g A B N N3 tm : Nat} : ∀ n r, fs_loop a g A B N N3 tm n r = true → ∀ s, s < n → ∃ r', fs_t a g A B (N * (tm - s)) (N3 * (tm - s)) r' = true
  | 0, _, _, s, hs => by omega
  | n + 1, r, h, s, hs => by
    have h' : fs_f (fs_ng g (Nat.mul N3 (Nat.sub tm n)) (Nat.sub tm n) r) (fun r' => Bool.rec false (fs_loop a g A B N N3 tm n r') (fs_t a g A B (Nat.mul N (Nat.sub tm n)) (Nat.mul N3 (Nat.sub tm n)) r')) = true := h
    rw [fs_f_e] at h'
    obtain ⟨h1, h2⟩ := fs_b1 h'
    by_cases z : s = n
    · rw [z]; exact ⟨_, h1⟩
    · exact fs_loop_ok n _ h2 s (by omega)
theorem fs_mono {g x y : Nat} (h : x ≤ y) : x ^ 4 * (g * x + 21) ≤ y ^ 4 * (g * y + 21) := Nat.mul_le_mul (Nat.pow_le_pow_left h 4) (by have := Nat.mul_le_mul_left g h; omega)
theorem fs_mono2 {g x y : Nat} (h : x ≤ y) : x ^ 4 * (g * x - 21) ≤ y ^ 4 * (g * y - 21) := Nat.mul_le_mul (Nat.pow_le_pow_left h 4) (by have := Nat.mul_le_mul_left g h; omega)
theorem fs_sol {a g N tm n r t b : Nat} (h : fs_loop a g (20 * a) (40 * a) N (a ^ 3 * N) tm n r = true) (ht : 1 ≤ t) (ht2 : t ≤ tm) (ht3 : tm < t + n) (k1 : b ^ 4 * (g * b - 21) ≤ a ^ 3 * N * t) (k2 : a ^ 3 * N * t ≤ b ^ 4 * (g * b + 21)) (hm : (N * t + 20 * a) % b ≤ 40 * a) : fs_full a g (N * t) b = true := by
  obtain ⟨r', hr⟩ := fs_loop_ok n r h (tm - t) (by omega)
  rw [show tm - (tm - t) = t by omega] at hr
  obtain ⟨h1, h2, h3⟩ := fs_t_ok hr
  have lo : r' - 6 < b := Classical.byContradiction (fun z => by
    have := fs_mono (g := g) (show b ≤ r' - 6 by omega)
    omega)
  have hi : b < r' + 6 := Classical.byContradiction (fun z => by
    have := fs_mono2 (g := g) (show r' + 6 ≤ b by omega)
    omega)
  obtain ⟨k, rfl⟩ : ∃ k, b = (r' - 5) + k := ⟨b - (r' - 5), by omega⟩
  exact fs_bs_ok 11 h3 k (by omega) hm
end
section
/-! the search itself -/
theorem fs_k0 : ∀ k, k < 11 → ∀ a, a < 20 → ∀ g, g < 20 → (a + 1) * (g + 1) ≤ 20 → fs_all (a + 1) (g + 1) (fs_m k) = true := by decide +kernel
end
section
/-! the search, continued -/
theorem fs_k2 : ∀ k, k < 17 → ∀ a, a < 20 → ∀ g, g < 20 → (a + 1) * (g + 1) ≤ 20 → fs_all (a + 1) (g + 1) (fs_m (k + 12)) = true := by decide +kernel
end
section
/-! the search, the greatest modulus -/
noncomputable def fs_ck (tm n : Nat) : Bool := fs_f (2 ^ 64 * 2825761) (fun N => fs_f (fs_nw 1 (N * (tm - n + 1)) 1412881 40) (fun r => fs_loop 1 1 20 40 N N tm n r))
noncomputable def fs_al2 (a g m : Nat) : Bool := fs_f a (fun a => fs_f g (fun g => fs_f (20 * a) (fun A => fs_f (40 * a) (fun B => fs_f (2 ^ 64 * m) (fun N => fs_f (a ^ 3 * N) (fun N3 => fs_f (fs_tm a g m) (fun tm => fs_f (fs_nw g N3 (m / (2 * g) + 1) 40) (fun r => fs_loop a g A B N N3 tm tm r))))))))
theorem fs_al2_e (a g m : Nat) : fs_al2 a g m = fs_all a g m := by
  unfold fs_al2 fs_all
  simp only [fs_f_e]
theorem fs_c0 : fs_ck 27004 27004 = true := by decide +kernel
end
section
/-! the search, the greatest modulus, continued -/
theorem fs_c1 : fs_ck 54008 27004 = true := by decide +kernel
end
section
/-! the search, the greatest modulus, continued -/
theorem fs_c2 : fs_ck 81012 27004 = true := by decide +kernel
end
section
/-! the search, the greatest modulus, continued -/
theorem fs_c3 : fs_ck 108016 27004 = true := by decide +kernel
end
section
/-! the search, the greatest modulus, its end -/
theorem fs_k1 : ∀ a, a < 20 → ∀ g, g < 20 → (a + 1) * (g + 1) ≤ 20 → 1 < (a + 1) * (g + 1) → fs_al2 (a + 1) (g + 1) 2825761 = true := by decide +kernel
theorem fs_t11 : fs_tm 1 1 2825761 ≤ 108016 := by decide +kernel
end
section
/-! linear wrapping divisors of polynomials of degree 5 -/
theorem fs_ck_e {tm n t : Nat} (h : fs_ck tm n = true) (h1 : t ≤ tm) (h2 : tm < t + n) : ∃ tm n r, fs_loop 1 1 (20 * 1) (40 * 1) (2 ^ 64 * fs_m 11) (1 ^ 3 * (2 ^ 64 * fs_m 11)) tm n r = true ∧ t ≤ tm ∧ tm < t + n := by
  unfold fs_ck at h
  rw [fs_f_e, fs_f_e] at h
  have h' : fs_loop 1 1 (20 * 1) (40 * 1) (2 ^ 64 * fs_m 11) (1 ^ 3 * (2 ^ 64 * fs_m 11)) tm n (fs_nw 1 (2 ^ 64 * 2825761 * (tm - n + 1)) 1412881 40) = true := by
    rw [Nat.one_pow, Nat.one_mul, show fs_m 11 = 2825761 from rfl]
    exact h
  exact ⟨tm, n, _, h', h1, h2⟩
theorem fs_kk {k a g t : Nat} (hk : k < 29) (ha : 1 ≤ a) (hg : 1 ≤ g) (h : a * g ≤ 20) (ht : 1 ≤ t) (ht2 : t ≤ fs_tm a g (fs_m k)) : ∃ tm n r, fs_loop a g (20 * a) (40 * a) (2 ^ 64 * fs_m k) (a ^ 3 * (2 ^ 64 * fs_m k)) tm n r = true ∧ t ≤ tm ∧ tm < t + n := by
  obtain ⟨a, rfl⟩ : ∃ a', a = a' + 1 := ⟨a - 1, by omega⟩
  obtain ⟨g, rfl⟩ : ∃ g', g = g' + 1 := ⟨g - 1, by omega⟩
  have a20 : a < 20 := by
    have : (a + 1) * 1 ≤ (a + 1) * (g + 1) := Nat.mul_le_mul_left _ (by omega)
    omega
  have g20 : g < 20 := by
    have : 1 * (g + 1) ≤ (a + 1) * (g + 1) := Nat.mul_le_mul_right _ (by omega)
    omega
  have go : fs_all (a + 1) (g + 1) (fs_m k) = true → ∃ tm n r, fs_loop (a + 1) (g + 1) (20 * (a + 1)) (40 * (a + 1)) (2 ^ 64 * fs_m k) ((a + 1) ^ 3 * (2 ^ 64 * fs_m k)) tm n r = true ∧ t ≤ tm ∧ tm < t + n := fun w => by
    unfold fs_all at w
    rw [fs_f_e, fs_f_e, fs_f_e, fs_f_e] at w
    exact ⟨_, _, _, w, ht2, by omega⟩
  by_cases z : k < 11
  · exact go (fs_k0 k z a a20 g g20 h)
  · by_cases z2 : k = 11
    · subst z2
      by_cases z3 : 1 < (a + 1) * (g + 1)
      · have := fs_k1 a a20 g g20 h z3
        rw [fs_al2_e] at this
        exact go this
      · have a0 : a = 0 := by
          have : (a + 1) * 1 ≤ (a + 1) * (g + 1) := Nat.mul_le_mul_left _ (by omega)
          omega
        have g0 : g = 0 := by
          have : 1 * (g + 1) ≤ (a + 1) * (g + 1) := Nat.mul_le_mul_right _ (by omega)
          omega
        subst a0 g0
        have tt : t ≤ 108016 := Nat.le_trans ht2 fs_t11
        by_cases w1 : t ≤ 27004
        · exact fs_ck_e fs_c0 w1 (by omega)
        · by_cases w2 : t ≤ 54008
          · exact fs_ck_e fs_c1 w2 (by omega)
          · by_cases w3 : t ≤ 81012
            · exact fs_ck_e fs_c2 w3 (by omega)
            · exact fs_ck_e fs_c3 tt (by omega)
    · obtain ⟨j, rfl⟩ : ∃ j, k = j + 12 := ⟨k - 12, by omega⟩
      exact go (fs_k2 j (by omega) a a20 g g20 h)
theorem fs_a3 {a g b c0 c1 c2 c3 c4 q1 q2 q3 V : Int} (h3 : a * q3 = c4 + b * g) (h2 : a * q2 = c3 + b * q3) (h1 : a * q1 = c2 + b * q2) (hV : V = a * c0 + b * c1 + b * (b * q1)) : a ^ 3 * V = b ^ 4 * (g * b) + (a ^ 4 * c0 + (a ^ 3 * b) * c1 + (a ^ 2 * b ^ 2) * c2 + (a * b ^ 3) * c3 + b ^ 4 * c4) := by
  have e1 : a ^ 3 * V = a ^ 4 * c0 + (a ^ 3 * b) * c1 + a ^ 2 * b ^ 2 * (a * q1) := by rw [hV]; grind
  have e2 : a ^ 2 * b ^ 2 * (a * q1) = (a ^ 2 * b ^ 2) * c2 + a * b ^ 3 * (a * q2) := by rw [h1]; grind
  have e3 : a * b ^ 3 * (a * q2) = (a * b ^ 3) * c3 + b ^ 4 * (a * q3) := by rw [h2]; grind
  rw [e1, e2, e3, h3]; grind
theorem fs_er {A c : Int} (hA : 0 ≤ A) (h : -20 ≤ c ∧ c ≤ 20) : -20 * A ≤ A * c ∧ A * c ≤ 20 * A := by
  have h1 := Int.mul_le_mul_of_nonneg_left h.1 hA
  have h2 := Int.mul_le_mul_of_nonneg_left h.2 hA
  omega
theorem fs_E {a b c0 c1 c2 c3 c4 : Int} (ha : 0 < a) (hb : 22 * a ≤ b) (b0 : -20 ≤ c0 ∧ c0 ≤ 20) (b1 : -20 ≤ c1 ∧ c1 ≤ 20) (b2 : -20 ≤ c2 ∧ c2 ≤ 20) (b3 : -20 ≤ c3 ∧ c3 ≤ 20) (b4 : -20 ≤ c4 ∧ c4 ≤ 20) : -21 * b ^ 4 ≤ a ^ 4 * c0 + (a ^ 3 * b) * c1 + (a ^ 2 * b ^ 2) * c2 + (a * b ^ 3) * c3 + b ^ 4 * c4 ∧ a ^ 4 * c0 + (a ^ 3 * b) * c1 + (a ^ 2 * b ^ 2) * c2 + (a * b ^ 3) * c3 + b ^ 4 * c4 ≤ 21 * b ^ 4 := by
  have b' : 0 ≤ b := by omega
  have p4 : 0 ≤ a ^ 4 := Int.pow_nonneg (by omega)
  have p3 : 0 ≤ a ^ 3 * b := Int.mul_nonneg (Int.pow_nonneg (by omega)) b'
  have p2 : 0 ≤ a ^ 2 * b ^ 2 := Int.mul_nonneg (Int.pow_nonneg (by omega)) (Int.pow_nonneg b')
  have p1 : 0 ≤ a * b ^ 3 := Int.mul_nonneg (by omega) (Int.pow_nonneg b')
  have p0 : 0 ≤ b ^ 4 := Int.pow_nonneg b'
  have r4 : 22 * a ^ 4 ≤ a ^ 3 * b := by
    have := Int.mul_le_mul_of_nonneg_left hb (show 0 ≤ a ^ 3 from Int.pow_nonneg (by omega))
    rw [show a ^ 3 * (22 * a) = 22 * a ^ 4 by grind] at this; exact this
  have r3 : 22 * (a ^ 3 * b) ≤ a ^ 2 * b ^ 2 := by
    have := Int.mul_le_mul_of_nonneg_left hb (Int.mul_nonneg (show 0 ≤ a ^ 2 from Int.pow_nonneg (by omega)) b')
    rw [show a ^ 2 * b * (22 * a) = 22 * (a ^ 3 * b) by grind, show a ^ 2 * b * b = a ^ 2 * b ^ 2 by grind] at this; exact this
  have r2 : 22 * (a ^ 2 * b ^ 2) ≤ a * b ^ 3 := by
    have := Int.mul_le_mul_of_nonneg_left hb (Int.mul_nonneg (show 0 ≤ a by omega) (show 0 ≤ b ^ 2 from Int.pow_nonneg b'))
    rw [show a * b ^ 2 * (22 * a) = 22 * (a ^ 2 * b ^ 2) by grind, show a * b ^ 2 * b = a * b ^ 3 by grind] at this; exact this
  have r1 : 22 * (a * b ^ 3) ≤ b ^ 4 := by
    have := Int.mul_le_mul_of_nonneg_left hb (show 0 ≤ b ^ 3 from Int.pow_nonneg b')
    rw [show b ^ 3 * (22 * a) = 22 * (a * b ^ 3) by grind, show b ^ 3 * b = b ^ 4 by grind] at this; exact this
  have e0 := fs_er p4 b0
  have e1 := fs_er p3 b1
  have e2 := fs_er p2 b2
  have e3 := fs_er p1 b3
  have e4 := fs_er p0 b4
  omega
/-- with a small b the number V is small -/
theorem fs_sm {a g b c0 c1 c2 c3 c4 q1 q2 q3 V : Int} (ha : 0 < a) (ha2 : a.natAbs ≤ 20) (hg : g.natAbs ≤ 20) (hb : b.natAbs ≤ 800) (b0 : c0.natAbs ≤ 20) (b1 : c1.natAbs ≤ 20) (b2 : c2.natAbs ≤ 20) (b3 : c3.natAbs ≤ 20) (b4 : c4.natAbs ≤ 20) (h3 : a * q3 = c4 + b * g) (h2 : a * q2 = c3 + b * q3) (h1 : a * q1 = c2 + b * q2) (hV : V = a * c0 + b * c1 + b * (b * q1)) : V.natAbs < 18446744073709551616 := by
  have e3 : q3.natAbs ≤ 16020 := by
    have := zb_mm2 hb hg
    exact sz_le (t := a) ha (by rw [Int.mul_comm, h3]; omega)
  have e2 : q2.natAbs ≤ 12816020 := by
    have := zb_mm2 hb e3
    exact sz_le (t := a) ha (by rw [Int.mul_comm, h2]; omega)
  have e1 : q1.natAbs ≤ 10252816020 := by
    have := zb_mm2 hb e2
    exact sz_le (t := a) ha (by rw [Int.mul_comm, h1]; omega)
  have k1 := zb_mm2 hb (zb_mm2 hb e1)
  have k2 := zb_mm2 hb b1
  have k3 := zb_mm2 ha2 b0
  omega
theorem fs_mb : ∀ k, k < 29 → 70000 < fs_m k ∧ fs_m k ≤ 2825761 := by decide +kernel
theorem fs_ab {x : Int} {n : Nat} (h : -n ≤ x ∧ x ≤ n) : x.natAbs ≤ n := by omega
theorem fs_ps {x y : Int} (h : 0 < x * y) (hx : 0 ≤ x) : 0 < y := Classical.byContradiction (fun z => by
  have := Int.mul_le_mul_of_nonneg_left (show y ≤ 0 by omega) hx
  rw [Int.mul_zero] at this
  omega)
theorem fs_lk {k a g : Nat} {b c0 c1 c2 c3 c4 q1 q2 q3 V : Int} (hk : k < 29) (ha : 1 ≤ a) (hg : 1 ≤ g) (hag : a * g ≤ 20) (hb : 0 < b) (hbm : 2 * (g * b) ≤ fs_m k) (b0 : -20 ≤ c0 ∧ c0 ≤ 20) (b1 : -20 ≤ c1 ∧ c1 ≤ 20) (b2 : -20 ≤ c2 ∧ c2 ≤ 20) (b3 : -20 ≤ c3 ∧ c3 ≤ 20) (b4 : -20 ≤ c4 ∧ c4 ≤ 20) (h3 : a * q3 = c4 + b * g) (h2 : a * q2 = c3 + b * q3) (h1 : a * q1 = c2 + b * q2) (hV : V = a * c0 + b * c1 + b * (b * q1)) (hV0 : V ≠ 0) (hd : 18446744073709551616 * (fs_m k : Int) ∣ V) : fs_ex a g c0 c1 c2 c3 c4 := by
  have a20 : a ≤ 20 := by
    have : a * 1 ≤ a * g := Nat.mul_le_mul_left _ hg
    omega
  have g20 : g ≤ 20 := by
    have : 1 * g ≤ a * g := Nat.mul_le_mul_right _ ha
    omega
  obtain ⟨m1, m2⟩ := fs_mb k hk
  have big : 800 < b := Classical.byContradiction (fun z => by
    have h := fs_sm (a := a) (g := g) (by omega) (by omega) (by omega) (fs_ab (n := 800) (by omega)) (fs_ab b0) (fs_ab b1) (fs_ab b2) (fs_ab b3) (fs_ab b4) h3 h2 h1 hV
    have h4 := Nat.le_of_dvd (by omega) (Int.natAbs_dvd_natAbs.mpr hd)
    omega)
  have e3 := fs_a3 h3 h2 h1 hV
  obtain ⟨l1, l2⟩ := fs_E (a := a) (b := b) (by omega) (by omega) b0 b1 b2 b3 b4
  obtain ⟨t, ht⟩ := hd
  obtain ⟨b, rfl⟩ := Int.eq_ofNat_of_zero_le (Int.le_of_lt hb)
  obtain ⟨s, hs⟩ : ∃ s, g * b = s + 21 := ⟨g * b - 21, by
    have : 1 * b ≤ g * b := Nat.mul_le_mul_right _ hg
    omega⟩
  have sp : 1 ≤ s := by
    have : 1 * b ≤ g * b := Nat.mul_le_mul_right _ hg
    omega
  have hs' : (g : Int) * b = s + 21 := by have := congrArg (Nat.cast (R := Int)) hs; push_cast at this; exact this
  have bp : (0 : Int) < (b : Int) ^ 4 := Int.pow_pos hb
  have lo : (b : Int) ^ 4 * s ≤ a ^ 3 * V := by
    rw [e3, hs', Int.mul_add]; omega
  have hi : (a : Int) ^ 3 * V ≤ (b : Int) ^ 4 * (g * b + 21) := by
    rw [e3, Int.mul_add ((b : Int) ^ 4) _ 21]; omega
  have Vp : 0 < V := by
    have h4 : 0 < (b : Int) ^ 4 * s := Int.mul_pos bp (by omega)
    have h5 : 0 < (a : Int) ^ 3 * V := by omega
    exact fs_ps h5 (Int.pow_nonneg (Int.natCast_nonneg a))
  have tp : 0 < t := by
    rw [ht] at Vp
    exact fs_ps Vp (by omega)
  obtain ⟨t, rfl⟩ := Int.eq_ofNat_of_zero_le (Int.le_of_lt tp)
  obtain ⟨N, hN⟩ : ∃ N, N = 2 ^ 64 * fs_m k := ⟨_, rfl⟩
  have hN' : (N : Int) = 18446744073709551616 * (fs_m k : Int) := by
    rw [hN]
    show ((18446744073709551616 * fs_m k : Nat) : Int) = _
    exact Int.natCast_mul _ _
  have VN : V = (N : Int) * t := by rw [ht, hN']
  have k1 : b ^ 4 * (g * b - 21) ≤ a ^ 3 * N * t := by
    rw [hs, Nat.add_sub_cancel]
    apply Int.ofNat_le.mp
    rw [VN] at lo
    push_cast at lo ⊢
    rw [Int.mul_assoc ((a : Int) ^ 3)]; exact lo
  have k2 : a ^ 3 * N * t ≤ b ^ 4 * (g * b + 21) := by
    apply Int.ofNat_le.mp
    rw [VN] at hi
    push_cast at hi ⊢
    rw [Int.mul_assoc ((a : Int) ^ 3)]; exact hi
  have hbm' : b ≤ fs_m k / (2 * g) := by
    rw [Nat.le_div_iff_mul_le (by omega), show b * (2 * g) = 2 * (g * b) by grind]
    apply Int.ofNat_le.mp
    push_cast; exact hbm
  have tt : t ≤ fs_tm a g (fs_m k) := by
    unfold fs_tm
    rw [← hN, Nat.le_div_iff_mul_le (Nat.mul_pos (Nat.pow_pos ha) (by omega)), Nat.mul_comm]
    exact Nat.le_trans k2 (fs_mono hbm')
  have hY : ((N * t : Nat) : Int) = a * c0 + b * c1 + b * (b * q1) := by rw [Int.natCast_mul, ← VN]; exact hV
  obtain ⟨tm, n, r, h, t1, t2⟩ := fs_kk hk ha hg hag (by omega) tt
  rw [← hN] at h
  have r0 := fs_r0 (a := a) (by omega) b0.1 b0.2 hY
  have r1 : (N * t + 20 * a) % b ≤ 40 * a := by
    apply Int.ofNat_le.mp
    rw [r0]
    have : (a : Int) * (c0 + 20) ≤ a * 40 := Int.mul_le_mul_of_nonneg_left (by omega) (by omega)
    omega
  have f := fs_sol h (by omega) t1 t2 k1 k2 r1
  exact fs_full_ok ha (by omega) (by omega) b0 b1 b2 b3 b4 h3 h2 h1 hY f
/-- the same for a b of any sign -/
theorem fs_lk2 {k a g : Nat} {b c0 c1 c2 c3 c4 q1 q2 q3 V : Int} (hk : k < 29) (ha : 1 ≤ a) (hg : 1 ≤ g) (hag : a * g ≤ 20) (hbm : 2 * (g * b.natAbs) ≤ fs_m k) (b0 : -20 ≤ c0 ∧ c0 ≤ 20) (b1 : -20 ≤ c1 ∧ c1 ≤ 20) (b2 : -20 ≤ c2 ∧ c2 ≤ 20) (b3 : -20 ≤ c3 ∧ c3 ≤ 20) (b4 : -20 ≤ c4 ∧ c4 ≤ 20) (h3 : a * q3 = c4 + b * g) (h2 : a * q2 = c3 + b * q3) (h1 : a * q1 = c2 + b * q2) (hV : V = a * c0 + b * c1 + b * (b * q1)) (hV0 : V ≠ 0) (hd : 18446744073709551616 * (fs_m k : Int) ∣ V) : fs_ex a g c0 c1 c2 c3 c4 := by
  have hbm' : ∀ x : Int, 0 < x → x.natAbs = b.natAbs → 2 * (g * x) ≤ fs_m k := fun x hx e => by
    have e2 : x = (b.natAbs : Int) := by omega
    rw [e2]
    have := Int.ofNat_le.mpr hbm
    push_cast at this ⊢; exact this
  rcases Int.lt_trichotomy b 0 with z | z | z
  · have h := fs_lk (b := -b) (c0 := -c0) (c1 := c1) (c2 := -c2) (c3 := c3) (c4 := -c4) (q3 := -q3) (q2 := q2) (q1 := -q1) (V := -V) hk ha hg hag (by omega) (hbm' _ (by omega) (by omega)) (by omega) b1 (by omega) b3 (by omega) (by grind) (by grind) (by grind) (by grind) (by omega) (by exact Int.dvd_neg.mpr hd)
    unfold fs_ex at h ⊢
    omega
  · exfalso
    obtain ⟨m1, m2⟩ := fs_mb k hk
    have a20 : a ≤ 20 := by
      have : a * 1 ≤ a * g := Nat.mul_le_mul_left _ hg
      omega
    rw [z] at hV
    have h4 := Nat.le_of_dvd (by omega) (Int.natAbs_dvd_natAbs.mpr hd)
    have h5 := zb_mm2 (x := a) (y := c0) (X := 20) (Y := 20) (by omega) (by omega)
    omega
  · exact fs_lk hk ha hg hag z (hbm' _ z rfl) b0 b1 b2 b3 b4 h3 h2 h1 hV hV0 hd
end
section
/-! a linear wrapping divisor of a polynomial of degree 5 that divides it modulo the prime power as well is a true one -/
theorem ga_dis {R : Type} [Lean.Grind.CommRing R] {t x y : R} : t * (x + y) = x * t + t * y := by grind
theorem fs_td {L T Y : po_P} {n t : Nat} (hn : n ≤ 5) (hL : zp_n n L) (hb : ∀ i, (L i).natAbs ≤ 20) (hT : zp_n t T) (e : L = po_mul T Y) (fY : po_fin 0 Y) : fd_TD L T := by
  obtain ⟨_, b, hY, hb'⟩ := zp_n_div hL e fY hT.2.1 hT.2.2
  exact ⟨Y, fd_TD_i hT e fY (zb_all (n := 0) (zp_n_t hT) (zp_n_t hY) e (by omega) hb) (fun i => Nat.le_trans (zb_all (n := 0) (zp_n_t hY) (zp_n_t hT) (by rw [zp_mulc]; exact e) (by omega) hb i) (by omega))⟩
theorem fs_nsf {L : po_P} (hL : ∀ i, 5 < i → L i = 0) (h : fs_ex 1 (L 5) (L 0) (L 1) (L 2) (L 3) (L 4)) : ¬ zp_sf L := by
  rcases h with ⟨h1, h2⟩ | ⟨h1, h2⟩ | ⟨h1, h2⟩
  · exact ev_nsf (n := 6) (x := 0) (fun i hi => hL i (by omega)) (by simp [po_ev, h1]) (by simp [po_ev, po_der, h2])
  · refine ev_nsf (n := 6) (x := 1) (fun i hi => hL i (by omega)) ?_ ?_
    · show L 0 + 1 * (L 1 + 1 * (L 2 + 1 * (L 3 + 1 * (L 4 + 1 * (L 5 + 1 * 0))))) = 0
      omega
    · show po_der L 0 + 1 * (po_der L 1 + 1 * (po_der L 2 + 1 * (po_der L 3 + 1 * (po_der L 4 + 1 * (po_der L 5 + 1 * 0))))) = 0
      rw [show po_der L 0 = 1 * L 1 from rfl, show po_der L 1 = 2 * L 2 from rfl, show po_der L 2 = 3 * L 3 from rfl, show po_der L 3 = 4 * L 4 from rfl, show po_der L 4 = 5 * L 5 from rfl, show po_der L 5 = 6 * L 6 from rfl, hL 6 (by omega)]
      omega
  · refine ev_nsf (n := 6) (x := -1) (fun i hi => hL i (by omega)) ?_ ?_
    · show L 0 + -1 * (L 1 + -1 * (L 2 + -1 * (L 3 + -1 * (L 4 + -1 * (L 5 + -1 * 0))))) = 0
      omega
    · show po_der L 0 + -1 * (po_der L 1 + -1 * (po_der L 2 + -1 * (po_der L 3 + -1 * (po_der L 4 + -1 * (po_der L 5 + -1 * 0))))) = 0
      rw [show po_der L 0 = 1 * L 1 from rfl, show po_der L 1 = 2 * L 2 from rfl, show po_der L 2 = 3 * L 3 from rfl, show po_der L 3 = 4 * L 4 from rfl, show po_der L 4 = 5 * L 5 from rfl, show po_der L 5 = 6 * L 6 from rfl, hL 6 (by omega)]
      omega
theorem fs_0 {T : po_P} {q m : Nat} (h : 2 * (q * T 0).natAbs ≤ m) (hq : 1 ≤ q) : 2 * (q * (T 0).natAbs) ≤ m ∧ 2 * (T 0).natAbs ≤ m := by
  rw [Int.natAbs_mul, Int.natAbs_natCast] at h
  have : 1 * (T 0).natAbs ≤ q * (T 0).natAbs := Nat.mul_le_mul_right _ hq
  omega
theorem fs_5 {k : Nat} (hk : k < 29) {L T : po_P} (hL : zp_n 5 L) (hb : ∀ i, (L i).natAbs ≤ 20) (hs : zp_sf L) (hT : zp_n 1 T) (hTm : ∀ q0, q0 * T 1 = L 5 → 2 * (q0 * T 0).natAbs ≤ fs_m k) (hM : ∃ X, po_fin (fs_m k : Int) X ∧ po_eq (fs_m k : Int) L (po_mul X T)) (hl : ∀ x, (fs_m k : Int) ∣ x * T 1 → (fs_m k : Int) ∣ x) (hc : ∀ r, (18446744073709551616 : Int) ∣ r → (fs_m k : Int) ∣ r → 18446744073709551616 * (fs_m k : Int) ∣ r) (h : fd_D L T) : fd_TD L T := by
  obtain ⟨m1, m2⟩ := fs_mb k hk
  obtain ⟨q, e', t1, t2, q1, q2, q3⟩ := h
  have ee : e' = 1 := zp_t_u ⟨by omega, t2⟩ (zp_n_t hT)
  subst ee
  have q0 : ∀ i, 5 ≤ i → q i = 0 := fun i hi => q3 5 hL.2.2 i (by omega)
  have cf : ∀ (q : po_P) n, po_mul q T (n + 1) = T 0 * q (n + 1) + T 1 * q n := fun q n => by rw [zp_mulc]; exact zb_mul1 hT.2.2 n
  have cg : ∀ n k, k = n + 1 → (18446744073709551616 : Int) ∣ L k - (T 0 * q k + T 1 * q n) := fun n k hk => by rw [hk, ← cf]; exact q1 _
  obtain ⟨a, ha⟩ := Int.eq_ofNat_of_zero_le (Int.le_of_lt t1)
  -- the quotient's upper numbers are exact
  have e5 : L 5 = T 0 * q 5 + T 1 * q 4 := (sz_st (c := 20) (cg 4 5 rfl) (q2 4) (by rw [q0 5 (by omega), Int.mul_zero]; have := hb 5; omega) (by omega)).1
  have e5' : q 4 * T 1 = L 5 := by rw [e5, q0 5 (by omega), Int.mul_zero, Int.mul_comm]; omega
  have H := hTm _ e5'
  have gp : 0 < q 4 := by
    have := hL.2.1
    rw [← e5', Int.mul_comm] at this
    exact fs_ps this (by omega)
  obtain ⟨g, hg⟩ := Int.eq_ofNat_of_zero_le (Int.le_of_lt gp)
  rw [hg] at H
  obtain ⟨H1, H2⟩ := fs_0 H (by omega)
  have T0b : (T 0).natAbs ≤ 1412880 := by omega
  have H3 : (T 0 * q 4).natAbs ≤ 1412880 := by rw [hg, Int.mul_comm]; omega
  obtain ⟨e4, w3⟩ := sz_st (c := 1412900) (cg 3 4 rfl) (q2 3) (by have := hb 4; omega) (by omega)
  have b3 : (q 3).natAbs ≤ 1412900 := sz_le t1 (by rw [Int.mul_comm]; exact w3)
  have x3 := zb_mm2 T0b b3
  obtain ⟨e3, w2⟩ := sz_st (c := 1996258152020) (cg 2 3 rfl) (q2 2) (by have := hb 3; omega) (by omega)
  have b2 : (q 2).natAbs ≤ 1996258152020 := sz_le t1 (by rw [Int.mul_comm]; exact w2)
  have x2 := zb_mm2 T0b b2
  obtain ⟨e2, w1⟩ := sz_st (c := 2820473217826017620) (cg 1 2 rfl) (q2 1) (by have := hb 2; omega) (by omega)
  have ex : ∀ n, 1 ≤ n → L (n + 1) = T 0 * q (n + 1) + T 1 * q n := fun n hn => by
    match n, hn with
    | 1, _ => exact e2
    | 2, _ => exact e3
    | 3, _ => exact e4
    | 4, _ => exact e5
    | n + 5, _ => rw [hL.2.2 _ (by omega), q0 _ (by omega), q0 _ (by omega)]; omega
  clear x3 x2 w1 w2 w3 b2 b3
  -- the number V
  obtain ⟨V, hV⟩ : ∃ V, V = T 1 * L 0 - T 0 * (L 1 - T 0 * q 1) := ⟨_, rfl⟩
  have V64 : (18446744073709551616 : Int) ∣ V := by
    have h0 := q1 0
    rw [po_mul_0] at h0
    have h1 := cg 0 1 rfl
    have := Int.dvd_sub (Int.dvd_mul_of_dvd_right (b := T 1) h0) (Int.dvd_mul_of_dvd_right (b := T 0) h1)
    rw [show T 1 * (L 0 - q 0 * T 0) - T 0 * (L 1 - (T 0 * q 1 + T 1 * q 0)) = V by rw [hV]; grind] at this
    exact this
  have Vm : (fs_m k : Int) ∣ V := by
    obtain ⟨X, ⟨d, fX⟩, eX⟩ := hM
    have dn : ∀ j n, 1 ≤ n → d + 5 ≤ n + j → (fs_m k : Int) ∣ X n - q n := by
      intro j
      induction j with
      | zero => intro n h1 h2; rw [q0 n (by omega), Int.sub_zero]; exact fX n (by omega)
      | succ j ih =>
        intro n h1 h2
        have i1 := ih (n + 1) (by omega) (by omega)
        have i2 := eX (n + 1)
        rw [cf, ex n h1] at i2
        refine hl _ ?_
        have := Int.dvd_add i2 (Int.dvd_mul_of_dvd_right (b := T 0) i1)
        rw [show T 0 * q (n + 1) + T 1 * q n - (T 0 * X (n + 1) + T 1 * X n) + T 0 * (X (n + 1) - q (n + 1)) = - ((X n - q n) * T 1) by grind] at this
        exact Int.dvd_neg.mp this
    have d1 := dn (d + 5) 1 (by omega) (by omega)
    have h0 := eX 0
    rw [po_mul_0] at h0
    have h1 : (fs_m k : Int) ∣ L 1 - (T 0 * X 1 + T 1 * X 0) := by rw [← cf]; exact eX 1
    have := Int.dvd_add (Int.dvd_sub (Int.dvd_mul_of_dvd_right (b := T 1) h0) (Int.dvd_mul_of_dvd_right (b := T 0) h1)) (Int.dvd_mul_of_dvd_right (b := - (T 0 * T 0)) d1)
    rw [show T 1 * (L 0 - X 0 * T 0) - T 0 * (L 1 - (T 0 * X 1 + T 1 * X 0)) + - (T 0 * T 0) * (X 1 - q 1) = V by rw [hV]; grind] at this
    exact this
  have Vd := hc V V64 Vm
  by_cases V0 : V = 0
  · -- a true division
    rw [V0] at hV
    obtain ⟨q', hq'⟩ : ∃ q' : po_P, q' = fun i => if i = 0 then 0 else q i := ⟨_, rfl⟩
    obtain ⟨R, hR⟩ : ∃ R : po_P, R = fun i => if i = 0 then L 0 else if i = 1 then L 1 - T 0 * q 1 else 0 := ⟨_, rfl⟩
    have fq : po_fin 0 q' := po_fin_0 (n := 5) (fun i hi => by rw [hq']; show (if i = 0 then 0 else q i) = 0; rw [if_neg (by omega)]; exact q0 i hi)
    have e1 : po_mul (po_C (T 1)) R = po_mul T (po_C (L 1 - T 0 * q 1)) := by
      funext i
      rw [po_mul_C, zp_mulc, po_mul_C, hR]
      match i with
      | 0 => show T 1 * L 0 = _; rw [Int.mul_comm (L 1 - T 0 * q 1)]; omega
      | 1 => show T 1 * (L 1 - T 0 * q 1) = _; rw [Int.mul_comm]
      | i + 2 => show T 1 * 0 = _; rw [hT.2.2 (i + 2) (by omega), Int.mul_zero, Int.mul_zero]
    obtain ⟨B, hB1, hB2⟩ := zp_gauss hT.1 (by omega) e1
    have fB : po_fin 0 B := zp_fin_q (by omega) hB1 (po_fin_C _ _)
    have e2 : L = po_mul T (po_add q' B) := by
      have := @ga_dis po_P po_ring T q' B
      have e3 : po_mul T (po_add q' B) = po_add (po_mul q' T) (po_mul T B) := this
      rw [e3, ← hB2]
      funext i
      show L i = po_mul q' T i + R i
      rw [hR]
      match i with
      | 0 => rw [po_mul_0, hq']; show L 0 = 0 * T 0 + L 0; omega
      | 1 => rw [cf, hq']; show L 1 = T 0 * q 1 + T 1 * 0 + (L 1 - T 0 * q 1); omega
      | i + 2 => rw [cf, hq']; show L (i + 2) = T 0 * q (i + 2) + T 1 * q (i + 1) + 0; rw [show L (i + 2) = L (i + 1 + 1) from rfl, ex (i + 1) (by omega)]; show T 0 * q (i + 2) + T 1 * q (i + 1) = _; omega
    exact fs_td (by omega) hL hb hT e2 (po_fin_add fq fB)
  · exfalso
    have bd : ∀ i, -20 ≤ L i ∧ L i ≤ 20 := fun i => by have := hb i; omega
    have ag : a * g ≤ 20 := by
      have h1 := hb 5
      rw [← e5', hg, ha, Int.natAbs_mul, Int.natAbs_natCast, Int.natAbs_natCast, Nat.mul_comm] at h1
      exact h1
    have r := fs_lk2 (k := k) (a := a) (g := g) (b := - T 0) (c0 := L 0) (c1 := L 1) (c2 := L 2) (c3 := L 3) (c4 := L 4) (q1 := q 1) (q2 := q 2) (q3 := q 3) (V := V) hk (by omega) (by omega) ag (by rw [Int.natAbs_neg]; exact H1) (bd 0) (bd 1) (bd 2) (bd 3) (bd 4) (by rw [e4, ha, hg]; grind) (by rw [e3, ha]; grind) (by rw [e2, ha]; grind) (by rw [hV, ha]; grind) V0 Vd
    refine fs_nsf hL.2.2 ?_ hs
    have e6 : (a : Int) * g = L 5 := by rw [← e5', hg, ha, Int.mul_comm]
    unfold fs_ex at r ⊢
    rw [e6] at r
    rw [Int.one_mul]; exact r
end
section
/-! wrapping divisions in recombine are true ones -/
theorem nt_pk {P : Nat} (hp : po_prime P) {y : Int} (hy : ¬ (P : Int) ∣ y) (K : Nat) : ∀ x, (P : Int) ^ K ∣ x * y → (P : Int) ^ K ∣ x := fun x h => by
  have c : Nat.Coprime P y.natAbs := by have := hp.2 y hy; rwa [Int.natAbs_natCast] at this
  have h1 := Int.natAbs_dvd_natAbs.mpr h
  rw [Int.natAbs_mul, Int.natAbs_pow, Int.natAbs_natCast] at h1
  have h2 := (Nat.Coprime.pow_left K c).dvd_of_dvd_mul_right h1
  apply Int.natAbs_dvd_natAbs.mp
  rw [Int.natAbs_pow, Int.natAbs_natCast]; exact h2
theorem rc_od : ∀ k, k < 29 → Nat.gcd 18446744073709551616 (fs_m k) = 1 := by decide +kernel
theorem rc_cc {k : Nat} (hk : k < 29) (r : Int) (h1 : (18446744073709551616 : Int) ∣ r) (h2 : (fs_m k : Int) ∣ r) : 18446744073709551616 * (fs_m k : Int) ∣ r := by
  have c : Nat.Coprime 18446744073709551616 (fs_m k) := rc_od k hk
  have a1 : 18446744073709551616 ∣ r.natAbs := Int.natAbs_dvd_natAbs.mpr h1
  have a2 : fs_m k ∣ r.natAbs := by have := Int.natAbs_dvd_natAbs.mpr h2; rwa [Int.natAbs_natCast] at this
  have a3 := c.mul_dvd_of_dvd_of_dvd a1 a2
  apply Int.natAbs_dvd_natAbs.mp
  rw [Int.natAbs_mul, Int.natAbs_natCast]; exact a3
def rc_C2 (B : Nat) : Nat := 60000 + B + (60000 + B) * B
def rc_C3 (B : Nat) : Nat := 60000 + B + (60000 + B) * B + rc_C2 B * B
theorem rc_num : ∀ k, k < 29 → rc_C3 (fs_m k / 2) < 9223372036854775808 ∧ 60000 + (60000 + (60000 + fs_m k / 2) + rc_C2 (fs_m k / 2) + rc_C3 (fs_m k / 2)) * (fs_m k / 2) < 18446744073709551616 * fs_m k := by decide +kernel
theorem tp_inf {m ld : Int} {V : Nat → po_P} {dg : Nat → Nat} {s l : Nat} {T : po_P} (hld : 0 < ld) (hld2 : 2 * ld ≤ m) (h : tp_T m ld V dg s l T) : ∃ c : Int, 0 < c ∧ zp_n (po_psd dg s l) T ∧ c * T (po_psd dg s l) = ld ∧ (∀ i, 2 * ((c * T i).natAbs : Int) ≤ m) ∧ po_eq m (po_mul (po_C c) T) (po_mul (po_C ld) (po_ps V s l)) ∧ fd_pp (po_mul (po_C c) T) T := by
  obtain ⟨X, x1, x2, x3, x4, x5⟩ := h
  have x5' := x5
  have pr := zp_pp x5
  obtain ⟨c, c0, _, c1, d, d1, d2, d3⟩ := x5
  have cn0 : fd_cn m X (po_psd dg s l) = ld := by simp only [fd_cn]; rw [x4, if_pos hld2]
  have cnz : ∀ i, po_psd dg s l < i → fd_cn m X i = 0 := fun i hi => by simp only [fd_cn]; rw [x3 i hi, if_pos (by omega)]
  have dd : d = po_psd dg s l := by
    rcases Nat.lt_trichotomy d (po_psd dg s l) with z | z | z
    · have := c1 (po_psd dg s l)
      rw [cn0, d3 _ z, Int.mul_zero] at this; omega
    · exact z
    · have := c1 d
      rw [cnz d z] at this
      rcases Int.mul_eq_zero.mp this.symm with y | y
      · exact absurd y c0
      · omega
  subst dd
  have e1 := c1 (po_psd dg s l)
  rw [cn0] at e1
  have cp : 0 < c := by
    have : 0 < T (po_psd dg s l) * c := by rw [Int.mul_comm, ← e1]; exact hld
    exact fs_ps this (by omega)
  have ee : po_mul (po_C c) T = fd_cn m X := by funext i; rw [po_mul_C, c1 i]
  refine ⟨c, cp, ⟨pr, d2, d3⟩, e1.symm, fun i => ?_, ?_, by rw [ee]; exact x5'⟩
  · rw [← c1 i]
    have := x1 i
    simp only [fd_cn]; split <;> omega
  · rw [ee]
    refine po_eq_t (fun i => ?_) x2
    simp only [fd_cn]
    split
    · rw [Int.sub_self]; exact Int.dvd_zero _
    · rw [show X i - m - X i = -m by omega]; exact Int.dvd_neg.mpr (Int.dvd_refl m)
theorem ga_td {R : Type} [Lean.Grind.CommRing R] {L l p r m x c T y : R} (h : L = l * (p * r) + m * x) (k : c * T = l * p + m * y) : L = (c * r) * T + m * (x - y * r) := by grind
theorem rc_td {k P K : Nat} (hk : k < 29) (hP : po_prime P) (hm : (P : Int) ^ K = fs_m k) {L T W0 Y R : po_P} {V : Nat → po_P} {dg : Nat → Nat} {st l D nW : Nat} (hL : zp_n D L) (hsf : zp_sf L) (hW : zp_n nW W0) (h5 : nW ≤ 5) (hb : ∀ i, (W0 i).natAbs ≤ 20) (hY : W0 = po_mul L Y) (fY : po_fin 0 Y) (hPl : ¬ (P : Int) ∣ L D) (hT : tp_T (fs_m k) (L D) V dg st l T) (hst : 1 ≤ po_psd dg st l) (hLV : po_eq (fs_m k) L (po_mul (po_C (L D)) (po_mul (po_ps V st l) R))) (fR : po_fin (fs_m k) R) (h : fd_D L T ∨ fd_TD L T) : fd_TD L T := by
  rcases h with h | h
  rotate_left
  · exact h
  obtain ⟨m1, m2⟩ := fs_mb k hk
  obtain ⟨_, y, hYn, hy⟩ := zp_n_div hW hY fY hL.2.1 hL.2.2
  have Lb : ∀ i, (L i).natAbs ≤ 60000 := zb_all (n := 0) (zp_n_t hL) (zp_n_t hYn) hY (by omega) hb
  have lead : (L D).natAbs ≤ 20 := zb_lead (zp_n_t hL) (zp_n_t hYn) hY hb
  obtain ⟨c, cp, nT, cT, cb, ce, _⟩ := tp_inf hL.2.1 (by omega) hT
  have hM : ∃ X, po_fin (fs_m k : Int) X ∧ po_eq (fs_m k : Int) L (po_mul X T) := by
    obtain ⟨x, hx⟩ := po_eq_ex hLV
    obtain ⟨y, hy⟩ := po_eq_ex ce
    exact ⟨_, po_fin_mul (po_fin_C _ _) fR, po_ex_eq (@ga_td po_P po_ring _ _ _ _ _ _ _ _ _ hx hy)⟩
  have hl : ∀ x, (fs_m k : Int) ∣ x * T (po_psd dg st l) → (fs_m k : Int) ∣ x := by
    rw [← hm]
    exact nt_pk hP (fun z => hPl (by rw [← cT]; exact Int.dvd_mul_of_dvd_right z)) K
  have q0c : ∀ q0, q0 * T (po_psd dg st l) = L D → q0 = c := fun q0 e => Int.eq_of_mul_eq_mul_right (a := T (po_psd dg st l)) (by have := nT.2.1; omega) (by rw [e, cT])
  by_cases hD : D ≤ po_psd dg st l + 3
  · obtain ⟨k1, k2⟩ := rc_num k hk
    refine sz_true (a := 60000) (B := fs_m k / 2) (H := fs_m k / 2) (C0 := 60000) (C1 := 60000 + fs_m k / 2) (C2 := rc_C2 (fs_m k / 2)) (C3 := rc_C3 (fs_m k / 2)) (M := (fs_m k : Int)) hL.2.2 Lb (fun i => ?_) nT.2.1 nT.2.2 hst hD (fun q0 e => ?_) (Nat.le_refl _) (Nat.le_refl _) (Nat.le_refl _) k1 (by rw [show (18446744073709551616 : Int) * (fs_m k : Int) = ((18446744073709551616 * fs_m k : Nat) : Int) from (Int.natCast_mul _ _).symm]; exact Int.ofNat_lt.mpr k2) hM hl (rc_cc hk) h
    · have h1 := cb i
      rw [Int.natAbs_mul] at h1
      have : 1 * (T i).natAbs ≤ c.natAbs * (T i).natAbs := Nat.mul_le_mul_right _ (by omega)
      omega
    · rw [q0c q0 e]
      constructor
      · have : c.natAbs ≤ 60000 := by
          have h1 : c * T (po_psd dg st l) = L D := cT
          exact Nat.le_trans (zb_abs (B := 20) h1.symm (by have := nT.2.1; omega) lead) (by omega)
        exact this
      · intro s
        have := cb s
        omega
  · have D5 : D = 5 := by omega
    subst D5
    have e1 : po_psd dg st l = 1 := by omega
    rw [e1] at nT hl q0c
    have y0 : y = 0 := by omega
    subst y0
    have Y1 := zp_n0 hYn
    rw [Y1, zp_m1] at hY
    refine fs_5 hk hL (fun i => by rw [← hY]; exact hb i) hsf nT (fun q0 e => ?_) hM hl (rc_cc hk) h
    rw [q0c q0 e]
    have := cb 0
    omega
end
section
/-! sets of pieces -/
theorem rc_bit : ∀ st, st < 32 → ∀ pc, pc < 32 → st &&& (31 ^^^ pc) = 0 → ∀ k, k < 5 → pc / 2 ^ k % 2 = st / 2 ^ k % 2 + (pc &&& (31 ^^^ st)) / 2 ^ k % 2 := by decide +kernel
theorem rc_ne : ∀ st, st < 32 → ∀ pc, pc < 32 → 1 ≤ pc_n st → 2 * pc_n st ≤ pc_n pc → pc &&& (31 ^^^ st) ≠ 0 := by decide +kernel
theorem rc_sg : ∀ st, st < 32 → pc_n st = 1 → ∃ r, r < 5 ∧ st = 2 ^ r := by decide +kernel
theorem rc_one : ∀ pc, pc < 32 → ∀ al, al < 5 → pc / 2 ^ al % 2 = 1 → pc_n pc < 2 → pc = 2 ^ al := by decide +kernel
theorem rc_in : ∀ pc, pc < 32 → ∀ al, al < 5 → pc / 2 ^ al % 2 = 1 → 2 ^ al &&& (31 ^^^ pc) = 0 := by decide +kernel
theorem rc_p1 : ∀ al, al < 5 → pc_n (2 ^ al) = 1 := by decide +kernel
theorem rc_pb : ∀ al, al < 5 → ∀ k, k < 5 → 2 ^ al / 2 ^ k % 2 = if k = al then 1 else 0 := by decide +kernel
theorem rc_bl : ∀ l, l < 6 → ∀ pc, pc < 2 ^ l → pc ≠ 0 → ∃ k, k < l ∧ pc / 2 ^ k % 2 = 1 := by decide +kernel
theorem rc_hi : ∀ l, l < 6 → ∀ pc, pc < 2 ^ l → ∀ k, k < 5 → pc / 2 ^ k % 2 = 1 → k < l := by decide +kernel
theorem rc_sub : ∀ st, st < 32 → ∀ pc, pc < 32 → st &&& (31 ^^^ pc) = 0 → st ≤ pc := by decide +kernel
theorem rc_full : ∀ l, l < 6 → ∀ k, k < l → (2 ^ l - 1) / 2 ^ k % 2 = 1 := by decide +kernel
theorem rc_pl : ∀ l, l < 6 → 2 ^ l ≤ 32 := by decide +kernel
theorem ga_ps1 {R : Type} [Lean.Grind.CommRing R] {a b v : R} : a * b * v = a * v * b := by grind
theorem po_ps_split {V : Nat → po_P} {dg : Nat → Nat} {s r t : Nat} : ∀ l, (∀ k, k < l → s / 2 ^ k % 2 = r / 2 ^ k % 2 + t / 2 ^ k % 2) → po_ps V s l = po_mul (po_ps V r l) (po_ps V t l) ∧ po_psd dg s l = po_psd dg r l + po_psd dg t l
  | 0, _ => ⟨(zp_1m _).symm, rfl⟩
  | l + 1, h => by
    obtain ⟨i1, i2⟩ := po_ps_split (V := V) (dg := dg) l (fun k hk => h k (by omega))
    have hl := h l (by omega)
    simp only [po_ps, po_psd]
    by_cases z : r / 2 ^ l % 2 = 1
    · have sb : s / 2 ^ l % 2 = 1 := by omega
      have tb : ¬ t / 2 ^ l % 2 = 1 := by omega
      rw [if_pos sb, if_pos sb, if_pos z, if_pos z, if_neg tb, if_neg tb, i1, i2]
      exact ⟨@ga_ps1 po_P po_ring _ _ _, by omega⟩
    · by_cases y : t / 2 ^ l % 2 = 1
      · have sb : s / 2 ^ l % 2 = 1 := by omega
        rw [if_pos sb, if_pos sb, if_neg z, if_neg z, if_pos y, if_pos y, i1, i2]
        exact ⟨zp_mula _ _ _, by omega⟩
      · have sb : ¬ s / 2 ^ l % 2 = 1 := by omega
        rw [if_neg sb, if_neg sb, if_neg z, if_neg z, if_neg y, if_neg y, i1, i2]
        exact ⟨rfl, rfl⟩
theorem po_ps_none {V : Nat → po_P} {dg : Nat → Nat} {s : Nat} : ∀ l, (∀ k, k < l → s / 2 ^ k % 2 = 0) → po_ps V s l = po_C 1 ∧ po_psd dg s l = 0
  | 0, _ => ⟨rfl, rfl⟩
  | l + 1, h => by
    have hl := h l (by omega)
    simp only [po_ps, po_psd]
    rw [if_neg (by omega), if_neg (by omega)]
    exact po_ps_none l (fun k hk => h k (by omega))
theorem po_ps_one {V : Nat → po_P} {dg : Nat → Nat} {s al : Nat} : ∀ l, al < l → (∀ k, k < l → s / 2 ^ k % 2 = if k = al then 1 else 0) → po_ps V s l = V al ∧ po_psd dg s l = dg al
  | 0, h, _ => absurd h (by omega)
  | l + 1, h, hb => by
    have hl := hb l (by omega)
    simp only [po_ps, po_psd]
    by_cases z : l = al
    · subst z
      rw [if_pos rfl] at hl
      rw [if_pos hl, if_pos hl]
      obtain ⟨n1, n2⟩ := po_ps_none (V := V) (dg := dg) (s := s) l (fun k hk => by rw [hb k (by omega), if_neg (by omega)])
      rw [n1, n2, zp_1m]
      exact ⟨rfl, by omega⟩
    · rw [if_neg z] at hl
      rw [if_neg (by omega), if_neg (by omega)]
      exact po_ps_one l (by omega) (fun k hk => hb k (by omega))
theorem po_psd_ge {dg : Nat → Nat} {s al : Nat} (hs : s / 2 ^ al % 2 = 1) : ∀ l, al < l → dg al ≤ po_psd dg s l
  | 0, h => absurd h (by omega)
  | l + 1, h => by
    simp only [po_psd]
    by_cases z : l = al
    · subst z; rw [if_pos hs]; omega
    · have := po_psd_ge (dg := dg) hs l (by omega)
      split <;> omega
theorem po_ps_fin {m : Int} {V : Nat → po_P} {s : Nat} : ∀ l, (∀ j, j < l → po_fin m (V j)) → po_fin m (po_ps V s l)
  | 0, _ => po_fin_C _ _
  | l + 1, h => by
    simp only [po_ps]
    have := po_ps_fin (s := s) l (fun j hj => h j (by omega))
    split
    · exact po_fin_mul this (h l (by omega))
    · exact this
theorem po_ps_dv {m : Int} {V : Nat → po_P} {s al : Nat} (hs : s / 2 ^ al % 2 = 1) : ∀ l, al < l → (∀ j, j < l → po_fin m (V j)) → po_dv m (V al) (po_ps V s l)
  | 0, h, _ => absurd h (by omega)
  | l + 1, h, hf => by
    have f := po_ps_fin (s := s) l (fun j hj => hf j (by omega))
    simp only [po_ps]
    by_cases z : l = al
    · subst z; rw [if_pos hs]; exact po_dv_mulL _ f (po_dv_r _ _)
    · have := po_ps_dv hs l (by omega) (fun j hj => hf j (by omega))
      split
      · exact po_dv_mulR _ (hf l (by omega)) this
      · exact this
theorem po_ps_all {V : Nat → po_P} {dg : Nat → Nat} {s : Nat} : ∀ l, (∀ k, k < l → s / 2 ^ k % 2 = 1) → po_ps V s l = po_prod V l ∧ po_psd dg s l = po_sd dg l
  | 0, _ => ⟨rfl, rfl⟩
  | l + 1, h => by
    obtain ⟨i1, i2⟩ := po_ps_all (V := V) (dg := dg) l (fun k hk => h k (by omega))
    simp only [po_ps, po_psd]
    rw [if_pos (h l (by omega)), if_pos (h l (by omega)), i1, i2]
    exact ⟨rfl, rfl⟩
/-! what is left after a division -/
theorem ga_rq {R : Type} [Lean.Grind.CommRing R] {L l p r m x c T y Q : R} (h : L = l * (p * r) + m * x) (k : c * T = l * p + m * y) (e : L = Q * T) : l * (p * (Q - c * r)) = m * (c * x - y * Q) := by grind
theorem ga_rq2 {R : Type} [Lean.Grind.CommRing R] {p x : R} : p * x = x * p := by grind
theorem rc_q {k P K : Nat} (hP : po_prime P) (hm : (P : Int) ^ K = fs_m k) {L T Q R : po_P} {V : Nat → po_P} {dg : Nat → Nat} {st l D : Nat} (hL : zp_n D L) (hld : 2 * L D ≤ fs_m k) (hPl : ¬ (P : Int) ∣ L D) (hT : tp_T (fs_m k) (L D) V dg st l T) (hst : 1 ≤ po_psd dg st l) (moV : ∀ k', k' < l → po_mo (fs_m k) (dg k') (V k')) (hLV : po_eq (fs_m k) L (po_mul (po_C (L D)) (po_mul (po_ps V st l) R))) (fR : po_fin (fs_m k) R) (hQ : L = po_mul Q T) (fQ : po_fin 0 Q) : ∃ d, zp_n d Q ∧ d + po_psd dg st l = D ∧ ¬ (P : Int) ∣ Q d ∧ po_eq (fs_m k) Q (po_mul (po_C (Q d)) R) := by
  obtain ⟨c, cp, nT, cT, cb, ce, _⟩ := tp_inf hL.2.1 hld hT
  have hQ' : L = po_mul T Q := by rw [hQ, zp_mulc]
  obtain ⟨_, d, nQ, hd⟩ := zp_n_div hL hQ' fQ nT.2.1 nT.2.2
  have tt := (zp_top (f := T) (g := Q) nT.2.2 nQ.2.2).1
  rw [← hQ', hd, ← cT, Int.mul_comm] at tt
  have cd : c = Q d := Int.eq_of_mul_eq_mul_left (by have := nT.2.1; omega) tt
  refine ⟨d, nQ, by omega, fun z => hPl ?_, ?_⟩
  · rw [← cT, cd]; exact Int.dvd_mul_of_dvd_left z
  · rw [← cd]
    obtain ⟨x, hx⟩ := po_eq_ex hLV
    obtain ⟨y, hy⟩ := po_eq_ex ce
    have g := @ga_rq po_P po_ring _ _ _ _ _ _ _ _ _ _ hx hy hQ
    have g1 : ∀ i, (fs_m k : Int) ∣ po_mul (po_ps V st l) (po_sub Q (po_mul (po_C c) R)) i := fun i => by
      rw [← hm]
      refine nt_pk hP hPl K _ ?_
      rw [hm, Int.mul_comm, ← po_mul_C]
      have := congrFun g i
      have e : po_mul (po_C (L D)) (po_mul (po_ps V st l) (po_sub Q (po_mul (po_C c) R))) i = po_mul (po_C (fs_m k : Int)) _ i := this
      rw [e, po_mul_C]
      exact Int.dvd_mul_right _ _
    have mo := po_ps_mo st l moV
    have f1 : po_fin (fs_m k : Int) (po_sub Q (po_mul (po_C c) R)) := po_fin_sub (zp_fin_m fQ) (po_fin_mul (po_fin_C _ _) fR)
    obtain ⟨dd, hdd⟩ := f1
    have := po_quot (m := (fs_m k : Int)) (A := po_mul (po_ps V st l) (po_sub Q (po_mul (po_C c) R))) (B := po_ps V st l) (e := po_psd dg st l) (D := 0) mo.1 (po_mo_unit mo) (fun i _ => g1 i) dd _ hdd (by rw [zp_mulc]; exact po_eq_r _ _)
    intro i
    exact this i (by omega)
end
section
/-! a found factor is taken out as often as it divides -/
theorem ga_ch3 {R : Type} [Lean.Grind.CommRing R] {t y z : R} : (t * y) * z = t * (y * z) ∧ (t * y) * z = y * (t * z) := by constructor <;> grind
theorem rc_nd {W0 T Y Z : po_P} {nW t y : Nat} (hW : zp_n nW W0) (h5 : nW ≤ 5) (hb : ∀ i, (W0 i).natAbs ≤ 20) (hT : zp_n t T) (ht : 1 ≤ t) (hY : zp_n y Y) (hc : zp_cop T Y) (e : W0 = po_mul (po_mul T Y) Z) (fZ : po_fin 0 Z) : ¬ fd_D Y T := fun h => by
  obtain ⟨g1, g2⟩ := @ga_ch3 po_P po_ring T Y Z
  have e1 : W0 = po_mul T (po_mul Y Z) := e.trans g1
  have e2 : W0 = po_mul Y (po_mul T Z) := e.trans g2
  obtain ⟨_, s1, n1, d1⟩ := zp_n_div hW e1 (po_fin_mul (zp_n_fin hY) fZ) hT.2.1 hT.2.2
  obtain ⟨_, s2, n2, d2⟩ := zp_n_div hW e2 (po_fin_mul (zp_n_fin hT) fZ) hY.2.1 hY.2.2
  obtain ⟨_, s3, n3, d3⟩ := zp_n_div hW e fZ (zp_n_mul hT hY).2.1 (zp_n_mul hT hY).2.2
  have Yb : ∀ i, (Y i).natAbs ≤ 60000 := zb_all (n := 0) (zp_n_t hY) (zp_n_t n2) e2 (by omega) hb
  have Yl : (Y y).natAbs ≤ 20 := zb_lead (zp_n_t hY) (zp_n_t n2) e2 hb
  by_cases z : y < t
  · obtain ⟨q, e', t1, t2, q1, q2, q3⟩ := h
    have ee : e' = t := zp_t_u ⟨by omega, t2⟩ (zp_n_t hT)
    subst ee
    have q0 : q = fun _ => 0 := by funext i; exact q3 y hY.2.2 i (by omega)
    have h1 := q1 y
    rw [q0, po_mul_zL, Int.sub_zero] at h1
    have := hY.2.1
    have := Int.le_of_dvd (by omega) h1
    omega
  · have Tb : ∀ i, (T i).natAbs ≤ 2500 := by
      by_cases t1 : t = 1
      · subst t1
        exact fun i => Nat.le_trans (zb_lin0 (zp_n_t hT) e1 (zp_n_t n1) hb i) (by omega)
      · have t2 : t = 2 := by omega
        subst t2
        exact zb_quad (zp_n_t hT) (zp_n_t n1) (by omega) e1 hb
    have td := sz_true (a := 60000) (B := 2500) (H := 50000) (C0 := 20) (C1 := 110000) (C2 := 275110000) (C3 := 688050110000) (M := 1) hY.2.2 Yb Tb hT.2.1 hT.2.2 ht (by omega) (fun q0 e => by
      have h1 : q0.natAbs ≤ 20 := zb_abs e.symm (by have := hT.2.1; omega) Yl
      exact ⟨h1, fun s => zb_mm2 h1 (Tb s)⟩) (by omega) (by omega) (by omega) (by omega) (by omega) ⟨po_C 0, po_fin_C _ _, fun i => Int.one_dvd _⟩ (fun x _ => Int.one_dvd x) (fun r hr _ => by rw [Int.mul_one]; exact hr) h
    obtain ⟨Q, f1, f2, _⟩ := td
    have c2 : zp_cop (po_mul T (po_C 1)) (po_mul T Q) := by rw [zp_m1, zp_mulc T Q, ← f2]; exact hc
    have := zp_t_u (zp_cop_t c2 (zp_n_fin hT) (po_fin_C _ _) f1) (zp_n_t hT)
    omega
theorem ga_ch4 {R : Type} [Lean.Grind.CommRing R] {p t y s : R} : (p * t) * y * s = (p * y) * (t * s) ∧ (p * t) * y = t * (p * y) := by constructor <;> grind
theorem rc_chain {W0 W T Y Z L Q : po_P} {nW t y n e : Nat} (hW : zp_n nW W0) (h5 : nW ≤ 5) (hb : ∀ i, (W0 i).natAbs ≤ 20) (hT : zp_n t T) (ht : 1 ≤ t) (hY : zp_n y Y) (hc : zp_cop T Y) (he : 1 ≤ e) (eW : W = po_mul (po_pow T e) Y) (eZ : W0 = po_mul Z W) (fZ : po_fin 0 Z) (hn : n + (t * e + y) ≤ 5) : rc_ch L W T Q n e Y := by
  have nWc : ∀ i, zp_n (t * i + y) (po_mul (po_pow T i) Y) := fun i => zp_n_mul (zp_n_pow hT i) hY
  have dv : ∀ j i, i + j = e → ∃ S, po_fin 0 S ∧ W0 = po_mul (po_mul (po_pow T i) Y) S := by
    intro j
    induction j with
    | zero => intro i hi; rw [Nat.add_zero] at hi; subst hi; exact ⟨Z, fZ, by rw [eZ, eW, zp_mulc]⟩
    | succ j ih =>
      intro i hi
      obtain ⟨S, f, h⟩ := ih (i + 1) (by omega)
      exact ⟨po_mul T S, po_fin_mul (zp_n_fin hT) f, h.trans (@ga_ch4 po_P po_ring (po_pow T i) T Y S).1⟩
  have bd : ∀ i, i ≤ e → ∀ s, (po_mul (po_pow T i) Y s).natAbs ≤ 60000 := fun i hi => by
    obtain ⟨S, f, h⟩ := dv (e - i) i (by omega)
    obtain ⟨_, b, nS, hb'⟩ := zp_n_div hW h f (nWc i).2.1 (nWc i).2.2
    exact zb_all (n := 0) (zp_n_t (nWc i)) (zp_n_t nS) h (by omega) hb
  obtain ⟨S, fS, hS⟩ := dv (e - 1) 1 (by omega)
  have p1 : po_mul (po_pow T 1) Y = po_mul T Y := by rw [zp_pow1]
  rw [p1] at hS
  have Tb : ∀ i, (T i).natAbs ≤ 60000 := by
    have h := hS.trans (@ga_ch3 po_P po_ring T Y S).1
    obtain ⟨_, b, nS, hb'⟩ := zp_n_div hW h (po_fin_mul (zp_n_fin hY) fS) hT.2.1 hT.2.2
    exact zb_all (n := 0) (zp_n_t hT) (zp_n_t nS) h (by omega) hb
  have te : e ≤ t * e ∧ t ≤ t * e := ⟨by have := Nat.mul_le_mul_right e ht; omega, by have := Nat.mul_le_mul_left t he; omega⟩
  have p0 : po_mul (po_pow T 0) Y = Y := zp_1m Y
  refine ⟨⟨t, ht, by omega, hT.2.1, hT.2.2⟩, fun i => by have := Tb i; omega, by omega, fun i => po_mul (po_pow T i) Y, eW, fun i hi => ?_, ?_, p0.symm⟩
  · exact fd_TD_i hT (@ga_ch4 po_P po_ring (po_pow T i) T Y Y).2 (zp_n_fin (nWc i)) Tb (fun s => Nat.le_trans (bd i (by omega) s) (by omega))
  · show ¬ fd_D (po_mul (po_pow T 0) Y) T
    rw [p0]
    exact rc_nd hW h5 hb hT ht hY hc hS fS
/-- a linear polynomial divides or is coprime -/
theorem zp_lin_irr {L T : po_P} (hL : zp_n 1 L) (fT : po_fin 0 T) : (∃ X, po_fin 0 X ∧ T = po_mul L X) ∨ zp_cop L T := by
  obtain ⟨G, A1, B1, g, p1, p2, p3, e1, e2, f1, f2, c⟩ := zp_eu (zp_n_fin hL) fT (zp_n_n0 hL)
  obtain ⟨nG, b, nA, hb⟩ := zp_n_div hL e1 f1 p2 p3
  by_cases z : b = 0
  · subst z
    left
    refine ⟨B1, f2, ?_⟩
    rw [zp_n0 nA, zp_m1] at e1
    rw [e1]; exact e2
  · right
    have g0 : g = 0 := by omega
    subst g0
    rw [zp_n0 nG, zp_1m] at e1 e2
    rw [e1, e2]; exact c
/-- two primitive polynomials that are proportional are the same -/
theorem zp_prop {A B : po_P} {a b : Nat} {c d : Int} (hA : zp_n a A) (hB : zp_n b B) (hc : 0 < c) (hd : 0 < d) (h : po_mul (po_C c) A = po_mul (po_C d) B) : A = B := by
  have e1 : po_mul (po_C c) A = po_mul B (po_C d) := by rw [h, zp_mulc]
  obtain ⟨X, x1, x2⟩ := zp_gauss hB.1 (by omega) e1
  have fX : po_fin 0 X := zp_fin_q (by omega) x1 (po_fin_C _ _)
  obtain ⟨_, s, nX, hs⟩ := zp_n_div hA x2 fX hB.2.1 hB.2.2
  have e2 : po_mul (po_C d) B = po_mul A (po_C c) := by rw [← h, zp_mulc]
  obtain ⟨Y, y1, y2⟩ := zp_gauss hA.1 (by omega) e2
  have fY : po_fin 0 Y := zp_fin_q (by omega) y1 (po_fin_C _ _)
  obtain ⟨_, r, nY, hr⟩ := zp_n_div hB y2 fY hA.2.1 hA.2.2
  have s0 : s = 0 := by omega
  subst s0
  rw [x2, zp_n0 nX, zp_m1]
end
section
/-! the invariant of recombine -/
def rc_S (k P K l nW : Nat) (V : Nat → po_P) (dg : Nat → Nat) (W0 : po_P) : Prop := k < 29 ∧ po_prime P ∧ (P : Int) ^ K = fs_m k ∧ l ≤ 5 ∧ zp_n nW W0 ∧ nW ≤ 5 ∧ (∀ i, (W0 i).natAbs ≤ 20) ∧ (∀ j, j < l → (∀ i, 0 ≤ V j i ∧ V j i < fs_m k) ∧ V j (dg j) = 1 ∧ ∀ i, dg j < i → V j i = 0) ∧ ∀ j, j < l → 1 ≤ dg j
def rc_A (l : Nat) (m : Int) (V : Nat → po_P) (dg : Nat → Nat) (sz st pc : Nat) (L0 : po_P) (al : Nat) : Prop := al < l ∧ dg al = 1 ∧ pc / 2 ^ al % 2 = 1 ∧ po_eq m L0 (po_mul (po_C (L0 1)) (V al)) ∧ ((sz = 1 ∧ st ≤ 2 ^ al) ∨ pc = 2 ^ al)
def rc_L (P l : Nat) (m : Int) (V : Nat → po_P) (dg : Nat → Nat) (pc : Nat) (L : po_P) : Prop := pc < 2 ^ l ∧ pc ≠ 0 ∧ zp_n (po_psd dg pc l) L ∧ zp_sf L ∧ po_sqf P L ∧ ¬ (P : Int) ∣ L (po_psd dg pc l) ∧ po_eq m L (po_mul (po_C (L (po_psd dg pc l))) (po_ps V pc l))
def rc_I (P l : Nat) (m : Int) (V : Nat → po_P) (dg : Nat → Nat) (W0 : po_P) (sz st pc : Nat) (L W : po_P) (n : Nat) : Prop :=
  rc_L P l m V dg pc L ∧ (∃ Z, po_fin 0 Z ∧ W0 = po_mul Z W) ∧
  ∃ L0 Q i j dL dQ, L = po_mul L0 Q ∧ W = po_mul (po_pow L0 (i + 1)) (po_pow Q (j + 1)) ∧ zp_n dL L0 ∧ zp_n dQ Q ∧ n + (dL * (i + 1) + dQ * (j + 1)) ≤ 5 ∧ (dL = 0 ∨ (dL = 1 ∧ ∃ al, rc_A l m V dg sz st pc L0 al))
theorem ga_rcA {R : Type} [Lean.Grind.CommRing R] {z p l q r : R} : z * ((p * l) * (r * q)) = (l * q) * (z * (p * r)) ∧ z * ((p * l) * (r * q)) = l * (z * (p * (r * q))) ∧ z * ((p * l) * (r * q)) = q * (z * ((p * l) * r)) := by refine ⟨?_, ?_, ?_⟩ <;> grind
section
variable {k P K l nW : Nat} {V : Nat → po_P} {dg : Nat → Nat} {W0 : po_P}
theorem rc_mo (hS : rc_S k P K l nW V dg W0) : ∀ j, j < l → po_mo (fs_m k) (dg j) (V j) := fun j hj => fd_top_mo (hS.2.2.2.2.2.2.2.1 j hj).2.1 (hS.2.2.2.2.2.2.2.1 j hj).2.2
theorem rc_Vf (hS : rc_S k P K l nW V dg W0) (m : Int) : ∀ j, j < l → po_fin m (V j) := fun j hj => po_fin_0 (n := dg j + 1) (fun i hi => (hS.2.2.2.2.2.2.2.1 j hj).2.2 i (by omega))
theorem rc_PK (hS : rc_S k P K l nW V dg W0) : (P : Int) ∣ fs_m k := by
  obtain ⟨hk, hP, hm, _⟩ := hS
  obtain ⟨m1, _⟩ := fs_mb k hk
  cases K with
  | zero => rw [Int.pow_zero] at hm; omega
  | succ K => rw [← hm, Int.pow_succ]; exact Int.dvd_mul_left _ _
/-- L, L0 and Q divide the whole -/
theorem rc_dv {Z L0 Q W : po_P} {i j : Nat} {nL dL dQ : Nat} (hS : rc_S k P K l nW V dg W0) (fZ : po_fin 0 Z) (eZ : W0 = po_mul Z W) (n0 : zp_n dL L0) (nQ : zp_n dQ Q) (eW : W = po_mul (po_pow L0 (i + 1)) (po_pow Q (j + 1))) (nL' : zp_n nL (po_mul L0 Q)) :
    (∃ Y, po_fin 0 Y ∧ W0 = po_mul (po_mul L0 Q) Y) ∧ (po_mul L0 Q nL).natAbs ≤ 20 ∧ (Q dQ).natAbs ≤ 20 ∧ (dL = 1 → ∀ t, (L0 t).natAbs ≤ 20) ∧ (∀ t, (L0 t).natAbs ≤ 60000) ∧ (∀ t, (Q t).natAbs ≤ 60000) := by
  obtain ⟨_, _, _, _, hW, h5, hb, _⟩ := hS
  have e0 : W0 = po_mul Z (po_mul (po_mul (po_pow L0 i) L0) (po_mul (po_pow Q j) Q)) := by rw [eZ, eW]; rfl
  obtain ⟨g1, g2, g3⟩ := @ga_rcA po_P po_ring Z (po_pow L0 i) L0 Q (po_pow Q j)
  have f0 : po_fin 0 L0 := zp_n_fin n0
  have fQ : po_fin 0 Q := zp_n_fin nQ
  have fp := zp_pow_fin f0 i
  have fq := zp_pow_fin fQ j
  have e1 := e0.trans g1
  have e2 := e0.trans g2
  have e3 := e0.trans g3
  have F1 : po_fin 0 (po_mul Z (po_mul (po_pow L0 i) (po_pow Q j))) := po_fin_mul fZ (po_fin_mul fp fq)
  have F2 : po_fin 0 (po_mul Z (po_mul (po_pow L0 i) (po_mul (po_pow Q j) Q))) := po_fin_mul fZ (po_fin_mul fp (po_fin_mul fq fQ))
  have F3 : po_fin 0 (po_mul Z (po_mul (po_mul (po_pow L0 i) L0) (po_pow Q j))) := po_fin_mul fZ (po_fin_mul (po_fin_mul fp f0) fq)
  obtain ⟨_, b1, n1, d1⟩ := zp_n_div hW e1 F1 nL'.2.1 nL'.2.2
  obtain ⟨_, b2, n2, d2⟩ := zp_n_div hW e2 F2 n0.2.1 n0.2.2
  obtain ⟨_, b3, n3, d3⟩ := zp_n_div hW e3 F3 nQ.2.1 nQ.2.2
  refine ⟨⟨_, F1, e1⟩, zb_lead (zp_n_t nL') (zp_n_t n1) e1 hb, zb_lead (zp_n_t nQ) (zp_n_t n3) e3 hb, fun z => ?_, zb_all (n := 0) (zp_n_t n0) (zp_n_t n2) e2 (by omega) hb, zb_all (n := 0) (zp_n_t nQ) (zp_n_t n3) e3 (by omega) hb⟩
  subst z
  exact zb_lin0 (zp_n_t n0) e2 (zp_n_t n2) hb
theorem rc_psd (hS : rc_S k P K l nW V dg W0) {s : Nat} (hs : s < 2 ^ l) (hs0 : s ≠ 0) : 1 ≤ po_psd dg s l := by
  obtain ⟨_, _, _, h5, _, _, _, _, hd⟩ := hS
  obtain ⟨j, j1, j2⟩ := rc_bl l (by omega) s hs hs0
  have := po_psd_ge (dg := dg) j2 l j1
  have := hd j j1
  omega
theorem ga_rcB {R : Type} [Lean.Grind.CommRing R] {c T a v m x l y z q : R} (h : c * T = a * v + m * x) (k : l = y * v + m * z) (e : a = q * y) : c * T = q * l + m * (x - q * z) := by grind
/-- the trial at the piece of the linear factor is that factor -/
theorem rc_T0 (hS : rc_S k P K l nW V dg W0) {L0 Q T : po_P} {dQ D al : Nat} (n0 : zp_n 1 L0) (nQ : zp_n dQ Q) (nL : zp_n D (po_mul L0 Q)) (b0 : ∀ t, (L0 t).natAbs ≤ 20) (bQ : (Q dQ).natAbs ≤ 20) (hal : al < l) (hV : po_eq (fs_m k) L0 (po_mul (po_C (L0 1)) (V al))) (hT : tp_T (fs_m k) (po_mul L0 Q D) V dg (2 ^ al) l T) : T = L0 := by
  obtain ⟨m1, m2⟩ := fs_mb k hS.1
  have l5 : l ≤ 5 := hS.2.2.2.1
  obtain ⟨p1, p2⟩ := po_ps_one (V := V) (dg := dg) (s := 2 ^ al) l hal (fun j hj => rc_pb al (by omega) j (by omega))
  have D1 : D = 1 + dQ := zp_t_u (zp_n_t nL) (zp_t_mul (zp_n_t n0) (zp_n_t nQ))
  have ld : po_mul L0 Q D = L0 1 * Q dQ := by rw [D1]; exact (zp_top n0.2.2 nQ.2.2).1
  have h1 := b0 1
  have h2 := zb_mm2 h1 bQ
  have hp : 0 < po_mul L0 Q D := nL.2.1
  obtain ⟨c, cp, nT, cT, cb, ce, _⟩ := tp_inf hp (by rw [ld]; omega) hT
  rw [p1, ld] at ce
  obtain ⟨x, hx⟩ := po_eq_ex ce
  obtain ⟨z, hz⟩ := po_eq_ex hV
  have e : po_C (L0 1 * Q dQ) = po_mul (po_C (Q dQ)) (po_C (L0 1)) := by rw [← po_C_mul, Int.mul_comm]
  have g := po_ex_eq (@ga_rcB po_P po_ring _ _ _ _ _ _ _ _ _ _ hx hz e)
  have qp := nQ.2.1
  have eq : po_mul (po_C c) T = po_mul (po_C (Q dQ)) L0 := by
    funext i
    have gi : (fs_m k : Int) ∣ po_mul (po_C c) T i - po_mul (po_C (Q dQ)) L0 i := g i
    rw [po_mul_C, po_mul_C] at gi ⊢
    have k1 := cb i
    have k2 := zb_mm2 bQ (b0 i)
    apply Classical.byContradiction
    intro w
    have := Int.natAbs_dvd_natAbs.mpr gi
    rw [Int.natAbs_natCast] at this
    have := Nat.le_of_dvd (by omega) this
    omega
  exact zp_prop nT n0 cp qp eq
end
end
section
/-! the steps of recombine keep the invariant -/
theorem ga_o1 {R : Type} [Lean.Grind.CommRing R] {z p y : R} : z * (p * y) = (z * p) * y := by grind
theorem ga_o2 {R : Type} [Lean.Grind.CommRing R] {a b c : R} : a * (b * c) = b * (a * c) := by grind
section
variable {k P K l nW : Nat} {V : Nat → po_P} {dg : Nat → Nat} {W0 : po_P}
theorem rc_lead (hS : rc_S k P K l nW V dg W0) {sz st pc n : Nat} {L W : po_P} (h : rc_I P l (fs_m k) V dg W0 sz st pc L W n) : (L (po_psd dg pc l)).natAbs ≤ 20 ∧ ∃ Y, po_fin 0 Y ∧ W0 = po_mul L Y := by
  obtain ⟨⟨_, _, h3, _⟩, ⟨Z, fZ, eZ⟩, L0, Q, i, j, dL, dQ, e1, e2, n1, n2, _⟩ := h
  rw [e1] at h3
  obtain ⟨r1, r2, _⟩ := rc_dv hS fZ eZ n1 n2 e2 h3
  rw [e1]
  exact ⟨r2, r1⟩
theorem rc_OB (hS : rc_S k P K l nW V dg W0) {sz st pc n : Nat} {L W : po_P} (h : rc_I P l (fs_m k) V dg W0 sz st pc L W n) : pc < 32 ∧ ∃ nL, 0 < L nL ∧ (∀ i, nL < i → L i = 0) ∧ 2 * L nL ≤ fs_m k := by
  obtain ⟨m1, m2⟩ := fs_mb k hS.1
  have l5 : l ≤ 5 := hS.2.2.2.1
  have r := (rc_lead hS h).1
  have := rc_pl l (by omega)
  exact ⟨by have := h.1.1; omega, _, h.1.2.2.1.2.1, h.1.2.2.1.2.2, by omega⟩
/-- the new left part after a found factor -/
theorem rc_newL (hS : rc_S k P K l nW V dg W0) {sz st pc n : Nat} {L W T : po_P} (h : rc_I P l (fs_m k) V dg W0 sz st pc L W n) (hst1 : 1 ≤ st) (hst : st < 32) (hsub : st &&& (31 ^^^ pc) = 0) (hsz : pc_n st = sz) (hsz1 : 1 ≤ sz) (h2 : 2 * sz ≤ pc_n pc) (hT : tp_T (fs_m k) (L (po_psd dg pc l)) V dg st l T) (hD : fd_D L T ∨ fd_TD L T) :
    ∃ Q, fd_TQ L T Q ∧ rc_L P l (fs_m k) V dg (pc &&& (31 ^^^ st)) Q ∧ zp_n (po_psd dg st l) T ∧ 1 ≤ po_psd dg st l ∧ zp_cop T Q ∧ po_cb P Q T (po_C 1) ∧ po_psd dg pc l = po_psd dg st l + po_psd dg (pc &&& (31 ^^^ st)) l := by
  obtain ⟨m1, m2⟩ := fs_mb k hS.1
  obtain ⟨r1, Y, fY, hY⟩ := rc_lead hS h
  obtain ⟨pc32, _⟩ := rc_OB hS h
  obtain ⟨⟨h1, h2', h3, h4, h5, h6, h7⟩, _⟩ := h
  have hS' := hS
  obtain ⟨hk, hP, hm, l5, hW, w5, hb, hV, hdg⟩ := hS'
  obtain ⟨s1, s2⟩ := po_ps_split (V := V) (dg := dg) l (fun j hj => rc_bit st hst pc pc32 hsub j (by omega))
  have stl : st < 2 ^ l := Nat.lt_of_le_of_lt (rc_sub st hst pc pc32 hsub) h1
  have d1 := rc_psd hS stl (by omega)
  rw [s1] at h7
  have fR : po_fin (fs_m k : Int) (po_ps V (pc &&& (31 ^^^ st)) l) := po_ps_fin l (rc_Vf hS _)
  obtain ⟨Q, hQ⟩ := rc_td hk hP hm h3 h4 hW w5 hb hY fY h6 hT d1 h7 fR hD
  have fQ := hQ.1
  have eQ := hQ.2.1
  obtain ⟨d, nQ, hd, hPQ, hQV⟩ := rc_q hP hm h3 (by omega) h6 hT d1 (rc_mo hS) h7 fR eQ fQ
  have dd : d = po_psd dg (pc &&& (31 ^^^ st)) l := by omega
  subst dd
  obtain ⟨_, _, nT, _⟩ := tp_inf h3.2.1 (by omega) hT
  have fT : po_fin 0 T := zp_n_fin nT
  rw [eQ] at h4 h5
  obtain ⟨q1, q2⟩ := zp_sf_d h4 fQ fT
  obtain ⟨q3, q4⟩ := po_sqf_d h5 (zp_fin_m fQ) (zp_n_fin nT)
  exact ⟨Q, hQ, ⟨Nat.lt_of_le_of_lt Nat.and_le_left h1, rc_ne st hst pc pc32 (by omega) (by omega), nQ, q1, q3, hPQ, hQV⟩, nT, d1, zp_cop_s q2, q4, s2⟩
theorem rc_OT (hS : rc_S k P K l nW V dg W0) {sz st pc n nL : Nat} {L W T : po_P} (h : rc_I P l (fs_m k) V dg W0 sz st pc L W n) (hL1 : 0 < L nL) (hL2 : ∀ i, nL < i → L i = 0) (hst1 : 1 ≤ st) (hst : st < 32) (hsub : st &&& (31 ^^^ pc) = 0) (hsz : pc_n st = sz) (hsz1 : 1 ≤ sz) (h2 : 2 * sz ≤ pc_n pc) (hT : tp_T (fs_m k) (L nL) V dg st l T) (hD : fd_D L T ∨ fd_TD L T) :
    ∃ Q e Y, fd_TQ L T Q ∧ rc_ch L W T Q n e Y ∧ rc_I P l (fs_m k) V dg W0 sz (st + 1) (pc &&& (31 ^^^ st)) Q Y (n + e) := by
  have enL : nL = po_psd dg pc l := zp_t_u ⟨by omega, hL2⟩ (zp_n_t h.1.2.2.1)
  subst enL
  obtain ⟨Q', hQ, hNL, nT, d1, cTQ, cbQT, sd⟩ := rc_newL hS h hst1 hst hsub hsz hsz1 h2 hT hD
  obtain ⟨pc32, _⟩ := rc_OB hS h
  obtain ⟨hL, ⟨Z, fZ, eZ⟩, L0, Q, i, j, dL, dQ, e1, e2, n0, nQ, hn, hcase⟩ := h
  have hS' := hS
  obtain ⟨hk, hP, hm, l5, hW, w5, hb, hV, hdg⟩ := hS'
  have fQ' := hQ.1
  have eQ' := hQ.2.1
  have fT : po_fin 0 T := zp_n_fin nT
  have nQ' := hNL.2.2.1
  rcases hcase with z | ⟨z, al, a1, a2, a3, a4, a5⟩
  · -- no linear factor apart
    subst z
    have E0 := zp_n0 n0
    rw [E0, zp_1m] at e1
    rw [E0, zp_pow_1, zp_1m] at e2
    have dQ' : dQ = po_psd dg st l + po_psd dg (pc &&& (31 ^^^ st)) l := by rw [← sd]; rw [e1] at hL; exact zp_t_u (zp_n_t nQ) (zp_n_t hL.2.2.1)
    have eW : W = po_mul (po_pow T (j + 1)) (po_pow Q' (j + 1)) := by rw [e2, ← zp_pow_mul, ← e1, eQ', zp_mulc]
    have nY := zp_n_pow nQ' (j + 1)
    have hn' : n + (po_psd dg st l * (j + 1) + po_psd dg (pc &&& (31 ^^^ st)) l * (j + 1)) ≤ 5 := by rw [dQ', Nat.add_mul] at hn; omega
    have te : j + 1 ≤ po_psd dg st l * (j + 1) := by have := Nat.mul_le_mul_right (j + 1) d1; omega
    refine ⟨Q', j + 1, po_pow Q' (j + 1), hQ, rc_chain hW w5 hb nT d1 nY (zp_cop_p cTQ fQ' _) (by omega) eW eZ fZ hn', hNL, ⟨po_mul Z (po_pow T (j + 1)), po_fin_mul fZ (zp_pow_fin fT _), ?_⟩, po_C 1, Q', 0, j, 0, _, (zp_1m _).symm, ?_, zp_n1, nQ', by omega, Or.inl rfl⟩
    · rw [eZ, eW]; exact @ga_o1 po_P po_ring _ _ _
    · rw [zp_pow_1, zp_1m]
  · subst z
    rcases a5 with ⟨s1, s2⟩ | s2
    rotate_left
    · exfalso
      rw [s2, rc_p1 al (by omega)] at h2; omega
    subst s1
    obtain ⟨r, r5, rfl⟩ := rc_sg st hst hsz
    have nLL : zp_n (po_psd dg pc l) (po_mul L0 Q) := by rw [← e1]; exact hL.2.2.1
    obtain ⟨_, b1, b2, b3, b4, b5⟩ := rc_dv hS fZ eZ n0 nQ e2 nLL
    have sfL : zp_sf (po_mul L0 Q) := by rw [← e1]; exact hL.2.2.2.1
    obtain ⟨_, c0⟩ := zp_sf_d sfL (zp_n_fin n0) (zp_n_fin nQ)
    by_cases ra : r = al
    · -- the linear factor itself
      subst ra
      rw [e1] at hT
      have TL := rc_T0 hS n0 nQ nLL (b3 rfl) b2 a1 a4 hT
      subst TL
      have QQ : Q' = Q := zp_can (zp_n_n0 n0) (by rw [zp_mulc T Q', ← eQ', ← e1])
      subst QQ
      have nY := zp_n_pow nQ (j + 1)
      refine ⟨Q', i + 1, po_pow Q' (j + 1), hQ, rc_chain hW w5 hb n0 (by omega) nY (zp_cop_p c0 (zp_n_fin nQ) _) (by omega) e2 eZ fZ hn, hNL, ⟨po_mul Z (po_pow T (i + 1)), po_fin_mul fZ (zp_pow_fin fT _), ?_⟩, po_C 1, Q', 0, j, 0, dQ, (zp_1m _).symm, ?_, zp_n1, nQ, by omega, Or.inl rfl⟩
      · rw [eZ, e2]; exact @ga_o1 po_P po_ring _ _ _
      · rw [zp_pow_1, zp_1m]
    · -- another factor, found ahead of the linear one
      have rl : r < al := by
        have := (Nat.pow_le_pow_iff_right (a := 2) (by omega)).mp s2
        omega
      have rb : (pc &&& (31 ^^^ 2 ^ r)) / 2 ^ al % 2 = 1 := by
        have := rc_bit (2 ^ r) hst pc pc32 hsub al (by omega)
        rw [rc_pb r r5 al (by omega), if_neg (by omega), a3] at this
        omega
      have dom := po_prime_dom hP
      have cL0T : zp_cop L0 T := by
        rcases zp_lin_irr n0 fT with ⟨X, fX, eX⟩ | c
        · exfalso
          have PK := rc_PK hS
          have mo := rc_mo hS al a1
          rw [a2] at mo
          have moP : po_mo P 1 (V al) := ⟨fun i hi => Int.dvd_trans PK (mo.1 i hi), Int.dvd_trans PK mo.2⟩
          have v1 : po_dv P (V al) L0 := po_dv_eq (po_dv_mulL _ (po_fin_C _ _) (po_dv_r _ _)) (po_eq_s (po_eq_dvd PK a4))
          have v2 : po_dv P (V al) T := by rw [eX]; exact po_dv_mulR X (zp_fin_m fX) v1
          have v3 : po_dv P (V al) Q' := po_dv_eq (po_dv_mulL _ (po_fin_C _ _) (po_ps_dv rb l a1 (rc_Vf hS _))) (po_eq_s (po_eq_dvd PK hNL.2.2.2.2.2.2))
          exact po_mo_n1 moP (by omega) dom.1 (po_dv_cb v3 v2 cbQT)
        · exact c
      obtain ⟨Y1, fY1, eY1⟩ := zp_cop_q nT.1 (zp_cop_s cL0T) (show po_mul L0 Q = po_mul T Q' by rw [← e1, eQ', zp_mulc]) (zp_n_fin nQ) fQ'
      have eQ2 : Q' = po_mul L0 Y1 := zp_can (zp_n_n0 nT) (by
        rw [zp_mulc T Q', ← eQ', e1, eY1]
        exact @ga_o2 po_P po_ring _ _ _)
      obtain ⟨_, y, nY1, hy⟩ := zp_n_div nQ eY1 fY1 nT.2.1 nT.2.2
      have cTY1 : zp_cop T Y1 := by
        rw [eQ2, zp_mulc] at cTQ
        exact zp_cop_s (zp_cop_d (zp_cop_s cTQ) (zp_n_fin n0))
      have cY := zp_cop_m (zp_cop_p (zp_cop_s cL0T) (zp_n_fin n0) (i + 1)) (zp_cop_p cTY1 fY1 (j + 1)) (zp_pow_fin (zp_n_fin n0) _)
      have nY : zp_n (1 * (i + 1) + y * (j + 1)) _ := zp_n_mul (zp_n_pow n0 (i + 1)) (zp_n_pow nY1 (j + 1))
      have eW : W = po_mul (po_pow T (j + 1)) (po_mul (po_pow L0 (i + 1)) (po_pow Y1 (j + 1))) := by
        rw [e2, eY1, zp_pow_mul]
        exact @ga_o2 po_P po_ring _ _ _
      have hn' : n + (po_psd dg (2 ^ r) l * (j + 1) + (1 * (i + 1) + y * (j + 1))) ≤ 5 := by rw [← hy, Nat.add_mul] at hn; omega
      have te : j + 1 ≤ po_psd dg (2 ^ r) l * (j + 1) := by have := Nat.mul_le_mul_right (j + 1) d1; omega
      refine ⟨Q', j + 1, _, hQ, rc_chain hW w5 hb nT d1 nY cY (by omega) eW eZ fZ hn', hNL, ⟨po_mul Z (po_pow T (j + 1)), po_fin_mul fZ (zp_pow_fin fT _), ?_⟩, L0, Y1, i, j, 1, y, eQ2, rfl, n0, nY1, by omega, Or.inr ⟨rfl, al, a1, a2, rb, a4, Or.inl ⟨rfl, ?_⟩⟩⟩
      · rw [eZ, eW]; exact @ga_o1 po_P po_ring _ _ _
      · exact (Nat.pow_lt_pow_iff_right (a := 2) (by omega)).mpr rl
theorem rc_keep {sz st pc n sz' st' : Nat} {L W : po_P} (h : rc_I P l (fs_m k) V dg W0 sz st pc L W n) (hh : ∀ L0 Q i j dQ al, L = po_mul L0 Q → W = po_mul (po_pow L0 (i + 1)) (po_pow Q (j + 1)) → zp_n 1 L0 → zp_n dQ Q → rc_A l (fs_m k) V dg sz st pc L0 al → (sz' = 1 ∧ st' ≤ 2 ^ al) ∨ pc = 2 ^ al) : rc_I P l (fs_m k) V dg W0 sz' st' pc L W n := by
  obtain ⟨hL, hZ, L0, Q, i, j, dL, dQ, e1, e2, n0, nQ, hn, hcase⟩ := h
  refine ⟨hL, hZ, L0, Q, i, j, dL, dQ, e1, e2, n0, nQ, hn, ?_⟩
  rcases hcase with z | ⟨z, al, hA⟩
  · exact Or.inl z
  · subst z
    exact Or.inr ⟨rfl, al, hA.1, hA.2.1, hA.2.2.1, hA.2.2.2.1, hh L0 Q i j dQ al e1 e2 n0 nQ hA⟩
theorem rc_OF (hS : rc_S k P K l nW V dg W0) {sz st pc n nL : Nat} {L W T : po_P} (h : rc_I P l (fs_m k) V dg W0 sz st pc L W n) (hL1 : 0 < L nL) (hL2 : ∀ i, nL < i → L i = 0) (hT : tp_T (fs_m k) (L nL) V dg st l T) (hD : ¬ fd_TD L T) : rc_I P l (fs_m k) V dg W0 sz (st + 1) pc L W n := by
  have enL : nL = po_psd dg pc l := zp_t_u ⟨by omega, hL2⟩ (zp_n_t h.1.2.2.1)
  subst enL
  refine rc_keep h (fun L0 Q i j dQ al e1 e2 n0 nQ hA => ?_)
  obtain ⟨a1, a2, a3, a4, a5⟩ := hA
  rcases a5 with ⟨s1, s2⟩ | s2
  · by_cases z : st = 2 ^ al
    · exfalso
      obtain ⟨hL, ⟨Z, fZ, eZ⟩, _⟩ := h
      have nLL : zp_n (po_psd dg pc l) (po_mul L0 Q) := by rw [← e1]; exact hL.2.2.1
      obtain ⟨_, b1, b2, b3, b4, b5⟩ := rc_dv hS fZ eZ n0 nQ e2 nLL
      rw [z, e1] at hT
      have TL := rc_T0 hS n0 nQ nLL (b3 rfl) b2 a1 a4 hT
      subst TL
      exact hD ⟨Q, fd_TD_i n0 e1 (zp_n_fin nQ) b4 (fun t => Nat.le_trans (b5 t) (by omega))⟩
    · exact Or.inl ⟨s1, by omega⟩
  · exact Or.inr s2
theorem rc_OS (hS : rc_S k P K l nW V dg W0) {sz st pc n : Nat} {L W : po_P} (h : rc_I P l (fs_m k) V dg W0 sz st pc L W n) (hs : ¬ st &&& (31 ^^^ pc) = 0 ∨ pc_n st ≠ sz) : rc_I P l (fs_m k) V dg W0 sz (st + 1) pc L W n := by
  obtain ⟨pc32, _⟩ := rc_OB hS h
  have l5 : l ≤ 5 := hS.2.2.2.1
  refine rc_keep h (fun L0 Q i j dQ al e1 e2 n0 nQ hA => ?_)
  obtain ⟨a1, a2, a3, a4, a5⟩ := hA
  rcases a5 with ⟨s1, s2⟩ | s2
  · by_cases z : st = 2 ^ al
    · exfalso
      rw [z, s1] at hs
      rcases hs with y | y
      · exact y (rc_in pc pc32 al (by omega) a3)
      · exact y (rc_p1 al (by omega))
    · exact Or.inl ⟨s1, by omega⟩
  · exact Or.inr s2
theorem rc_p16 : ∀ al, al < 5 → 2 ^ al ≤ 16 := by decide +kernel
theorem rc_OX (hS : rc_S k P K l nW V dg W0) {sz st pc n : Nat} {L W : po_P} (h : rc_I P l (fs_m k) V dg W0 sz st pc L W n) (hs : 32 ≤ st ∨ pc_n pc < 2 * sz) : rc_I P l (fs_m k) V dg W0 (sz + 1) 1 pc L W n := by
  obtain ⟨pc32, _⟩ := rc_OB hS h
  have l5 : l ≤ 5 := hS.2.2.2.1
  refine rc_keep h (fun L0 Q i j dQ al e1 e2 n0 nQ hA => ?_)
  obtain ⟨a1, a2, a3, a4, a5⟩ := hA
  rcases a5 with ⟨s1, s2⟩ | s2
  · have := rc_p16 al (by omega)
    exact Or.inr (rc_one pc pc32 al (by omega) a3 (by omega))
  · exact Or.inr s2
theorem rc_OE (hS : rc_S k P K l nW V dg W0) {sz pc n : Nat} {L W : po_P} (h : rc_I P l (fs_m k) V dg W0 sz 1 pc L W n) (hs : pc_n pc < 2 * sz) : (∃ d, 1 ≤ d ∧ L d ≠ 0) ∧ ∃ e, rc_ch L W L L n e (po_C 1) ∧ n + e ≤ 5 := by
  obtain ⟨pc32, _⟩ := rc_OB hS h
  obtain ⟨hL, ⟨Z, fZ, eZ⟩, L0, Q, i, j, dL, dQ, e1, e2, n0, nQ, hn, hcase⟩ := h
  have hS' := hS
  obtain ⟨hk, hP, hm, l5, hW, w5, hb, hV, hdg⟩ := hS'
  have d1 := rc_psd hS hL.1 hL.2.1
  have nL := hL.2.2.1
  refine ⟨⟨_, d1, by have := nL.2.1; omega⟩, ?_⟩
  rcases hcase with z | ⟨z, al, a1, a2, a3, a4, a5⟩
  · subst z
    have E0 := zp_n0 n0
    rw [E0, zp_1m] at e1
    rw [E0, zp_pow_1, zp_1m] at e2
    have dd : dQ = po_psd dg pc l := zp_t_u (zp_n_t nQ) (by rw [e1] at nL; exact zp_n_t nL)
    rw [← e1] at e2
    have te : j + 1 ≤ dQ * (j + 1) := by have := Nat.mul_le_mul_right (j + 1) (show 1 ≤ dQ by omega); omega
    exact ⟨j + 1, rc_chain hW w5 hb nL d1 zp_n1 (zp_cop_1 _) (by omega) (by rw [zp_m1]; exact e2) eZ fZ (by rw [← dd]; omega), by omega⟩
  · subst z
    have pca : pc = 2 ^ al := by
      rcases a5 with ⟨s1, s2⟩ | s2
      · exact rc_one pc pc32 al (by omega) a3 (by omega)
      · exact s2
    obtain ⟨p1, p2⟩ := po_ps_one (V := V) (dg := dg) (s := 2 ^ al) l a1 (fun j hj => rc_pb al (by omega) j (by omega))
    have dd : po_psd dg pc l = 1 := by rw [pca, p2, a2]
    have nLL : zp_n (po_psd dg pc l) (po_mul L0 Q) := by rw [← e1]; exact nL
    have dq : po_psd dg pc l = 1 + dQ := zp_t_u (zp_n_t nLL) (zp_t_mul (zp_n_t n0) (zp_n_t nQ))
    have dq0 : dQ = 0 := by omega
    subst dq0
    have EQ := zp_n0 nQ
    rw [EQ, zp_m1] at e1
    rw [EQ, zp_pow_1] at e2
    rw [← e1] at e2
    exact ⟨i + 1, rc_chain hW w5 hb nL d1 zp_n1 (zp_cop_1 _) (by omega) e2 eZ fZ (by rw [dd]; omega), by omega⟩
end
end
section
/-! the map h -> h^P modulo P -/
def fb_pas (k : Nat) : List Nat → List Nat
  | [] => [k]
  | c :: cs => (k + c) :: fb_pas c cs
def fb_row : Nat → List Nat
  | 0 => [1]
  | n + 1 => fb_pas 0 (fb_row n)
def fb_ck (P : Nat) : List Nat → Bool
  | [] => false
  | [c] => c == 1
  | c :: d :: cs => c % P == 0 && fb_ck P (d :: cs)
def fb_ok (P : Nat) : List Nat → Bool
  | [] => false
  | c :: cs => c == 1 && fb_ck P cs
theorem fb_all : ∀ k, k < 29 → fb_ok (pm_L.getD k 0) (fb_row (pm_L.getD k 0)) = true := by decide +kernel
theorem fb_fer : ∀ k, k < 29 → pf_ck (pm_L.getD k 0) = true := by decide +kernel
def fb_ev (a b : po_P) : List Nat → po_P
  | [] => po_C 0
  | c :: cs => po_add (po_mul (po_C (c : Int)) (po_pow b cs.length)) (po_mul a (fb_ev a b cs))
theorem fb_pas_len : ∀ (cs : List Nat) (k : Nat), (fb_pas k cs).length = cs.length + 1
  | [], _ => rfl
  | c :: cs, k => by simp only [fb_pas, List.length_cons, fb_pas_len cs c]
theorem fb_row_len : ∀ n, (fb_row n).length = n + 1
  | 0 => rfl
  | n + 1 => by simp only [fb_row, fb_pas_len, fb_row_len n]
theorem ga_fb1 {R : Type} [Lean.Grind.CommRing R] {k c p b a e : R} : (k + c) * (p * b) + a * ((a + b) * e + c * p) = (a + b) * (c * p + a * e) + k * (p * b) := by grind
theorem ga_fb0 {R : Type} [Lean.Grind.CommRing R] {k o z a b : R} (hz : z = 0) : k * o + a * z = (a + b) * z + k * o := by grind
theorem fb_pas_ev (a b : po_P) : ∀ (cs : List Nat) (k : Nat), fb_ev a b (fb_pas k cs) = po_add (po_mul (po_add a b) (fb_ev a b cs)) (po_mul (po_C (k : Int)) (po_pow b cs.length))
  | [], k => @ga_fb0 po_P po_ring (po_C (k : Int)) (po_C 1) (po_C 0) a b rfl
  | c :: cs, k => by
    simp only [fb_pas, fb_ev, fb_pas_len, List.length_cons, po_pow]
    rw [fb_pas_ev a b cs c, Int.natCast_add, po_C_add]
    exact @ga_fb1 po_P po_ring _ _ _ _ _ _
theorem ga_fb2 {R : Type} [Lean.Grind.CommRing R] {s p o z c : R} (hz : z = 0) (h : c = z) : s * p + c * o = p * s := by grind
theorem ga_fb3 {R : Type} [Lean.Grind.CommRing R] {o z a : R} (ho : o = 1) (hz : z = 0) : o = o * o + a * z := by grind
theorem fb_pow (a b : po_P) : ∀ n, po_pow (po_add a b) n = fb_ev a b (fb_row n)
  | 0 => @ga_fb3 po_P po_ring (po_C 1) (po_C 0) a rfl rfl
  | n + 1 => by
    show po_mul (po_pow (po_add a b) n) (po_add a b) = fb_ev a b (fb_pas 0 (fb_row n))
    rw [fb_pas_ev, fb_pow a b n]
    exact (@ga_fb2 po_P po_ring _ _ _ (po_C 0) _ rfl rfl).symm
theorem ga_fb4 {R : Type} [Lean.Grind.CommRing R] {c p m x a e t y : R} (h : c = m * x) (k : e = t + m * y) : c * p + a * e = t * a + m * (x * p + a * y) := by grind
theorem ga_fb5 {R : Type} [Lean.Grind.CommRing R] {c o z a m : R} (h : c = o) (ho : o = 1) (hz : z = 0) : c * o + a * z = o + m * z := by grind
theorem fb_ck_ev {P : Nat} (a b : po_P) : ∀ (cs : List Nat), fb_ck P cs = true → po_eq P (fb_ev a b cs) (po_pow a (cs.length - 1))
  | [], h => by cases h
  | [c], h => by
    have : c = 1 := by simpa [fb_ck] using h
    subst this
    exact po_ex_eq (@ga_fb5 po_P po_ring (po_C 1) (po_C 1) (po_C 0) a (po_C (P : Int)) rfl rfl rfl)
  | c :: d :: cs, h => by
    simp only [fb_ck, Bool.and_eq_true, beq_iff_eq] at h
    have ih := fb_ck_ev a b (d :: cs) h.2
    obtain ⟨y, hy⟩ := po_eq_ex ih
    obtain ⟨x, hx⟩ := Nat.dvd_of_mod_eq_zero h.1
    have e : po_C (c : Int) = po_mul (po_C (P : Int)) (po_C (x : Int)) := by rw [← po_C_mul, hx, Int.natCast_mul]
    exact po_ex_eq (@ga_fb4 po_P po_ring _ _ _ _ _ _ _ _ e hy)
theorem ga_fb6 {R : Type} [Lean.Grind.CommRing R] {o bp a e m y t : R} (ho : o = 1) (h : e = t + m * y) : o * bp + a * e = (t * a + bp) + m * (a * y) := by grind
/-- (a + b)^P = a^P + b^P modulo P -/
theorem fb_dream {k : Nat} (hk : k < 29) (a b : po_P) : po_eq (pm_L.getD k 0 : Nat) (po_pow (po_add a b) (pm_L.getD k 0)) (po_add (po_pow a (pm_L.getD k 0)) (po_pow b (pm_L.getD k 0))) := by
  have h := fb_all k hk
  have hl := fb_row_len (pm_L.getD k 0)
  rw [fb_pow]
  generalize pm_L.getD k 0 = P at h hl
  cases e : fb_row P with
  | nil => rw [e] at h; cases h
  | cons c cs =>
    rw [e] at h hl
    simp only [fb_ok, Bool.and_eq_true, beq_iff_eq] at h
    obtain ⟨h1, h2⟩ := h
    subst h1
    have h3 := fb_ck_ev a b cs h2
    obtain ⟨y, hy⟩ := po_eq_ex h3
    simp only [List.length_cons] at hl
    have l1 : cs.length = P := by omega
    have l2 : po_pow a P = po_mul (po_pow a (cs.length - 1)) a := by
      cases hcs : cs with
      | nil => rw [hcs] at h2; cases h2
      | cons d ds => rw [← l1, hcs]; rfl
    rw [l2]
    have : fb_ev a b (1 :: cs) = po_add (po_mul (po_C 1) (po_pow b P)) (po_mul a (fb_ev a b cs)) := by simp only [fb_ev]; rw [l1]; rfl
    rw [this]
    exact po_ex_eq (@ga_fb6 po_P po_ring _ _ _ _ _ _ _ rfl hy)
theorem fb_mul (a b : po_P) : ∀ n, po_pow (po_mul a b) n = po_mul (po_pow a n) (po_pow b n) := zp_pow_mul a b
theorem fb_C (c : Int) : ∀ n, po_pow (po_C c) n = po_C (c ^ n)
  | 0 => by rw [Int.pow_zero]; rfl
  | n + 1 => by rw [po_pow, fb_C c n, Int.pow_succ, po_C_mul]
theorem fb_X (f : Nat) : ∀ n, po_pow (po_X f 1) n = po_X (n * f) 1
  | 0 => by
    rw [Nat.zero_mul]
    funext i
    simp only [po_pow, po_C, po_X]
  | n + 1 => by rw [po_pow, fb_X f n, po_XX, Nat.succ_mul, Int.mul_one]
theorem fb_eq {m : Int} {a b : po_P} (h : po_eq m a b) : ∀ n, po_eq m (po_pow a n) (po_pow b n)
  | 0 => po_eq_r _ _
  | n + 1 => po_eq_mul (fb_eq h n) h
/-- sums of the first terms of h(x) and of h(x^P) -/
def fb_t (h : po_P) : Nat → po_P
  | 0 => po_C 0
  | f + 1 => po_add (fb_t h f) (po_mul (po_C (h f)) (po_X f 1))
def fb_f (P : Nat) (h : po_P) : Nat → po_P
  | 0 => po_C 0
  | f + 1 => po_add (fb_f P h f) (po_mul (po_C (h f)) (po_X (P * f) 1))
theorem fb_t_i (h : po_P) : ∀ n i, fb_t h n i = if i < n then h i else 0
  | 0, i => by simp [fb_t, po_C]
  | n + 1, i => by
    show fb_t h n i + po_mul (po_C (h n)) (po_X n 1) i = _
    rw [fb_t_i h n i, po_mul_C]
    simp only [po_X]
    by_cases z : i = n
    · subst z; rw [if_neg (by omega), if_pos rfl, if_pos (by omega)]; omega
    · by_cases y : i < n
      · rw [if_pos y, if_neg z, if_pos (by omega)]; omega
      · rw [if_neg y, if_neg z, if_neg (by omega)]; omega
theorem po_eq_addc {m : Int} {f g f' g' : po_P} (a : po_eq m f f') (b : po_eq m g g') : po_eq m (po_add f g) (po_add f' g') := fun i => by
  have := Int.dvd_add (a i) (b i)
  show m ∣ (f i + g i) - (f' i + g' i)
  rw [show f i + g i - (f' i + g' i) = f i - f' i + (g i - g' i) by omega]; exact this
theorem fb_frob {k : Nat} (hk : k < 29) (h0 : 0 < pm_L.getD k 0) (h : po_P) : ∀ f, po_eq (pm_L.getD k 0 : Nat) (po_pow (fb_t h f) (pm_L.getD k 0)) (fb_f (pm_L.getD k 0) h f)
  | 0 => by
    show po_eq _ (po_pow (po_C 0) _) (po_C 0)
    rw [fb_C, Int.zero_pow (by omega)]; exact po_eq_r _ _
  | f + 1 => by
    refine po_eq_t (fb_dream hk _ _) (po_eq_addc (fb_frob hk h0 h f) ?_)
    rw [fb_mul, fb_C, fb_X]
    exact po_eq_mul (po_C_eq (pf_fer (fb_fer k hk) h0 _)) (po_eq_r _ _)
end
section
/-! linear factors modulo P are split off -/
theorem ga_b1 {R : Type} [Lean.Grind.CommRing R] {A B a b : R} : A * B - a * b = (A - a) * B + a * (B - b) := by grind
theorem ga_b2 {R : Type} [Lean.Grind.CommRing R] {A a : R} : (A - a) + a = A ∧ A - (A - a) = a := by constructor <;> grind
theorem bk_dvm {m al : Int} {A : po_P} {a : Int} (h : po_dv m (po_lin al) (po_sub A (po_C a))) (k : m ∣ a) : po_dv m (po_lin al) A := by
  have e := (@ga_b2 po_P po_ring A (po_C a)).1
  have h2 : po_dv m (po_lin al) (po_C a) := po_dv_0 m _ (fun i => by simp only [po_C]; split; exact k; exact Int.dvd_zero _)
  have := po_dv_add h h2
  exact po_dv_eq this (po_eq_e e)
theorem bk_pr {P : Nat} (hp : po_prime P) {al : Int} {A B : po_P} (fA : po_fin P A) (fB : po_fin P B) (h : po_dv P (po_lin al) (po_mul A B)) : po_dv P (po_lin al) A ∨ po_dv P (po_lin al) B := by
  obtain ⟨dA, hA⟩ := fA
  obtain ⟨dB, hB⟩ := fB
  obtain ⟨a, ha⟩ := po_val (al := al) dA A hA
  obtain ⟨b, hb⟩ := po_val (al := al) dB B hB
  by_cases z : (P : Int) ∣ a
  · exact Or.inl (bk_dvm ha z)
  · by_cases y : (P : Int) ∣ b
    · exact Or.inr (bk_dvm hb y)
    · exfalso
      have e := @ga_b1 po_P po_ring A B (po_C a) (po_C b)
      have k1 : po_dv P (po_lin al) (po_sub (po_mul A B) (po_mul (po_C a) (po_C b))) := po_dv_eq (po_dv_add (po_dv_mulR B ⟨dB, hB⟩ ha) (po_dv_mulL _ (po_fin_C _ _) hb)) (po_eq_e e.symm)
      have k2 := po_dv_sub h k1
      have k3 : po_dv P (po_lin al) (po_C (a * b)) := po_dv_eq k2 (po_eq_e (by rw [po_C_mul]; exact (@ga_b2 po_P po_ring (po_mul A B) (po_mul (po_C a) (po_C b))).2))
      exact po_mo_n1 (po_lin_mo P al) (by omega) (fun w => by
        rcases (po_prime_dom hp).2 a b w with w | w
        · exact z w
        · exact y w) k3
theorem bk_pd {P : Nat} (hp : po_prime P) {al : Int} {g : Nat → po_P} : ∀ l, (∀ j, j < l → po_fin P (g j)) → po_dv P (po_lin al) (po_prod g l) → ∃ j, j < l ∧ po_dv P (po_lin al) (g j)
  | 0, _, h => absurd h (po_mo_n1 (po_lin_mo P al) (by omega) (po_prime_dom hp).1)
  | l + 1, f, h => by
    rcases bk_pr hp (po_prod_fin l (fun j hj => f j (by omega))) (f l (by omega)) h with z | z
    · obtain ⟨j, j1, j2⟩ := bk_pd hp l (fun j hj => f j (by omega)) z
      exact ⟨j, by omega, j2⟩
    · exact ⟨l, by omega, z⟩
theorem ga_b3 {R : Type} [Lean.Grind.CommRing R] {u w f x y U V m a b c o : R} (h1 : f = u * x + m * a) (h2 : f = w * y + m * b) (h3 : o = U * u + V * w + m * c) (ho : o = 1) : f = (u * w) * (U * y + V * x) + m * (U * u * b + V * w * a + c * f) := by grind
/-- coprime divisors -/
theorem bk_cop {m : Int} {u w f : po_P} (h1 : po_dv m u f) (h2 : po_dv m w f) (h3 : po_cb m u w (po_C 1)) : po_dv m (po_mul u w) f := by
  obtain ⟨x, fx, ex⟩ := h1
  obtain ⟨y, fy, ey⟩ := h2
  obtain ⟨U, V, fU, fV, e⟩ := h3
  obtain ⟨a, ha⟩ := po_eq_ex ex
  obtain ⟨b, hb⟩ := po_eq_ex ey
  obtain ⟨c, hc⟩ := po_eq_ex e
  exact ⟨_, po_fin_add (po_fin_mul fU fy) (po_fin_mul fV fx), po_ex_eq (@ga_b3 po_P po_ring _ _ _ _ _ _ _ _ _ _ _ (po_C 1) ha hb hc rfl)⟩
theorem bk_prd {m : Int} {g : Nat → po_P} {f : po_P} : ∀ l, (∀ j, j < l → po_fin m (g j)) → po_sqf m (po_prod g l) → (∀ j, j < l → po_dv m (g j) f) → po_fin m f → po_dv m (po_prod g l) f
  | 0, _, _, _, ff => ⟨f, ff, po_eq_e (zp_1m f).symm⟩
  | l + 1, hf, hs, hd, ff => by
    rw [po_prod] at hs ⊢
    have f1 := po_prod_fin (m := m) l (fun j hj => hf j (by omega))
    obtain ⟨s1, s2⟩ := po_sqf_d hs f1 (hf l (by omega))
    exact bk_cop (bk_prd l (fun j hj => hf j (by omega)) s1 (fun j hj => hd j (by omega)) ff) (hd l (by omega)) s2
theorem ga_b4 {R : Type} [Lean.Grind.CommRing R] {a b u w : R} : (a - b) * u + b * (u - w) = a * u - b * w := by grind
theorem bk_pw {m : Int} {t u w : po_P} (fu : po_fin m u) (fw : po_fin m w) (h : po_dv m t (po_sub u w)) : ∀ n, po_dv m t (po_sub (po_pow u n) (po_pow w n))
  | 0 => po_dv_0 m _ (fun i => by show m ∣ po_C 1 i - po_C 1 i; rw [Int.sub_self]; exact Int.dvd_zero _)
  | n + 1 => by
    have e := @ga_b4 po_P po_ring (po_pow u n) (po_pow w n) u w
    exact po_dv_eq (po_dv_add (po_dv_mulR u fu (bk_pw fu fw h n)) (po_dv_mulL _ (zp_pow_fin fw n) h)) (po_eq_e e)
theorem bk_m1 {m : Int} {w : po_P} (h : po_mo m 1 w) : po_eq m w (po_lin (- w 0)) := fun i => by
  match i with
  | 0 => simp [po_lin, po_sub, po_X, po_C]
  | 1 => simpa [po_lin, po_sub, po_X, po_C] using h.2
  | i + 2 =>
    have := h.1 (i + 2) (by omega)
    simpa [po_lin, po_sub, po_X, po_C] using this
theorem bk_mq {m : Int} {al : Int} {d : Nat} {g : po_P} (hg : po_mo m (d + 1) g) (h : po_dv m (po_lin al) g) : ∃ w, po_mo m d w ∧ (∀ i, d + 1 ≤ i → w i = 0) ∧ (0 < m → ∀ i, 0 ≤ w i ∧ w i < m) ∧ po_eq m g (po_mul (po_lin al) w) := by
  obtain ⟨q, ⟨dq, fq⟩, e⟩ := h
  have l1 := po_lin_mo m al
  have qz := po_quot (m := m) (A := g) (B := po_lin al) (e := 1) (D := d + 1) l1.1 (po_mo_unit l1) hg.1 dq q fq (by rw [zp_mulc]; exact e)
  have ew : po_eq m (fun i => q i % m) q := fun i => by
    have := Int.emod_add_mul_ediv (q i) m
    show m ∣ q i % m - q i
    rw [show q i % m - q i = - (m * (q i / m)) by omega]
    exact Int.dvd_neg.mpr (Int.dvd_mul_right _ _)
  have top := (po_dl_mul (m := m) (g := po_lin al) (e := 1) l1.1 d q (fun i hi => qz i (by omega))).2
  have qd : m ∣ q d - 1 := by
    have k1 := e (d + 1)
    rw [zp_mulc] at k1
    have k2 := hg.2
    have k3 : po_lin al 1 = 1 := by simp [po_lin, po_sub, po_X, po_C]
    rw [k3, Int.mul_one] at top
    have := Int.dvd_sub k2 (Int.dvd_add k1 top)
    rw [show g (d + 1) - 1 - (g (d + 1) - po_mul q (po_lin al) (d + 1) + (po_mul q (po_lin al) (d + 1) - q d)) = q d - 1 by omega] at this
    exact this
  refine ⟨fun i => q i % m, po_mo_eq (po_eq_s ew) ⟨fun i hi => qz i (by omega), qd⟩, fun i hi => Int.emod_eq_zero_of_dvd (qz i (by omega)), fun hm i => ⟨Int.emod_nonneg _ (by omega), Int.emod_lt_of_pos _ hm⟩, po_eq_t e (po_eq_mul (po_eq_r _ _) (po_eq_s ew))⟩
theorem ga_b6 {R : Type} [Lean.Grind.CommRing R] {r p l : R} : r * p * l = r * l * p := by grind
/-- degrees of the pieces -/
theorem bk_deg {P : Nat} (hp : po_prime P) {g : Nat → po_P} {l D dj j : Nat} (hg : ∀ i, i < l → ∃ d, 1 ≤ d ∧ po_mo P d (g i)) (hD : po_mo P D (po_prod g l)) (hj : j < l) (hdj : po_mo P dj (g j)) (al : Int) : ∃ D', l ≤ D' ∧ D + 1 = D' + dj ∧ po_mo P D' (po_prod (fun i => if i = j then po_lin al else g i) l) := by
  have n1 := (po_prime_dom hp).1
  obtain ⟨r, _, r2, r3⟩ := po_prod_out (g := g) l hj
  have r4 := r3 (fun i => if i = j then po_lin al else g i) (fun i _ hi => by show (if i = j then po_lin al else g i) = g i; rw [if_neg hi])
  rw [if_pos rfl] at r4
  obtain ⟨D', d1, d2⟩ := po_prod_mo (m := P) (g := fun i => if i = j then po_lin al else g i) l (fun i hi => by
    by_cases z : i = j
    · exact ⟨1, by omega, by show po_mo P 1 (if i = j then po_lin al else g i); rw [if_pos z]; exact po_lin_mo P al⟩
    · obtain ⟨d, d1, d2⟩ := hg i hi
      exact ⟨d, d1, by show po_mo P d (if i = j then po_lin al else g i); rw [if_neg z]; exact d2⟩)
  refine ⟨D', d1, ?_, d2⟩
  have a1 := po_mo_mul hD (po_lin_mo P al)
  have a2 := po_mo_mul d2 hdj
  rw [r4] at a2
  rw [r2] at a1
  have e : po_mul (po_mul r (g j)) (po_lin al) = po_mul (po_mul r (po_lin al)) (g j) := @ga_b6 po_P po_ring _ _ _
  rw [e] at a1
  exact po_mo_u n1 a1 a2
/-- a polynomial that splits wholly: the matrix is zero -/
theorem bk_zero {P n : Nat} (hp : po_prime P) {F : po_P} (hF : po_mo P n F) (hd : po_dv P F (po_sub (po_X P 1) (po_X 1 1))) {t : Nat} (ht : t < n) {W : po_P} (hW : fd_xr P F n (P * t) W) : W = po_X t 1 := by
  have hp1 := hp.1
  refine fd_xr_u hF hW ⟨fun i => by simp only [po_X]; split <;> omega, fun i hi => by simp only [po_X]; rw [if_neg (by omega)], ?_⟩
  have h := bk_pw (po_fin_X _ _ _) (po_fin_X _ _ _) hd t
  rw [fb_X, fb_X, Nat.mul_one, Nat.mul_comm] at h
  obtain ⟨q, fq, e⟩ := h
  refine ⟨q, fq, fun i => ?_⟩
  have := e i
  rw [zp_mulc] at this
  show (P : Int) ∣ po_X (P * t) 1 i - (po_X t 1 i + po_mul q F i)
  rw [show po_X (P * t) 1 i - (po_X t 1 i + po_mul q F i) = po_sub (po_X (P * t) 1) (po_X t 1) i - po_mul q F i by show _ = (po_X (P * t) 1 i - po_X t 1 i) - _; omega]
  exact this
end
section
/-! the kernel of the matrix -/
def bk_w (W : Nat → po_P) (h : po_P) : Nat → po_P
  | 0 => po_C 0
  | f + 1 => po_add (bk_w W h f) (po_mul (po_C (h f)) (W f))
def bk_g (sol : Nat → po_P) (pv : Nat → Int32) (h : po_P) : Nat → po_P
  | 0 => po_C 0
  | f + 1 => if pv f = 0 then po_add (bk_g sol pv h f) (po_mul (po_C (h f)) (sol f)) else bk_g sol pv h f
theorem ga_k1 {R : Type} [Lean.Grind.CommRing R] {a b c x w : R} : (a - b) + c * (x - w) = (a + c * x) - (b + c * w) := by grind
theorem bk_w_dv {P n : Nat} {F h : po_P} {W : Nat → po_P} (hW : ∀ j, j < n → fd_xr P F n (P * j) (W j)) : ∀ f, f ≤ n → po_dv P F (po_sub (fb_f P h f) (bk_w W h f)) ∧ ∀ i, n ≤ i → bk_w W h f i = 0
  | 0, _ => ⟨po_dv_0 _ _ (fun i => by show (P : Int) ∣ po_C 0 i - po_C 0 i; rw [Int.sub_self]; exact Int.dvd_zero _), fun i _ => by simp [bk_w, po_C]⟩
  | f + 1, hf => by
    obtain ⟨i1, i2⟩ := bk_w_dv (h := h) hW f (by omega)
    obtain ⟨_, w2, q, fq, e⟩ := hW f (by omega)
    constructor
    · have k : po_dv P F (po_sub (po_X (P * f) 1) (W f)) := ⟨q, fq, fun i => by
        have := e i
        rw [zp_mulc]
        show (P : Int) ∣ (po_X (P * f) 1 i - W f i) - po_mul q F i
        rw [show po_X (P * f) 1 i - W f i - po_mul q F i = po_X (P * f) 1 i - (W f i + po_mul q F i) by omega]
        exact this⟩
      exact po_dv_eq (po_dv_add i1 (po_dv_mulL _ (po_fin_C _ (h f)) k)) (po_eq_e (@ga_k1 po_P po_ring _ _ _ _ _))
    · intro i hi
      show bk_w W h f i + po_mul (po_C (h f)) (W f) i = 0
      rw [i2 i hi, po_mul_C, w2 i hi, Int.mul_zero]; rfl
theorem bk_ker {P n : Nat} {h : po_P} {W : Nat → po_P} {M0 : Nat → Nat → Int} (hM : ∀ j, j < n → ∀ k, k < n → M0 k j = (W j k - if k = j then 1 else 0) % (P : Int)) {k : Nat} (hk : k < n) : ∀ f, f ≤ n → (P : Int) ∣ fd_s f (fun i => M0 k i * h i) - (bk_w W h f k - if k < f then h k else 0)
  | 0, _ => by simp [fd_s, bk_w, po_C]
  | f + 1, hf => by
    have ih := bk_ker (h := h) hM hk f (by omega)
    have e1 : (P : Int) ∣ M0 k f - (W f k - if k = f then 1 else 0) := by
      rw [hM f (by omega) k hk]
      have := Int.emod_add_mul_ediv (W f k - if k = f then 1 else 0) (P : Int)
      rw [show (W f k - if k = f then 1 else 0) % (P : Int) - (W f k - if k = f then 1 else 0) = - ((P : Int) * ((W f k - if k = f then 1 else 0) / P)) by omega]
      exact Int.dvd_neg.mpr (Int.dvd_mul_right _ _)
    have e2 := Int.dvd_add ih (Int.dvd_mul_of_dvd_left (c := h f) e1)
    have e3 : bk_w W h (f + 1) k = bk_w W h f k + h f * W f k := by
      show bk_w W h f k + po_mul (po_C (h f)) (W f) k = _
      rw [po_mul_C]
    rw [e3]
    show (P : Int) ∣ (fd_s f (fun i => M0 k i * h i) + M0 k f * h f) - _
    by_cases z : k = f
    · subst z
      rw [if_pos rfl, if_neg (by omega)] at e2
      rw [if_pos (by omega)]
      rw [show fd_s k (fun i => M0 k i * h i) + M0 k k * h k - (bk_w W h k k + h k * W k k - h k) = fd_s k (fun i => M0 k i * h i) - (bk_w W h k k - 0) + (M0 k k - (W k k - 1)) * h k by grind]
      exact e2
    · rw [if_neg z] at e2
      have e4 : (if k < f + 1 then h k else 0) = (if k < f then h k else 0) := by
        by_cases y : k < f
        · rw [if_pos y, if_pos (by omega)]
        · rw [if_neg y, if_neg (by omega)]
      rw [e4]
      rw [show fd_s f (fun i => M0 k i * h i) + M0 k f * h f - (bk_w W h f k + h f * W f k - if k < f then h k else 0) = fd_s f (fun i => M0 k i * h i) - (bk_w W h f k - if k < f then h k else 0) + (M0 k f - (W f k - 0)) * h f by grind]
      exact e2
section
variable {P n row : Nat} {M : Nat → Nat → Int} {pv : Nat → Int32} {rk : Nat → Nat} {h : po_P}
theorem bk_g_free (t : Nat) (ht : t < n) (hp : pv t = 0) : ∀ f, f ≤ n → bk_g (fun f => fd_sol P n f M pv rk) pv h f t = if t < f then h t else 0
  | 0, _ => by simp [bk_g, po_C]
  | f + 1, hf => by
    have ih := bk_g_free t ht hp f (by omega)
    simp only [bk_g]
    by_cases z : pv f = 0
    · rw [if_pos z]
      show bk_g (fun f => fd_sol P n f M pv rk) pv h f t + po_mul (po_C (h f)) (fd_sol P n f M pv rk) t = _
      rw [ih, po_mul_C]
      simp only [fd_sol]
      rw [if_pos ht, if_pos hp]
      by_cases y : t = f
      · subst y; rw [if_neg (by omega), if_pos rfl, if_pos (by omega)]; omega
      · rw [if_neg y]
        by_cases x : t < f
        · rw [if_pos x, if_pos (by omega)]; omega
        · rw [if_neg x, if_neg (by omega)]; omega
    · rw [if_neg z, ih]
      have : t ≠ f := fun y => z (y ▸ hp)
      by_cases x : t < f
      · rw [if_pos x, if_pos (by omega)]
      · rw [if_neg x, if_neg (by omega)]
theorem bk_g_piv (h3 : ∀ j, j < n → pv j = 0 ∨ (pv j = 1 ∧ rk j < row ∧ M (rk j) j = 1 ∧ ∀ r, r < n → r ≠ rk j → M r j = 0)) (h4 : ∀ i j, i < n → j < n → pv i = 1 → pv j = 1 → rk i = rk j → i = j) (hrow : row ≤ n) (t : Nat) (ht : t < n) (hp : pv t = 1) : ∀ f, f ≤ n → (P : Int) ∣ fd_s f (fun i => M (rk t) i * h i) + bk_g (fun f => fd_sol P n f M pv rk) pv h f t - if t < f then h t else 0
  | 0, _ => by simp [bk_g, po_C, fd_s]
  | f + 1, hf => by
    have ih := bk_g_piv h3 h4 hrow t ht hp f (by omega)
    have rt : rk t < n := by
      rcases h3 t ht with z | ⟨_, z, _⟩
      · rw [z] at hp; exact absurd hp (by decide)
      · omega
    simp only [bk_g]
    show (P : Int) ∣ (fd_s f (fun i => M (rk t) i * h i) + M (rk t) f * h f) + _ - _
    rcases h3 f (by omega) with z | ⟨z, z2, z3, z4⟩
    · rw [if_pos z]
      show (P : Int) ∣ (fd_s f (fun i => M (rk t) i * h i) + M (rk t) f * h f) + (bk_g (fun f => fd_sol P n f M pv rk) pv h f t + po_mul (po_C (h f)) (fd_sol P n f M pv rk) t) - _
      rw [po_mul_C]
      have tf : t ≠ f := fun y => by rw [← y, hp] at z; exact absurd z (by decide)
      have e4 : (if t < f + 1 then h t else 0) = (if t < f then h t else 0) := by
        by_cases y : t < f
        · rw [if_pos y, if_pos (by omega)]
        · rw [if_neg y, if_neg (by omega)]
      have e5 : fd_sol P n f M pv rk t = (- M (rk t) f) % (P : Int) := by
        simp only [fd_sol]
        rw [if_pos ht, if_neg (by rw [hp]; decide)]
      have e6 : (P : Int) ∣ fd_sol P n f M pv rk t + M (rk t) f := by
        rw [e5]
        have := Int.emod_add_mul_ediv (- M (rk t) f) (P : Int)
        rw [show (- M (rk t) f) % (P : Int) + M (rk t) f = - ((P : Int) * ((- M (rk t) f) / P)) by omega]
        exact Int.dvd_neg.mpr (Int.dvd_mul_right _ _)
      rw [e4]
      have := Int.dvd_add ih (Int.dvd_mul_of_dvd_right (b := h f) e6)
      rw [show fd_s f (fun i => M (rk t) i * h i) + M (rk t) f * h f + (bk_g (fun f => fd_sol P n f M pv rk) pv h f t + h f * fd_sol P n f M pv rk t) - (if t < f then h t else 0) = fd_s f (fun i => M (rk t) i * h i) + bk_g (fun f => fd_sol P n f M pv rk) pv h f t - (if t < f then h t else 0) + h f * (fd_sol P n f M pv rk t + M (rk t) f) by grind]
      exact this
    · rw [if_neg (by rw [z]; decide)]
      by_cases y : t = f
      · subst y
        rw [z3]
        rw [if_neg (by omega)] at ih
        rw [if_pos (by omega)]
        rw [show fd_s t (fun i => M (rk t) i * h i) + 1 * h t + bk_g (fun f => fd_sol P n f M pv rk) pv h t t - h t = fd_s t (fun i => M (rk t) i * h i) + bk_g (fun f => fd_sol P n f M pv rk) pv h t t - 0 by omega]
        exact ih
      · have e1 : M (rk t) f = 0 := z4 (rk t) rt (fun w => y (h4 t f ht (by omega) hp z w))
        have e4 : (if t < f + 1 then h t else 0) = (if t < f then h t else 0) := by
          by_cases y : t < f
          · rw [if_pos y, if_pos (by omega)]
          · rw [if_neg y, if_neg (by omega)]
        rw [e1, e4, Int.zero_mul, Int.add_zero]
        exact ih
theorem bk_g_hi : ∀ f, f ≤ n → ∀ t, n ≤ t → bk_g (fun f => fd_sol P n f M pv rk) pv h f t = 0
  | 0, _, t, _ => by simp [bk_g, po_C]
  | f + 1, hf, t, ht => by
    have ih := bk_g_hi f (by omega) t ht
    simp only [bk_g]
    split
    · show bk_g (fun f => fd_sol P n f M pv rk) pv h f t + po_mul (po_C (h f)) (fd_sol P n f M pv rk) t = 0
      rw [ih, po_mul_C]
      simp only [fd_sol]
      rw [if_neg (by omega)]; omega
    · exact ih
end
theorem ga_k2 {R : Type} [Lean.Grind.CommRing R] {a b c s d : R} : (a - b) + c * (s - d) = (a + c * s) - (b + c * d) := by grind
theorem bk_g_c {m : Int} {sol : Nat → po_P} {pv : Nat → Int32} {h D : po_P} {n : Nat} (hs : ∀ f, f < n → pv f = 0 → ∃ c : Int, po_dv m D (po_sub (sol f) (po_C c))) : ∀ f, f ≤ n → ∃ c : Int, po_dv m D (po_sub (bk_g sol pv h f) (po_C c))
  | 0, _ => ⟨0, po_dv_0 _ _ (fun i => by show m ∣ po_C 0 i - po_C 0 i; rw [Int.sub_self]; exact Int.dvd_zero _)⟩
  | f + 1, hf => by
    obtain ⟨c, hc⟩ := bk_g_c (h := h) hs f (by omega)
    simp only [bk_g]
    by_cases z : pv f = 0
    · rw [if_pos z]
      obtain ⟨d, hd⟩ := hs f (by omega) z
      refine ⟨c + h f * d, ?_⟩
      rw [po_C_add, po_C_mul]
      exact po_dv_eq (po_dv_add hc (po_dv_mulL _ (po_fin_C _ (h f)) hd)) (po_eq_e (@ga_k2 po_P po_ring _ _ _ _ _))
    · rw [if_neg z]; exact ⟨c, hc⟩
end
section
/-! a linear factor modulo P is a piece -/
theorem ga_l1 {R : Type} [Lean.Grind.CommRing R] {a b c d : R} : (a - b) - (c - d) + (b - d) = a - c := by grind
theorem ga_l2 {R : Type} [Lean.Grind.CommRing R] {l h c : R} : l * h - l * (h - c) = c * l := by grind
theorem ga_l3 {R : Type} [Lean.Grind.CommRing R] {e c l o m y : R} (h : e * c = o + m * y) (ho : o = 1) : e * (c * l) = l + m * (y * l) := by grind
theorem ga_l4 {R : Type} [Lean.Grind.CommRing R] {a b c : R} : (a - b) - (a - c) = c - b := by grind
theorem bk_sw {m : Int} {t u w : po_P} (h : po_dv m t (po_sub u w)) : po_dv m t (po_sub w u) := by
  obtain ⟨q, fq, e⟩ := h
  refine ⟨po_sub (po_C 0) q, po_fin_sub (po_fin_C _ _) fq, fun i => ?_⟩
  have h1 := e i
  have e2 : po_mul t (po_sub (po_C 0) q) i = - po_mul t q i := by
    rw [zp_mulc, zp_mulc t q]
    have := congrFun (@ga_dsub po_P po_ring (po_C 0) q t) i
    have e3 : po_mul (po_sub (po_C 0) q) t i = po_mul (po_C 0) t i - po_mul q t i := this
    rw [e3, po_mul_C]; omega
  rw [e2]
  show m ∣ (w i - u i) - - po_mul t q i
  rw [show w i - u i - - po_mul t q i = - ((u i - w i) - po_mul t q i) by omega]
  exact Int.dvd_neg.mpr h1
theorem bk_lin {k n l : Nat} (hk : k < 29) (hp : po_prime (pm_L.getD k 0 : Nat)) (hn1 : 1 ≤ n) (hn : n ≤ 4) {F : po_P} {Pc : Nat → po_P} {al : Int} (hF : po_mo (pm_L.getD k 0 : Nat) n F) (hsq : po_sqf (pm_L.getD k 0 : Nat) F) (hI : sp_I (pm_L.getD k 0 : Nat) F Pc l) (hD : bk_D (pm_L.getD k 0) n F Pc l) (ha : po_dv (pm_L.getD k 0 : Nat) (po_lin al) F) : ∃ j, j < l ∧ po_eq (pm_L.getD k 0 : Nat) (Pc j) (po_lin al) := by
  have hfer := fb_fer k hk
  have hfrob := fun h0 h f => fb_frob hk h0 h f
  generalize pm_L.getD k 0 = P at hp hF hsq hI hD ha hfer hfrob ⊢
  have hp1 := hp.1
  have dom := po_prime_dom hp
  obtain ⟨l1, pcs, eF⟩ := hI
  have fPc : ∀ j, j < l → po_fin P (Pc j) := fun j hj => fd_pc_fin (pcs j hj)
  have dPc : ∀ j, j < l → ∃ d, 1 ≤ d ∧ po_mo P d (Pc j) := fun j hj => fd_pc_mo (pcs j hj)
  have hln : l ≤ n := sp_le (by omega) ⟨l1, pcs, eF⟩ hF
  obtain ⟨j, hj, hjd⟩ := bk_pd hp l fPc (po_dv_eq ha eF)
  refine ⟨j, hj, ?_⟩
  obtain ⟨dj, dj1, dj2⟩ := dPc j hj
  have moP : po_mo P n (po_prod Pc l) := po_mo_eq eF hF
  have sqP : po_sqf P (po_prod Pc l) := po_sqf_eq hsq eF
  obtain ⟨M0, M, row, pv, rk, b1, b2, b3, b4, b5, b6, b7, b8, b9⟩ := hD
  have Wex : ∃ Wf : Nat → po_P, ∀ t, t < n → fd_xr P F n (P * t) (Wf t) ∧ ∀ r, r < n → M0 r t = (Wf t r - if r = t then 1 else 0) % (P : Int) := by
    refine ⟨fun t => if h : t < n then Classical.choose (b1 t h) else po_C 0, fun t ht => ?_⟩
    have := Classical.choose_spec (b1 t ht)
    simp only [ht, dite_true]
    exact this
  obtain ⟨Wf, hWf⟩ := Wex
  rcases b9 with b9 | ⟨b9, b10⟩
  · -- all vectors were used
    obtain ⟨n', rfl⟩ : ∃ n', n = n' + 1 := ⟨n - 1, by omega⟩
    obtain ⟨h, h1, h2, _, h4⟩ := bk_mq hF ha
    have fh : po_fin P h := po_mo_fin h1
    obtain ⟨_, hc⟩ := po_sqf_d (po_sqf_eq hsq h4) (po_mo_fin (po_lin_mo P al)) fh
    have th : fb_t h (n' + 1) = h := by
      funext i
      rw [fb_t_i]
      by_cases z : i < n' + 1
      · rw [if_pos z]
      · rw [if_neg z, h2 i (by omega)]
    have fr := hfrob (by omega) h (n' + 1)
    rw [th] at fr
    have d1 : po_dv P h (po_sub (po_pow h P) h) := by
      obtain ⟨P', hP'⟩ : ∃ P', P = P' + 1 := ⟨P - 1, by omega⟩
      refine po_dv_sub ?_ (po_dv_r _ _)
      have : po_pow h P = po_mul (po_pow h P') h := by rw [hP']; rfl
      rw [this]
      exact po_dv_mulL _ (zp_pow_fin fh P') (po_dv_r _ _)
    have d2 : po_dv P (po_lin al) (po_sub (po_pow h P) h) := by
      obtain ⟨dh, hdh⟩ := fh
      obtain ⟨c, hc⟩ := po_val (al := al) dh h hdh
      have p1 := bk_pw ⟨dh, hdh⟩ (po_fin_C _ c) hc P
      rw [fb_C] at p1
      have p2 : po_dv P (po_lin al) (po_sub (po_C (c ^ P)) (po_C c)) := po_dv_0 _ _ (fun i => by
        have := po_C_eq (pf_fer hfer (by omega) c) i
        exact this)
      exact po_dv_eq (po_dv_add (po_dv_sub p1 hc) p2) (po_eq_e (@ga_l1 po_P po_ring _ _ _ _))
    have d3 : po_dv P F (po_sub (fb_f P h (n' + 1)) h) := po_dv_eqL (po_dv_eq (bk_cop d2 d1 hc) (po_eq_sub fr (po_eq_r _ _))) (po_eq_s h4)
    obtain ⟨w1, w2⟩ := bk_w_dv (h := h) (fun t ht => (hWf t ht).1) (n' + 1) (Nat.le_refl _)
    have d4 : po_dv P F (po_sub h (bk_w Wf h (n' + 1))) := po_dv_eq (po_dv_sub w1 d3) (po_eq_e (@ga_l4 po_P po_ring _ _ _))
    have d5 := po_mo_lt hF d4 (fun i hi => by show (P : Int) ∣ h i - bk_w Wf h (n' + 1) i; rw [h2 i (by omega), w2 i hi, Int.sub_self]; exact Int.dvd_zero _)
    have ker0 : fd_ker P (n' + 1) M0 h := fun r hr => by
      have k1 := bk_ker (h := h) (fun t ht => (hWf t ht).2) hr (n' + 1) (Nat.le_refl _)
      rw [if_pos hr] at k1
      have k2 : (P : Int) ∣ h r - bk_w Wf h (n' + 1) r := d5 r
      have := Int.dvd_sub k1 k2
      rw [show fd_s (n' + 1) (fun i => M0 r i * h i) - (bk_w Wf h (n' + 1) r - h r) - (h r - bk_w Wf h (n' + 1) r) = fd_s (n' + 1) (fun i => M0 r i * h i) by omega] at this
      exact this
    have ker := b2 h ker0
    have gh : po_eq P (bk_g (fun f => fd_sol P (n' + 1) f M pv rk) pv h (n' + 1)) h := fun t => by
      by_cases ht : t < n' + 1
      · rcases b3 t ht with z | ⟨z, z2, _⟩
        · rw [bk_g_free t ht z (n' + 1) (Nat.le_refl _), if_pos ht, Int.sub_self]; exact Int.dvd_zero _
        · have k1 := bk_g_piv (h := h) (P := P) b3 b4 b5 t ht z (n' + 1) (Nat.le_refl _)
          rw [if_pos ht] at k1
          have k2 := ker (rk t) (by omega)
          have := Int.dvd_sub k1 k2
          rw [show fd_s (n' + 1) (fun i => M (rk t) i * h i) + bk_g (fun f => fd_sol P (n' + 1) f M pv rk) pv h (n' + 1) t - h t - fd_s (n' + 1) (fun i => M (rk t) i * h i) = bk_g (fun f => fd_sol P (n' + 1) f M pv rk) pv h (n' + 1) t - h t by omega] at this
          exact this
      · rw [bk_g_hi (n' + 1) (Nat.le_refl _) t (by omega), h2 t (by omega)]; exact ⟨0, by omega⟩
    obtain ⟨c, hcc⟩ := bk_g_c (m := P) (sol := fun f => fd_sol P (n' + 1) f M pv rk) (pv := pv) (h := h) (D := Pc j) (n := n' + 1) (fun f hf hz => by
      by_cases f0 : f = 0
      · subst f0
        refine ⟨1, po_dv_0 _ _ (fun i => ?_)⟩
        have e : fd_sol P (n' + 1) 0 M pv rk i = po_C 1 i := by
          simp only [fd_sol, po_C]
          by_cases z : i < n' + 1
          · rw [if_pos z]
            rcases b3 i z with y | ⟨y, y2, _⟩
            · rw [if_pos y]
            · have i0 : i ≠ 0 := fun w => by rw [w, b7] at y; exact absurd y (by decide)
              rw [if_neg (by rw [y]; decide), b8 (rk i) (by omega), if_neg i0]; rfl
          · rw [if_neg z, if_neg (by omega)]
        show (P : Int) ∣ fd_sol P (n' + 1) 0 M pv rk i - po_C 1 i
        rw [e, Int.sub_self]; exact Int.dvd_zero _
      · exact b9 f (by omega) hf hz al j hj hjd) (n' + 1) (Nat.le_refl _)
    have hcc2 : po_dv P (Pc j) (po_sub h (po_C c)) := po_dv_eq hcc (po_eq_sub gh (po_eq_r _ _))
    have nc : ¬ (P : Int) ∣ c := fun z => by
      have := bk_dvm (po_dv_t hjd hcc2) z
      exact po_mo_n1 (po_lin_mo P al) (by omega) dom.1 (po_dv_cb (po_dv_r _ _) this hc)
    obtain ⟨r, r1, r2, _⟩ := po_prod_out (g := Pc) l hj
    have pF : po_dv P (Pc j) (po_mul (po_lin al) h) := po_dv_eq (po_dv_mulL r (r1 P fPc) (po_dv_r _ _)) (po_eq_t (po_eq_e r2.symm) (po_eq_t (po_eq_s eF) h4))
    have p2 : po_dv P (Pc j) (po_mul (po_C c) (po_lin al)) := po_dv_eq (po_dv_sub pF (po_dv_mulL _ (po_mo_fin (po_lin_mo P al)) hcc2)) (po_eq_e (@ga_l2 po_P po_ring _ _ _))
    obtain ⟨e, he⟩ := nt_inv hp nc
    have e2 : po_eq P (po_mul (po_C e) (po_C c)) (po_C 1) := by rw [← po_C_mul]; exact po_C_eq he
    obtain ⟨y, hy⟩ := po_eq_ex e2
    have p3 : po_dv P (Pc j) (po_lin al) := po_dv_eq (po_dv_mulL _ (po_fin_C _ e) p2) (po_ex_eq (@ga_l3 po_P po_ring _ _ _ (po_C 1) _ _ hy rfl))
    exact po_eq_s (po_mo_same (po_lin_mo P al) dj2 p3 dj1 dom.1)
  · -- the loop ended early
    obtain ⟨D', d1, d2, d3⟩ := bk_deg hp dPc moP hj dj2 al
    by_cases z : dj = 1
    · subst z
      exact po_mo_same dj2 (po_lin_mo P al) hjd (Nat.le_refl _) dom.1
    · exfalso
      have l3 : l = 3 := by omega
      have n4 : n = 4 := by omega
      have D3 : D' = 3 := by omega
      have dj2' : dj = 2 := by omega
      subst dj2'
      have fx : po_fin P (po_sub (po_X P 1) (po_X 1 1)) := po_fin_sub (po_fin_X _ _ _) (po_fin_X _ _ _)
      have lin : ∀ w, po_mo P 1 w → po_dv P w (po_sub (po_X P 1) (po_X 1 1)) := fun w hw => po_dv_eqL (pf_lin hfer (by omega) _) (po_eq_s (bk_m1 hw))
      have all : ∀ i, i < l → po_dv P (Pc i) (po_sub (po_X P 1) (po_X 1 1)) := fun i hi => by
        by_cases y : i = j
        · subst y
          obtain ⟨w, w1, _, _, w4⟩ := bk_mq dj2 hjd
          obtain ⟨r, r1, r2, _⟩ := po_prod_out (g := Pc) l hi
          rw [r2, zp_mulc] at sqP
          obtain ⟨s1, _⟩ := po_sqf_d sqP (fPc i hi) (r1 P fPc)
          obtain ⟨_, s2⟩ := po_sqf_d (po_sqf_eq s1 w4) (po_mo_fin (po_lin_mo P al)) (po_mo_fin w1)
          exact po_dv_eqL (bk_cop (lin _ (po_lin_mo P al)) (lin w w1) s2) (po_eq_s w4)
        · obtain ⟨di, di1, di2⟩ := dPc i hi
          obtain ⟨D2, e1, e2, _⟩ := bk_deg hp (g := fun i => if i = j then po_lin al else Pc i) (dj := di) (fun q hq => by
            by_cases x : q = j
            · exact ⟨1, by omega, by show po_mo P 1 (if q = j then po_lin al else Pc q); rw [if_pos x]; exact po_lin_mo P al⟩
            · obtain ⟨d, g1, g2⟩ := dPc q hq
              exact ⟨d, g1, by show po_mo P d (if q = j then po_lin al else Pc q); rw [if_neg x]; exact g2⟩) d3 hi (by show po_mo P di (if i = j then po_lin al else Pc i); rw [if_neg y]; exact di2) al
          have : di = 1 := by omega
          subst this
          exact lin _ di2
      have dF : po_dv P F (po_sub (po_X P 1) (po_X 1 1)) := po_dv_eqL (bk_prd l fPc sqP all fx) (po_eq_s eF)
      have r0 := b6 (fun r t hr ht => by
        obtain ⟨w1, w2⟩ := hWf t ht
        rw [w2 r hr, bk_zero hp hF dF ht w1]
        simp only [po_X]
        rw [Int.sub_self]; rfl)
      omega
end
section
/-! the piece of the linear factor lifts to the linear factor -/
theorem nt_invK {P : Nat} (hp : po_prime P) {a : Int} (ha : 0 < a) (hPa : ¬ (P : Int) ∣ a) (K : Nat) : ∃ e : Int, (P : Int) ^ K ∣ e * a - 1 := by
  have c : Nat.Coprime P a.natAbs := by have := hp.2 a hPa; rwa [Int.natAbs_natCast] at this
  have c2 : Nat.gcd (P ^ K) a.natAbs = 1 := Nat.Coprime.pow_left K c
  obtain ⟨x, y, e⟩ := nt_bez (P ^ K) a.natAbs
  rw [c2] at e
  have ea : (a.natAbs : Int) = a := by omega
  rw [ea, Int.natCast_pow] at e
  refine ⟨y, -x, ?_⟩
  have : (1 : Int) = ((1 : Nat) : Int) := rfl
  rw [Int.mul_neg, Int.mul_comm y a, this, ← e]
  omega
theorem ga_v1 {R : Type} [Lean.Grind.CommRing R] {l a q u m y : R} (h : a * u = l + m * y) : u * (a * q) = l * q + m * (y * q) := by grind
theorem ga_v2 {R : Type} [Lean.Grind.CommRing R] {d r v : R} : d * (r * v) = v * (d * r) := by grind
theorem rc_al {k K n l : Nat} (hk : k < 29) (hp : po_prime (pm_L.getD k 0 : Nat)) (hK : 1 ≤ K) {L0 Q F : po_P} {Pc V : Nat → po_P} {dg : Nat → Nat} {dQ : Nat} (n0 : zp_n 1 L0) (nQ : zp_n dQ Q) (hn : n = 1 + dQ) (hn4 : n ≤ 4) (hPl : ¬ ((pm_L.getD k 0 : Nat) : Int) ∣ po_mul L0 Q n) (hsL : po_sqf (pm_L.getD k 0 : Nat) (po_mul L0 Q)) (hF : po_mo (pm_L.getD k 0 : Nat) n F) (hsq : po_sqf (pm_L.getD k 0 : Nat) F) (hLF : po_eq (pm_L.getD k 0 : Nat) (po_mul L0 Q) (po_mul (po_C (po_mul L0 Q n)) F)) (hI : sp_I (pm_L.getD k 0 : Nat) F Pc l) (hD : bk_D (pm_L.getD k 0) n F Pc l) (hV : la_V (pm_L.getD k 0) K Pc V dg l) (hVL : po_eq (((pm_L.getD k 0 : Nat) : Int) ^ K) (po_mul L0 Q) (po_mul (po_C (po_mul L0 Q n)) (po_prod V l))) : ∃ al, al < l ∧ dg al = 1 ∧ po_eq (((pm_L.getD k 0 : Nat) : Int) ^ K) L0 (po_mul (po_C (L0 1)) (V al)) := by
  have bl := fun al ha => bk_lin (al := al) hk hp (show 1 ≤ n by omega) hn4 hF hsq hI hD ha
  generalize pm_L.getD k 0 = P at *
  have hp1 := hp.1
  have dom := po_prime_dom hp
  have ld : po_mul L0 Q n = L0 1 * Q dQ := by rw [hn]; exact (zp_top n0.2.2 nQ.2.2).1
  have P0 : ¬ (P : Int) ∣ L0 1 := fun z => hPl (by rw [ld]; exact Int.dvd_mul_of_dvd_left z)
  have PK : (P : Int) ∣ (P : Int) ^ K := by
    obtain ⟨K', rfl⟩ : ∃ K', K = K' + 1 := ⟨K - 1, by omega⟩
    rw [Int.pow_succ]; exact Int.dvd_mul_left _ _
  obtain ⟨e, he⟩ := nt_invK hp n0.2.1 P0 K
  -- L0 is a unit times a monic linear polynomial
  have eL : po_eq ((P : Int) ^ K) (po_mul (po_C (L0 1)) (po_lin (- (e * L0 0)))) L0 := fun i => by
    rw [po_mul_C]
    match i with
    | 0 =>
      have h1 : po_lin (- (e * L0 0)) 0 = e * L0 0 := by simp [po_lin, po_sub, po_X, po_C]
      rw [h1, show L0 1 * (e * L0 0) - L0 0 = (e * L0 1 - 1) * L0 0 by grind]
      exact Int.dvd_mul_of_dvd_left he
    | 1 =>
      have h1 : po_lin (- (e * L0 0)) 1 = 1 := by simp [po_lin, po_sub, po_X, po_C]
      rw [h1, Int.mul_one, Int.sub_self]; exact Int.dvd_zero _
    | i + 2 =>
      have h1 : po_lin (- (e * L0 0)) (i + 2) = 0 := by simp [po_lin, po_sub, po_X, po_C]
      rw [h1, n0.2.2 (i + 2) (by omega), Int.mul_zero, Int.sub_self]; exact Int.dvd_zero _
  obtain ⟨al, hal⟩ : ∃ al, al = - (e * L0 0) := ⟨_, rfl⟩
  rw [← hal] at eL
  have f0 : po_fin P L0 := zp_n_fin n0
  have fQ : po_fin P Q := zp_n_fin nQ
  -- the root of L0 is a root of F
  obtain ⟨i, hi⟩ := nt_inv hp P0
  obtain ⟨s, hs⟩ := nt_inv hp hPl
  have dF : po_dv P (po_lin al) F := by
    have a1 : po_dv P (po_lin al) L0 := po_dv_eq (po_dv_mulL _ (po_fin_C _ _) (po_dv_r _ _)) (po_eq_dvd PK eL)
    have a2 : po_dv P (po_lin al) (po_mul (po_C (po_mul L0 Q n)) F) := po_dv_eq (po_dv_mulR Q fQ a1) hLF
    have e2 : po_eq P (po_mul (po_C s) (po_C (po_mul L0 Q n))) (po_C 1) := by rw [← po_C_mul]; exact po_C_eq hs
    obtain ⟨y, hy⟩ := po_eq_ex e2
    exact po_dv_eq (po_dv_mulL _ (po_fin_C _ s) a2) (po_ex_eq (@ga_l3 po_P po_ring _ _ _ (po_C 1) _ _ hy rfl))
  obtain ⟨j, hj, ej⟩ := bl al dF
  obtain ⟨v1, v2, v3, v4⟩ := hV j hj
  have dj : dg j = 1 := po_mo_u dom.1 (po_mo_eq (po_eq_t v4 ej) (fd_top_mo v2 v3)) (po_lin_mo P al)
  refine ⟨j, hj, dj, ?_⟩
  have fV : ∀ m : Int, ∀ j, j < l → po_fin m (V j) := fun m j hj => po_fin_0 (n := dg j + 1) (fun i hi => (hV j hj).2.2.1 i (by omega))
  obtain ⟨r, r1, r2, _⟩ := po_prod_out (g := V) l hj
  have eV : po_mul (po_C (po_mul L0 Q n)) (po_prod V l) = po_mul (V j) (po_mul (po_C (po_mul L0 Q n)) r) := by rw [r2]; exact @ga_v2 po_P po_ring _ _ _
  rw [eV] at hVL
  have hVP := po_eq_dvd PK hVL
  have fw : po_fin 0 (po_mul (po_C (po_mul L0 Q n)) r) := po_fin_mul (po_fin_C _ _) (r1 0 (fV 0))
  obtain ⟨_, hc⟩ := po_sqf_d (po_sqf_eq hsL hVP) (fV P j hj) (po_fin_mul (po_fin_C _ _) (r1 P (fV P)))
  obtain ⟨y, hy⟩ := po_eq_ex eL
  have g1 : po_eq ((P : Int) ^ K) (po_mul (po_lin al) (po_mul (po_C (L0 1)) Q)) (po_mul L0 Q) := po_ex_eq (@ga_v1 po_P po_ring _ _ _ _ _ _ hy)
  have e1 : po_eq P (po_lin al) (V j) := po_eq_s (po_eq_t v4 ej)
  have e2 : po_eq P (po_mul (po_C (L0 1)) Q) (po_mul (po_C (po_mul L0 Q n)) r) := by
    refine po_cancel dom (t := V j) ⟨dg j, by rw [v2]; exact dom.1⟩ ?_
    exact po_eq_t (po_eq_mul (po_eq_s e1) (po_eq_r _ _)) (po_eq_t (po_eq_dvd PK g1) hVP)
  have l1 : po_lin al 1 = 1 := by simp [po_lin, po_sub, po_X, po_C]
  have l2 : ∀ i, 1 < i → po_lin al i = 0 := fun i hi => by
    simp only [po_lin, po_sub, po_X, po_C]
    rw [if_neg (by omega), if_neg (by omega)]; rfl
  rw [dj] at v2 v3
  have := (hu_two hp ⟨v2, v3⟩ ⟨l1, l2⟩ fw (po_fin_mul (po_fin_C _ _) (zp_n_fin nQ)) hc e1 e2 K (po_eq_t g1 hVL)).1
  exact po_eq_t (po_eq_s eL) (po_eq_mul (po_eq_r _ _) this)
end
section
/-! recombine always answers the same -/
theorem fd_TQ_D {A T Q : po_P} {t : Nat} (h1 : 0 < T t) (h2 : ∀ i, t < i → T i = 0) (h : fd_TQ A T Q) : fd_D A T := by
  obtain ⟨fQ, e, b⟩ := h
  refine ⟨Q, t, h1, h2, by rw [← e]; exact po_eq_r _ _, b t h1 h2, fun D hD i hi => ?_⟩
  apply Classical.byContradiction
  intro z
  obtain ⟨d, hd⟩ := zp_ex fQ ⟨i, z⟩
  have id : i ≤ d := Classical.byContradiction (fun y => z (hd.2 i (by omega)))
  have := zp_t_mul hd (show zp_t t T from ⟨by omega, h2⟩)
  rw [← e] at this
  exact this.1 (hD _ (by omega))
theorem fd_TQ_u {A T Q Q' : po_P} (hT : ∃ i, T i ≠ 0) (h : fd_TQ A T Q) (k : fd_TQ A T Q') : Q = Q' := zp_can hT (by rw [zp_mulc T Q, zp_mulc T Q', ← h.2.1, ← k.2.1])
theorem rc_ch_u0 {T : po_P} {t : Nat} (h1 : 0 < T t) (h2 : ∀ i, t < i → T i = 0) : ∀ (e e' : Nat) (Wc Wc' : Nat → po_P), Wc e = Wc' e' → (∀ i, i < e → fd_TQ (Wc (i + 1)) T (Wc i)) → (∀ i, i < e' → fd_TQ (Wc' (i + 1)) T (Wc' i)) → ¬ fd_D (Wc 0) T → ¬ fd_D (Wc' 0) T → e = e' ∧ Wc 0 = Wc' 0
  | 0, 0, _, _, h, _, _, _, _ => ⟨rfl, h⟩
  | 0, e' + 1, Wc, Wc', h, _, k, n, _ => by
    exfalso
    have := k e' (by omega)
    rw [← h] at this
    exact n (fd_TQ_D h1 h2 this)
  | e + 1, 0, Wc, Wc', h, k, _, _, n => by
    exfalso
    have := k e (by omega)
    rw [h] at this
    exact n (fd_TQ_D h1 h2 this)
  | e + 1, e' + 1, Wc, Wc', h, k, k', n, n' => by
    have a := k e (by omega)
    have b := k' e' (by omega)
    rw [← h] at b
    obtain ⟨r1, r2⟩ := rc_ch_u0 h1 h2 e e' Wc Wc' (fd_TQ_u ⟨t, by omega⟩ a b) (fun i hi => k i (by omega)) (fun i hi => k' i (by omega)) n n'
    exact ⟨by omega, r2⟩
theorem rc_ch_u {L W T Q : po_P} {n e e' : Nat} {Y Y' : po_P} (h : rc_ch L W T Q n e Y) (k : rc_ch L W T Q n e' Y') : e = e' ∧ Y = Y' := by
  obtain ⟨⟨t, _, _, t1, t2⟩, _, _, Wc, w1, w2, w3, w4⟩ := h
  obtain ⟨_, _, _, Wc', v1, v2, v3, v4⟩ := k
  obtain ⟨a, b⟩ := rc_ch_u0 t1 t2 e e' Wc Wc' (by rw [← w1, ← v1]) w2 v2 w3 v3
  exact ⟨a, by rw [w4, v4, b]⟩
theorem tp_u {m ld : Int} {V : Nat → po_P} {dg : Nat → Nat} {s l : Nat} {T T' : po_P} (hld : 0 < ld) (hld2 : 2 * ld ≤ m) (h : tp_T m ld V dg s l T) (k : tp_T m ld V dg s l T') : T = T' := by
  have hh := h
  have kk := k
  obtain ⟨X, x1, x2, _, _, x5⟩ := h
  obtain ⟨X', y1, y2, _, _, y5⟩ := k
  have e : X = X' := fd_rd_eq x1 y1 (po_eq_t x2 (po_eq_s y2))
  subst e
  obtain ⟨c, cp, nT, cT, _⟩ := tp_inf hld hld2 hh
  obtain ⟨c', cp', nT', cT', _⟩ := tp_inf hld hld2 kk
  obtain ⟨a, a0, _, a2, _⟩ := x5
  obtain ⟨b, b0, _, b2, _⟩ := y5
  have pos : ∀ (x : Int) (S : po_P) (c : Int), 0 < c → c * S (po_psd dg s l) = ld → 0 < S (po_psd dg s l) → (∀ i, fd_cn m X i = x * S i) → fd_cn m X (po_psd dg s l) = ld → 0 < x := fun x S c hc h1 h2 h3 h4 => by
    rw [h3] at h4
    have : 0 < S (po_psd dg s l) * x := by rw [Int.mul_comm, h4]; exact hld
    exact fs_ps this (by omega)
  obtain ⟨X2, z1, z2, z3, z4, _⟩ := hh
  have e2 : X = X2 := fd_rd_eq x1 z1 (po_eq_t x2 (po_eq_s z2))
  rw [← e2] at z4
  have cn : fd_cn m X (po_psd dg s l) = ld := by simp only [fd_cn]; rw [z4, if_pos hld2]
  refine zp_prop nT nT' (pos a T c cp cT nT.2.1 a2 cn) (pos b T' c' cp' cT' nT'.2.1 b2 cn) ?_
  funext i
  rw [po_mul_C, po_mul_C, ← a2, ← b2]
/-- what recombine keeps: pieces left, the left part, the whole part, the list -/
abbrev rc_St : Type := Nat × po_P × po_P × Nat × (Nat → po_P)
def rc_tr (sz st : Nat) (x : rc_St) : Prop := st &&& (31 ^^^ x.1) = 0 ∧ pc_n st = sz ∧ 2 * sz ≤ pc_n x.1
def rc_nx (m : Int) (V : Nat → po_P) (dg : Nat → Nat) (l sz st : Nat) (x y : rc_St) : Prop :=
  (rc_tr sz st x ∧ ∃ nL T, 0 < x.2.1 nL ∧ (∀ i, nL < i → x.2.1 i = 0) ∧ 2 * x.2.1 nL ≤ m ∧ tp_T m (x.2.1 nL) V dg st l T ∧ ((fd_TD x.2.1 T ∧ ∃ Q e Y, fd_TQ x.2.1 T Q ∧ rc_ch x.2.1 x.2.2.1 T Q x.2.2.2.1 e Y ∧ y = ⟨x.1 &&& (31 ^^^ st), Q, Y, x.2.2.2.1 + e, fl_puts T e x.2.2.2.1 x.2.2.2.2⟩) ∨ (¬ fd_TD x.2.1 T ∧ y = x))) ∨ (¬ rc_tr sz st x ∧ y = x)
theorem rc_nx_u {m : Int} {V : Nat → po_P} {dg : Nat → Nat} {l sz st : Nat} {x y y' : rc_St} (h : rc_nx m V dg l sz st x y) (k : rc_nx m V dg l sz st x y') : y = y' := by
  rcases h with ⟨h1, nL, T, h2, h3, h4, h5, h6⟩ | ⟨h1, h2⟩
  · rcases k with ⟨_, nL', T', k2, k3, k4, k5, k6⟩ | ⟨k1, _⟩
    · have e : nL = nL' := zp_t_u ⟨by omega, h3⟩ ⟨by omega, k3⟩
      subst e
      have e : T = T' := tp_u h2 h4 h5 k5
      subst e
      rcases h6 with ⟨a1, Q, e, Y, a2, a3, a4⟩ | ⟨a1, a2⟩
      · rcases k6 with ⟨_, Q', e', Y', b2, b3, b4⟩ | ⟨b1, _⟩
        · obtain ⟨⟨t, _, _, t1, _⟩, _⟩ := id a3
          have q : Q = Q' := fd_TQ_u ⟨t, by omega⟩ a2 b2
          subst q
          obtain ⟨r1, r2⟩ := rc_ch_u a3 b3
          subst r1 r2
          rw [a4, b4]
        · exact absurd a1 b1
      · rcases k6 with ⟨b1, _⟩ | ⟨_, b2⟩
        · exact absurd b1 a1
        · rw [a2, b2]
    · exact absurd h1 k1
  · rcases k with ⟨k1, _⟩ | ⟨_, k2⟩
    · exact absurd k1 h1
    · rw [h2, k2]
noncomputable def rc_f (m : Int) (V : Nat → po_P) (dg : Nat → Nat) (l sz st : Nat) (x : rc_St) : rc_St := @dite _ (∃ y, rc_nx m V dg l sz st x y) (Classical.propDecidable _) (fun h => Classical.choose h) (fun _ => x)
theorem rc_f_e {m : Int} {V : Nat → po_P} {dg : Nat → Nat} {l sz st : Nat} {x y : rc_St} (h : rc_nx m V dg l sz st x y) : rc_f m V dg l sz st x = y := by
  have hh : ∃ y, rc_nx m V dg l sz st x y := ⟨y, h⟩
  unfold rc_f
  rw [dif_pos hh]
  exact rc_nx_u (Classical.choose_spec hh) h
noncomputable def rc_run (m : Int) (V : Nat → po_P) (dg : Nat → Nat) (l : Nat) (x : rc_St) : Nat → rc_St
  | 0 => x
  | t + 1 => rc_f m V dg l (t / 32 + 1) (t % 32 + 1) (rc_run m V dg l x t)
section
variable {m : Int} {V : Nat → po_P} {dg : Nat → Nat} {l : Nat} {x0 : rc_St}
theorem rc_run_s {sz st t : Nat} {x y : rc_St} (hsz : 1 ≤ sz) (hst : 1 ≤ st) (hst2 : st ≤ 32) (ht : t = 32 * (sz - 1) + (st - 1)) (hx : x = rc_run m V dg l x0 t) (h : rc_nx m V dg l sz st x y) : y = rc_run m V dg l x0 (t + 1) := by
  rw [rc_run, ← hx, show t / 32 + 1 = sz by omega, show t % 32 + 1 = st by omega]
  exact (rc_f_e h).symm
/-- when few pieces are left nothing is tried any more -/
theorem rc_run_k {sz t : Nat} {x : rc_St} (ht : 32 * (sz - 1) ≤ t) (hsz : 1 ≤ sz) (hx : x = rc_run m V dg l x0 t) (hp : pc_n x.1 < 2 * sz) : ∀ j, x = rc_run m V dg l x0 (t + j)
  | 0 => hx
  | j + 1 => by
    have ih := rc_run_k ht hsz hx hp j
    rw [show t + (j + 1) = (t + j) + 1 by omega, rc_run, ← ih]
    refine (rc_f_e (Or.inr ⟨fun z => ?_, rfl⟩)).symm
    have := z.2.2
    have : sz ≤ (t + j) / 32 + 1 := by omega
    omega
def rc_end (m : Int) (V : Nat → po_P) (dg : Nat → Nat) (l : Nat) (x0 y : rc_St) : Prop := ∃ s, y = rc_run m V dg l x0 (32 * s) ∧ pc_n y.1 < 2 * (s + 1)
theorem rc_end_u {y y' : rc_St} (h : rc_end m V dg l x0 y) (k : rc_end m V dg l x0 y') : y = y' := by
  obtain ⟨s, h1, h2⟩ := h
  obtain ⟨s', k1, k2⟩ := k
  have a := rc_run_k (sz := s + 1) (by omega) (by omega) h1 h2 (32 * s')
  have b := rc_run_k (sz := s' + 1) (by omega) (by omega) k1 k2 (32 * s)
  rw [a, b, Nat.add_comm]
end
/-- the list that recombine answers -/
def rc_R (m : Int) (V : Nat → po_P) (dg : Nat → Nat) (l : Nat) (L W : po_P) (n : Nat) (ls : Nat → po_P) : Prop := ∃ y e Y, rc_end m V dg l ⟨2 ^ l - 1, L, W, 0, fun _ => po_C 0⟩ y ∧ rc_ch y.2.1 y.2.2.1 y.2.1 y.2.1 y.2.2.2.1 e Y ∧ n = y.2.2.2.1 + e ∧ ls = fl_puts y.2.1 e y.2.2.2.1 y.2.2.2.2
theorem rc_R_u {m : Int} {V : Nat → po_P} {dg : Nat → Nat} {l : Nat} {L W : po_P} {n n' : Nat} {ls ls' : Nat → po_P} (h : rc_R m V dg l L W n ls) (k : rc_R m V dg l L W n' ls') : n = n' ∧ ls = ls' := by
  obtain ⟨y, e, Y, h1, h2, h3, h4⟩ := h
  obtain ⟨y', e', Y', k1, k2, k3, k4⟩ := k
  have a := rc_end_u h1 k1
  subst a
  obtain ⟨b, _⟩ := rc_ch_u h2 k2
  subst b
  exact ⟨by rw [h3, k3], by rw [h4, k4]⟩
end
section
/-! recombine with its invariant -/
section
variable {dc : Int32} {pr : Int64} {a3 : Nat → Int64} {a4 a5 a6 : Nat → Int32}
theorem fd_rec2 {post : St1 → Prop} {a : Nat → Int64} {g : Nat → Int32} {tp : Int64} {k P K l nW : Nat} {V : Nat → po_P} {dg : Nat → Nat} {W0 : po_P} (hl1 : 1 ≤ l) (hsd : po_sd dg l ≤ 5) (hS : rc_S k P K l nW V dg W0) (htp : tp.toInt = (fs_m k : Int)) (hV : ∀ j, j < l → fd_r a (11 + j) = V j) (h4 : fd_r a 4 = W0) (hI : rc_I P l (fs_m k) V dg W0 1 1 (2 ^ l - 1) (fd_r a 5) W0 0)
    (H : ∀ a' g' n' ls', rc_fr a a' → fl_I g' n' W0 → (∀ j, j < n' → fl_r g' j = ls' j) → n' ≤ 5 → rc_R (fs_m k) V dg l (fd_r a 5) W0 n' ls' → post (nI n', tp, pr, nI l, dc, a', g', a3, a4, a5, a6)) :
    wpX_recombine post (nI 0, tp, pr, nI l, dc, a, g, a3, a4, a5, a6) := by
  have hS' := hS
  obtain ⟨hk, hP, hm, l5, hW, w5, hb, hV2, hdg⟩ := hS'
  obtain ⟨m1, m2⟩ := fs_mb k hk
  have mk : ∀ {sz st pc : Nat} {L W : po_P} {n : Nat} {ls : Nat → po_P} {y : rc_St}, 1 ≤ sz → 1 ≤ st → st < 32 → ((pc, L, W, n, ls) : rc_St) = rc_run (fs_m k) V dg l (2 ^ l - 1, fd_r a 5, W0, 0, fun _ => po_C 0) (32 * (sz - 1) + (st - 1)) → rc_nx (fs_m k) V dg l sz st (pc, L, W, n, ls) y → y = rc_run (fs_m k) V dg l (2 ^ l - 1, fd_r a 5, W0, 0, fun _ => po_C 0) (32 * (sz - 1) + (st + 1 - 1)) := fun h1 h2 h3 h4 h5 => by
    have := rc_run_s h1 h2 (by omega) rfl h4 h5
    rw [this]; congr 1; omega
  refine fd_recombine (n := 0) (Z := po_C 1) (W0 := W0) (ls0 := fun _ => po_C 0) (m := (fs_m k : Int)) (V := V) (dg := dg)
    (Inv := fun sz st pc L W n ls => 1 ≤ sz ∧ 1 ≤ st ∧ st ≤ 32 ∧ rc_I P l (fs_m k) V dg W0 sz st pc L W n ∧ ((pc, L, W, n, ls) : rc_St) = rc_run (fs_m k) V dg l (2 ^ l - 1, fd_r a 5, W0, 0, fun _ => po_C 0) (32 * (sz - 1) + (st - 1)))
    (Fin := fun Y n ls => Y = po_C 1 ∧ n ≤ 5 ∧ rc_R (fs_m k) V dg l (fd_r a 5) W0 n ls)
    hl1 l5 hsd htp (by omega) (by omega) hV hV2 ⟨fun j hj => absurd hj (by omega), rfl⟩ (by rw [h4, zp_1m]) (fun j hj => absurd hj (by omega)) ⟨by omega, by omega, by omega, by rw [h4]; exact hI, by rw [h4]; rfl⟩ ?_ ?_ ?_ ?_ ?_ ?_ ?_
  · rintro sz st pc L W n ls ⟨_, _, _, h, _⟩
    exact rc_OB hS h
  · rintro sz st pc L W n ls nL ⟨_, i2, i3, h, hx⟩ hL1 hL2 hsz hst1 hst hsub hszz h2 T hT hD
    obtain ⟨Q, e, Y, q1, q2, q3⟩ := rc_OT hS h hL1 hL2 hst1 hst hsub hszz hsz h2 hT hD
    obtain ⟨_, nL', n1, n2, n3⟩ := rc_OB hS h
    have en : nL = nL' := zp_t_u ⟨by omega, hL2⟩ ⟨by omega, n2⟩
    refine ⟨Q, e, Y, q1, q2, hsz, by omega, by omega, q3, mk hsz hst1 hst hx (Or.inl ⟨⟨hsub, hszz, h2⟩, nL, T, hL1, hL2, by rw [en]; exact n3, hT, Or.inl ⟨⟨Q, q1⟩, Q, e, Y, q1, q2, rfl⟩⟩)⟩
  · rintro sz st pc L W n ls nL ⟨_, i2, i3, h, hx⟩ hL1 hL2 hsz hst1 hst hsub hszz h2 T hT hD
    obtain ⟨_, nL', n1, n2, n3⟩ := rc_OB hS h
    have en : nL = nL' := zp_t_u ⟨by omega, hL2⟩ ⟨by omega, n2⟩
    exact ⟨hsz, by omega, by omega, rc_OF hS h hL1 hL2 hT hD, mk hsz hst1 hst hx (Or.inl ⟨⟨hsub, hszz, h2⟩, nL, T, hL1, hL2, by rw [en]; exact n3, hT, Or.inr ⟨hD, rfl⟩⟩)⟩
  · rintro sz st pc L W n ls ⟨_, i2, i3, h, hx⟩ hsz hst hs
    refine ⟨hsz, by omega, by omega, rc_OS hS h hs, mk hsz i2 hst hx (Or.inr ⟨fun z => ?_, rfl⟩)⟩
    rcases hs with y | y
    · exact y z.1
    · exact y z.2.1
  · rintro sz st pc L W n ls ⟨_, i2, i3, h, hx⟩ hsz hs
    refine ⟨by omega, by omega, by omega, rc_OX hS h hs, ?_⟩
    by_cases z : pc_n pc < 2 * sz
    · have := rc_run_k (sz := sz) (by omega) hsz hx z (32 * sz - (32 * (sz - 1) + (st - 1)))
      rw [this]; congr 1; omega
    · have s32 : st = 32 := by omega
      subst s32
      have := rc_run_s hsz (by omega) (by omega) rfl hx (Or.inr ⟨fun w => by
        have := w.2.1
        have e : pc_n 32 = 0 := rfl
        omega, rfl⟩)
      rw [this]; congr 1; omega
  · rintro sz pc L W n ls ⟨_, i2, i3, h, hx⟩ hsz hs
    obtain ⟨o1, e, o2, o3⟩ := rc_OE hS h hs
    refine ⟨o1, e, po_C 1, o2, rfl, o3, (pc, L, W, n, ls), e, po_C 1, ⟨sz - 1, by rw [hx]; rfl, ?_⟩, o2, rfl, rfl⟩
    show pc_n pc < _
    omega
  · rintro a' g' n' Y Z' ls' fr hl hz hll ⟨y1, y2, y3⟩
    rw [y1, zp_m1] at hz
    subst hz
    exact H a' g' n' ls' fr hl hll y2 y3
end
end
section
/-! findFactors as a relation that is a function -/
theorem fd_pp_n {f g : po_P} (h : fd_pp f g) : ∃ d, zp_n d g ∧ (∀ i, (g i).natAbs ≤ (f i).natAbs) ∧ f d ≠ 0 ∧ ∀ i, d < i → f i = 0 := by
  have pr := zp_pp h
  obtain ⟨c, c0, _, c2, d, _, d2, d3⟩ := h
  refine ⟨d, ⟨pr, d2, d3⟩, fun i => ?_, ?_, fun i hi => by rw [c2, d3 i hi, Int.mul_zero]⟩
  · rw [c2 i, Int.natAbs_mul]
    have : 1 * (g i).natAbs ≤ c.natAbs * (g i).natAbs := Nat.mul_le_mul_right _ (by omega)
    omega
  · rw [c2]
    intro z
    rcases Int.mul_eq_zero.mp z with y | y
    · exact c0 y
    · omega
theorem fd_pp_u {f g g' : po_P} (h : fd_pp f g) (k : fd_pp f g') : g = g' := by
  obtain ⟨c, c0, c1, c2, d, _, d2, d3⟩ := h
  obtain ⟨b, b0, b1, b2, e, _, e2, e3⟩ := k
  by_cases z : c = b
  · funext i
    have := c2 i
    rw [b2 i, ← z] at this
    exact (Int.eq_of_mul_eq_mul_left c0 this).symm
  · exfalso
    have y : b = - c := by omega
    have n : ∀ i, g' i = - g i := fun i => by
      have := c2 i
      rw [b2 i, y, Int.neg_mul, ← Int.mul_neg] at this
      have := Int.eq_of_mul_eq_mul_left c0 this
      omega
    rcases Nat.lt_trichotomy d e with w | w | w
    · have := d3 e w; have := n e; omega
    · subst w; have := n d; omega
    · have := e3 d w; have := n d; omega
def ff_L (W LEFT : po_P) : Prop := ∀ n L Q i j dL dQ, zp_pat n W L Q (i + 1) (j + 1) dL dQ → LEFT = po_mul L Q
theorem ff_pat {n : Nat} {W : po_P} (h : zp_n n W) (hn : 1 ≤ n) (hn5 : n ≤ 5) : ∃ L Q i j dL dQ, zp_pat n W L Q (i + 1) (j + 1) dL dQ := by
  obtain ⟨L, Q, i, j, dL, dQ, hp⟩ := zp_cls h hn hn5
  have hp' := hp
  obtain ⟨_, _, _, _, _, i1, j1, _⟩ := hp'
  obtain ⟨i, rfl⟩ : ∃ i', i = i' + 1 := ⟨i - 1, by omega⟩
  obtain ⟨j, rfl⟩ : ∃ j', j = j' + 1 := ⟨j - 1, by omega⟩
  exact ⟨L, Q, i, j, dL, dQ, hp⟩
def ff_C (LEFT : po_P) (k nL K l : Nat) (F : po_P) (Pc V : Nat → po_P) (dg : Nat → Nat) : Prop := k < 29 ∧ zp_t nL LEFT ∧ fd_good (pm_L.getD k 0 : Nat) LEFT ∧ (∀ j, j < k → fd_bad (pm_L.getD j 0 : Nat) LEFT) ∧ fd_rd (pm_L.getD k 0 : Nat) F ∧ F nL = 1 ∧ (∀ i, nL < i → F i = 0) ∧ po_eq (pm_L.getD k 0 : Nat) LEFT (po_mul (po_C (LEFT nL)) F) ∧ sm_F (pm_L.getD k 0) nL F l Pc ∧ 70000 < ((pm_L.getD k 0 : Nat) : Int) ^ K ∧ ((pm_L.getD k 0 : Nat) : Int) ^ K ≤ 70000 * (pm_L.getD k 0 : Nat) ∧ la_V (pm_L.getD k 0) K Pc V dg l ∧ (∀ j, l ≤ j → V j = po_C 0 ∧ dg j = 0) ∧ po_eq (((pm_L.getD k 0 : Nat) : Int) ^ K) LEFT (po_mul (po_C (LEFT nL)) (po_prod V l))
def ff_R (f : po_P) (n : Nat) (ls : Nat → po_P) : Prop := ((∀ i, 1 ≤ i → f i = 0) ∧ n = 0) ∨ ((∃ i, 1 ≤ i ∧ f i ≠ 0) ∧ ∃ W LEFT k nL K l F Pc V dg, fd_pp f W ∧ ff_L W LEFT ∧ ff_C LEFT k nL K l F Pc V dg ∧ rc_R (((pm_L.getD k 0 : Nat) : Int) ^ K) V dg l LEFT W n ls)
theorem pm_K {P K K' : Nat} (hP : 2 ≤ P) (h1 : 70000 < (P : Int) ^ K) (h2 : (P : Int) ^ K ≤ 70000 * P) (k1 : 70000 < (P : Int) ^ K') (k2 : (P : Int) ^ K' ≤ 70000 * P) : K = K' := by
  have lt : ∀ a b : Nat, a < b → 70000 < (P : Int) ^ a → (P : Int) ^ b ≤ 70000 * P → False := fun a b hab h k => by
    have e1 : P ^ (a + 1) ≤ P ^ b := Nat.pow_le_pow_right (by omega) hab
    have e2 : (P : Int) ^ (a + 1) ≤ (P : Int) ^ b := by
      have := Int.ofNat_le.mpr e1
      rwa [Int.natCast_pow, Int.natCast_pow] at this
    rw [Int.pow_succ] at e2
    have e3 : 70001 * (P : Int) ≤ (P : Int) ^ a * P := Int.mul_le_mul_of_nonneg_right (by omega) (by omega)
    omega
  rcases Nat.lt_trichotomy K K' with z | z | z
  · exact (lt K K' z h1 k2).elim
  · exact z
  · exact (lt K' K z k1 h2).elim
theorem ff_C_u {LEFT : po_P} {k nL K l : Nat} {F : po_P} {Pc V : Nat → po_P} {dg : Nat → Nat} {k' nL' K' l' : Nat} {F' : po_P} {Pc' V' : Nat → po_P} {dg' : Nat → Nat} (h : ff_C LEFT k nL K l F Pc V dg) (h' : ff_C LEFT k' nL' K' l' F' Pc' V' dg') : k = k' ∧ K = K' ∧ l = l' ∧ V = V' ∧ dg = dg' := by
  obtain ⟨a1, a2, a3, a4, a5, a6, a7, a8, a9, a10, a11, a12, a13, a14⟩ := h
  obtain ⟨b1, b2, b3, b4, b5, b6, b7, b8, b9, b10, b11, b12, b13, b14⟩ := h'
  have ek := fd_good_u a1 b1 a3 a4 b3 b4
  subst ek
  have hp := pm_L_prime a1
  generalize pm_L.getD k 0 = P at *
  have hp1 := hp.1
  have dom := po_prime_dom hp
  have en := zp_t_u a2 b2
  subst en
  have eK := pm_K (by omega) a10 a11 b10 b11
  subst eK
  have hld := a3.1 nL a2.1 a2.2
  have eF : F = F' := fd_rd_eq a5 b5 (po_cancel dom (t := po_C (LEFT nL)) ⟨0, by simpa [po_C] using hld⟩ (po_eq_t (po_eq_s a8) b8))
  subst eF
  have moF : po_mo P nL F := fd_top_mo a6 a7
  obtain ⟨el, ep⟩ := sm_F_u hp moF a9 b9
  subst el
  have edg : dg = dg' := by
    funext j
    by_cases z : j < l
    · obtain ⟨_, x1, x2, x3⟩ := a12 j z
      obtain ⟨_, y1, y2, y3⟩ := b12 j z
      rw [ep j z] at x3
      exact po_mo_u dom.1 (po_mo_eq x3 (fd_top_mo x1 x2)) (po_mo_eq y3 (fd_top_mo y1 y2))
    · rw [(a13 j (by omega)).2, (b13 j (by omega)).2]
  subst edg
  have b12' : la_V P K Pc V' dg l := fun j hj => by
    obtain ⟨y0, y1, y2, y3⟩ := b12 j hj
    exact ⟨y0, y1, y2, by rw [ep j hj]; exact y3⟩
  have PK : (P : Int) ∣ (P : Int) ^ K := by
    cases K with
    | zero => rw [Int.pow_zero] at a10; omega
    | succ K => rw [Int.pow_succ]; exact Int.dvd_mul_left _ _
  have sq : po_sqf P (po_prod V l) := po_sqf_s a3.2 (po_eq_dvd PK a14)
  have hu := hu_all hp hld l a12 b12' sq (po_eq_t (po_eq_s b14) a14)
  refine ⟨rfl, rfl, rfl, ?_, rfl⟩
  funext j
  by_cases z : j < l
  · exact (hu j z).symm
  · rw [(a13 j (by omega)).1, (b13 j (by omega)).1]
theorem ff_R_u {f : po_P} (hf : rg_r f) {n n' : Nat} {ls ls' : Nat → po_P} (h : ff_R f n ls) (h' : ff_R f n' ls') : n = n' ∧ ∀ j, j < n → ls j = ls' j := by
  rcases h with ⟨h1, h2⟩ | ⟨⟨i0, i1, i2⟩, W, LEFT, k, nL, K, l, F, Pc, V, dg, h1, h2, h3, h4⟩
  · rcases h' with ⟨k1, k2⟩ | ⟨⟨i0, i1, i2⟩, _⟩
    · exact ⟨by rw [h2, k2], fun j hj => absurd hj (by omega)⟩
    · exact absurd (h1 i0 i1) i2
  · rcases h' with ⟨k1, k2⟩ | ⟨_, W', LEFT', k', nL', K', l', F', Pc', V', dg', k1, k2, k3, k4⟩
    · exact absurd (k1 i0 i1) i2
    · have eW := fd_pp_u h1 k1
      subst eW
      obtain ⟨d, nW, _, fd0, fdz⟩ := fd_pp_n h1
      have d1 : 1 ≤ d := Classical.byContradiction (fun z => i2 (fdz i0 (by omega)))
      have d5 : d ≤ 5 := Classical.byContradiction (fun z => fd0 ((hf d).2.2 (by omega)))
      obtain ⟨L, Q, i, j, dL, dQ, hp⟩ := ff_pat nW d1 d5
      have eL : LEFT = LEFT' := by rw [h2 d L Q i j dL dQ hp, k2 d L Q i j dL dQ hp]
      subst eL
      obtain ⟨e1, e2, e3, e4, e5⟩ := ff_C_u h3 k3
      subst e1 e2 e3 e4 e5
      obtain ⟨r1, r2⟩ := rc_R_u h4 k4
      exact ⟨r1, fun j _ => by rw [r2]⟩
end
section
/-! findFactors: what its steps need -/
theorem pm_fs0 : ∀ k, k < 29 → ∃ K, K < 12 ∧ pm_L.getD k 0 ^ K = fs_m k ∧ 70000 < pm_L.getD k 0 ^ K ∧ pm_L.getD k 0 ^ K ≤ 70000 * pm_L.getD k 0 := by decide +kernel
theorem pm_fs {k K : Nat} (hk : k < 29) (h1 : 70000 < ((pm_L.getD k 0 : Nat) : Int) ^ K) (h2 : ((pm_L.getD k 0 : Nat) : Int) ^ K ≤ 70000 * (pm_L.getD k 0 : Nat)) : ((pm_L.getD k 0 : Nat) : Int) ^ K = fs_m k := by
  obtain ⟨K0, _, e, e1, e2⟩ := pm_fs0 k hk
  have b := pm_L_b k hk
  generalize pm_L.getD k 0 = P at *
  have c1 : 70000 < (P : Int) ^ K0 := by
    have := Int.ofNat_lt.mpr e1
    rwa [Int.natCast_pow] at this
  have c2 : (P : Int) ^ K0 ≤ 70000 * P := by
    have := Int.ofNat_le.mpr e2
    rwa [Int.natCast_pow, Int.natCast_mul] at this
  rw [pm_K (by omega) h1 h2 c1 c2, ← e, Int.natCast_pow]
theorem ff_M {d : Nat} {W A' B' T : po_P} (nW : zp_n d W) (d1 : 1 ≤ d) (d5 : d ≤ 5) (hb : ∀ i, (W i).natAbs ≤ 20) (hA : fd_pz W A') (hB : fd_pz (po_der W) B') (hT : fd_gc A' B' T) : ∃ Q, fd_TQ W T Q ∧ (∃ e, 0 < T e ∧ ∀ i, e < i → T i = 0) ∧ ff_L W Q := by
  obtain ⟨L, Q, i, j, dL, dQ, hp⟩ := ff_pat nW d1 d5
  have eT := pt_gc d1 d5 nW hb hp hA hB hT
  obtain ⟨p1, p2, p3, p4⟩ := pt_deg hp
  subst eT
  refine ⟨po_mul L Q, fd_TD_i p2 p1 (zp_n_fin p3) (zb_all (n := 0) (zp_n_t p2) (zp_n_t p3) p1 (by omega) hb) (fun t => Nat.le_trans (zb_all (n := 0) (zp_n_t p3) (zp_n_t p2) (by rw [zp_mulc]; exact p1) (by omega) hb t) (by omega)), ⟨_, p2.2.1, p2.2.2⟩, ?_⟩
  intro n' L' Q' i' j' dL' dQ' hp'
  obtain ⟨q1, q2, q3, q4⟩ := pt_deg hp'
  have nW' : zp_n n' W := by rw [← q4]; have := zp_n_mul q2 q3; rw [← q1] at this; exact this
  have en : n' = d := zp_t_u (zp_n_t nW') (zp_n_t nW)
  subst en
  have eT := pt_gc d1 d5 nW hb hp' hA hB hT
  rw [eT] at p1
  exact zp_can (zp_n_n0 q2) (by rw [← p1, ← q1])
theorem ff_I0 {k K d l i j dL dQ : Nat} {W L Q F : po_P} {Pc V : Nat → po_P} {dg : Nat → Nat} (hk : k < 29) (nW : zp_n d W) (d5 : d ≤ 5) (hb : ∀ i, (W i).natAbs ≤ 20) (hp : zp_pat d W L Q (i + 1) (j + 1) dL dQ) (hg : fd_good (pm_L.getD k 0 : Nat) (po_mul L Q)) (hF1 : F (dL + dQ) = 1) (hF0 : ∀ i, dL + dQ < i → F i = 0) (hLF : po_eq (pm_L.getD k 0 : Nat) (po_mul L Q) (po_mul (po_C (po_mul L Q (dL + dQ))) F)) (hsq : po_sqf (pm_L.getD k 0 : Nat) F) (hI : sp_I (pm_L.getD k 0 : Nat) F Pc l) (hD : bk_D (pm_L.getD k 0) (dL + dQ) F Pc l) (h1 : 70000 < ((pm_L.getD k 0 : Nat) : Int) ^ K) (h2 : ((pm_L.getD k 0 : Nat) : Int) ^ K ≤ 70000 * (pm_L.getD k 0 : Nat)) (hK : 1 ≤ K) (hV : la_V (pm_L.getD k 0) K Pc V dg l) (hdg : ∀ j, j < l → 1 ≤ dg j) (hsd : po_sd dg l = dL + dQ) (hl5 : l ≤ 5) (hVL : po_eq (((pm_L.getD k 0 : Nat) : Int) ^ K) (po_mul L Q) (po_mul (po_C (po_mul L Q (dL + dQ))) (po_prod V l))) :
    rc_S k (pm_L.getD k 0) K l d V dg W ∧ rc_I (pm_L.getD k 0) l (fs_m k) V dg W 1 1 (2 ^ l - 1) (po_mul L Q) W 0 := by
  have prime := pm_L_prime hk
  have hm := pm_fs hk h1 h2
  obtain ⟨p1, p2, p3, p4⟩ := pt_deg hp
  have hp' := hp
  obtain ⟨e1, n0, nQ, hsf, dQ1, _, _, e2, hc⟩ := hp'
  have hl1 : 1 ≤ l := hI.1
  have hPl := hg.1 (dL + dQ) (by have := p3.2.1; omega) p3.2.2
  have al : dL = 1 → ∃ al, al < l ∧ dg al = 1 ∧ po_eq (fs_m k) L (po_mul (po_C (L 1)) (V al)) := fun z => by
    subst z
    rw [← hm]
    exact rc_al hk prime hK n0 nQ rfl (by omega) hPl hg.2 (fd_top_mo hF1 hF0) hsq hLF hI hD hV hVL
  rw [hm] at hVL
  obtain ⟨s1, s2⟩ := po_ps_all (V := V) (dg := dg) (s := 2 ^ l - 1) l (rc_full l (by omega))
  have l2 : 2 ≤ 2 ^ l := by have := Nat.pow_le_pow_right (n := 2) (by omega) hl1; omega
  refine ⟨⟨hk, prime, hm, hl5, nW, d5, hb, fun t ht => ?_, hdg⟩, ⟨by omega, by omega, ?_, hsf, hg.2, ?_, ?_⟩, ⟨po_C 1, po_fin_C _ _, (zp_1m _).symm⟩, L, Q, i, j, dL, dQ, rfl, e1, n0, nQ, by omega, ?_⟩
  · obtain ⟨v1, v2, v3, _⟩ := hV t ht
    rw [hm] at v1
    exact ⟨v1, v2, v3⟩
  · rw [s2, hsd]; exact p3
  · rw [s2, hsd]; exact hPl
  · rw [s2, hsd, s1]; exact hVL
  · rcases hc with ⟨z, _⟩ | ⟨z, _⟩
    · exact Or.inl z
    · obtain ⟨al, a1, a2, a3⟩ := al z
      exact Or.inr ⟨z, al, a1, a2, rc_full l (by omega) al a1, a3, Or.inl ⟨rfl, Nat.one_le_two_pow⟩⟩
end
section
/-! findFactors -/
def ff_ok (f : po_P) (n : Nat) (ls : Nat → po_P) : Prop := ((∀ i, 1 ≤ i → f i = 0) → n = 0) ∧ ((∃ i, 1 ≤ i ∧ f i ≠ 0) → fd_pp f (po_prod ls n) ∧ ∀ j, j < n → fl_ok (ls j))
section
variable {fc lc dc : Int32} {mo pr : Int64} {a2 : Nat → Int32} {a3 : Nat → Int64} {a4 a5 a6 : Nat → Int32}
theorem fd_findFactors {post : St1 → Prop} {a : Nat → Int64} {r : Nat} (hr : r < 4) (hreg : rg_r (fd_r a r))
    (H : ∀ mo' pr' lc' a' g' m' pv' pw' n ls, (∀ q, q < 4 → fd_r a' q = fd_r a q) → ff_R (fd_r a r) n ls → (∀ j, j < n → fl_r g' j = ls j) → n ≤ 5 → ff_ok (fd_r a r) n ls → post (nI n, mo', pr', lc', dc, a', g', m', pv', pw', a6)) :
    wpX_findFactors post (fc, mo, pr, lc, dc, a, a2, a3, a4, a5, a6) (nI r) := by
  have low : (∀ i, 1 ≤ i → fd_r a r i = 0) → post (nI 0, mo, pr, lc, dc, a, a2, a3, a4, a5, a6) := fun z => H mo pr lc a a2 a3 a4 a5 0 (fun _ => po_C 0) (fun _ _ => rfl) (Or.inl ⟨z, rfl⟩) (fun j hj => absurd hj (by omega)) (by omega) ⟨fun _ => rfl, fun ⟨i, i1, i2⟩ => absurd (z i i1) i2⟩
  unfold wpX_findFactors
  dsimp only
  refine fd_degreeOf (s := r) (by omega) (fun h0 => br_f (by decide) (low (fun i _ => h0 i))) (fun d hd h1 h2 => pk_le 1 d (fun d1 => ?_) (fun d1 => low (fun i hi => h2 i (by omega))))
  have d5 : d ≤ 5 := Classical.byContradiction (fun z => h1 ((hreg d).2.2 (by omega)))
  refine fd_copy (t := 4) (f := r) (by omega) (by omega) (fun b1 e1 => ?_)
  dsimp only
  have b14 : fd_r b1 4 = fd_r a r := by rw [e1, fd_u_s]
  refine fd_makePrimitive (s := 4) (by omega) (fun i => by rw [b14]; have := hreg i; omega) (fun h0 => by rw [b14] at h0; exact absurd (h0 d) h1) (fun b2 W e2 hpp => ?_)
  dsimp only
  rw [b14] at hpp
  have b24 : fd_r b2 4 = W := by rw [e2, fd_u_s]
  obtain ⟨d', nW, hWb, fd0, fdz⟩ := fd_pp_n hpp
  have ed : d' = d := zp_t_u ⟨fd0, fdz⟩ ⟨h1, h2⟩
  subst ed
  have hb : ∀ i, (W i).natAbs ≤ 20 := fun i => Nat.le_trans (hWb i) (by have := hreg i; omega)
  have fr2 : ∀ q, q < 4 → fd_r b2 q = fd_r a q := fun q hq => by rw [e2, fd_u_n (by omega), e1, fd_u_n (by omega)]
  refine fd_splitOffMultiple (G := ff_L W) (fun i => by rw [b24]; have := hb i; omega) (fun i hi => by rw [b24]; exact nW.2.2 i (by omega)) (fun A' B' T hA hB hT => by rw [b24] at hA hB ⊢; exact ff_M nW d1 d5 hb hA hB hT) (fun b3 mo3 pr3 T LEFT A' B' u22 u8 u10 u24 e3 hG => ?_)
  dsimp only
  have b35 : fd_r b3 5 = LEFT := by rw [e3, fd_u_s]
  have b3n : ∀ q, q ≤ 4 → fd_r b3 q = fd_r b2 q := fun q hq => by
    rw [e3, fd_u_n (by omega), fd_u_n (by omega), fd_u_n (by omega), fd_b7_n (by omega) (by omega) (by omega) (by omega) (by omega) (by omega) (by omega), fd_u_n (by omega)]
  obtain ⟨L, Q, i, j, dL, dQ, hp⟩ := ff_pat nW d1 d5
  have eL : LEFT = po_mul L Q := hG d' L Q i j dL dQ hp
  obtain ⟨p1, p2, p3, p4⟩ := pt_deg hp
  have Lb : ∀ t, (po_mul L Q t).natAbs ≤ 60000 := zb_all (n := 0) (zp_n_t p3) (zp_n_t p2) (by rw [zp_mulc]; exact p1) (by omega) hb
  have n1 : 1 ≤ dL + dQ := by have := hp.2.2.2.2.1; omega
  have p3' := p3
  rw [← eL] at p3'
  refine fd_choosePrime (d := dL + dQ) (by rw [b35]; have := p3'.2.1; omega) (fun t ht => by rw [b35]; exact p3'.2.2 t ht) (fun t => by rw [b35, eL]; have := Lb t; omega) (fun z => by rw [b35, eL] at z; exact pt_cp d5 hb hp z) (fun b4 k hk fr4 hgood hbad => ?_)
  dsimp only
  rw [b35] at hgood hbad
  have pb := pm_L_b k hk
  have prime := pm_L_prime hk
  have b45 : fd_r b4 5 = LEFT := by rw [fr4 5 (by omega) (by omega) (by omega) (by omega) (by omega)]; exact b35
  have lnP : (lN (pm_L.getD k 0)).toInt = ((pm_L.getD k 0 : Nat) : Int) := pk_lT (by omega)
  have hPl := hgood.1 (dL + dQ) (by have := p3'.2.1; omega) p3'.2.2
  refine fd_splitModulo (n := dL + dQ) (P := pm_L.getD k 0) lnP lnP prime (by omega) n1 (by omega) (by rw [b45]; exact hPl) (fun t ht => by rw [b45]; exact p3'.2.2 t ht) (by rw [b45]; exact hgood.2) (fun b5 l Pc F m5 pv5 pw5 fr5 hrow hI hFrd hF1 hF0 hLF hsqF hbk hsm => ?_)
  dsimp only
  rw [b45] at hLF
  have b55 : fd_r b5 5 = LEFT := by rw [fr5 5 (by omega) (by omega) (by omega) (by omega) (by omega) (by omega) (by omega) (by omega)]; exact b45
  have np : ¬ ((pm_L.getD k 0 : Nat) : Int) ∣ 1 := (po_prime_dom prime).1
  have moF : po_mo (pm_L.getD k 0 : Nat) (dL + dQ) F := fd_top_mo hF1 hF0
  have hln : l ≤ dL + dQ := sp_le (by omega) hI moF
  have hl1 : 1 ≤ l := hI.1
  -- degrees of the pieces
  obtain ⟨dg, hdg, hdg0⟩ : ∃ dg : Nat → Nat, (∀ j, j < l → 1 ≤ dg j ∧ Pc j (dg j) = 1 ∧ ∀ i, dg j < i → Pc j i = 0) ∧ ∀ j, l ≤ j → dg j = 0 := by
    refine ⟨fun j => if h : j < l then Classical.choose (hI.2.1 j h).2 else 0, fun j hj => ?_, fun j hj => dif_neg (by omega)⟩
    have := Classical.choose_spec (hI.2.1 j hj).2
    simp only [hj, dite_true]
    exact ⟨this.1, this.2.2.1, this.2.2.2⟩
  have moPc : ∀ j, j < l → po_mo (pm_L.getD k 0 : Nat) (dg j) (Pc j) := fun j hj => fd_top_mo (hdg j hj).2.1 (hdg j hj).2.2
  have hsd : po_sd dg l = dL + dQ := po_mo_u np (po_prod_sd l moPc) (po_mo_eq hI.2.2 moF)
  have lead0 : 0 < LEFT (dL + dQ) := p3'.2.1
  have leadb := Lb (dL + dQ)
  rw [← eL] at leadb
  have hLP : po_eq (pm_L.getD k 0 : Nat) LEFT (po_mul (po_C (LEFT (dL + dQ))) (po_prod Pc l)) := po_eq_t hLF (po_eq_mul (po_eq_r _ _) hI.2.2)
  refine fd_liftAll (P := pm_L.getD k 0) (l := l) (n := dL + dQ) (ld := LEFT (dL + dQ)) (Pc := Pc) (dg := dg) prime (by omega) pb.1 lnP (by omega) (by rw [b55]) (fun t ht => by rw [b55]; exact p3'.2.2 t ht) (fun t => by rw [b55, eL]; have := Lb t; omega) lead0 (by omega) hPl hl1 hsd (fun j hj => ⟨(hI.2.1 j hj).1, hdg j hj⟩) (by omega) (po_sqf_eq hsqF hI.2.2) (by rw [b55]; exact hLP) hrow (fun b6 V K tp fr6 hK htp hgt hle hrow6 hlaV hVL => ?_)
  dsimp only
  rw [b55] at hVL
  have b65 : fd_r b6 5 = LEFT := by rw [fr6 5 (by omega)]; exact b55
  have b64 : fd_r b6 4 = W := by
    rw [fr6 4 (by omega), fr5 4 (by omega) (by omega) (by omega) (by omega) (by omega) (by omega) (by omega) (by omega), fr4 4 (by omega) (by omega) (by omega) (by omega) (by omega), b3n 4 (by omega)]; exact b24
  obtain ⟨V', hV', hV0⟩ : ∃ V' : Nat → po_P, (∀ j, j < l → V' j = V j) ∧ ∀ j, l ≤ j → V' j = po_C 0 := ⟨fun j => if j < l then V j else po_C 0, fun j hj => if_pos hj, fun j hj => if_neg (by omega)⟩
  have la' : la_V (pm_L.getD k 0) K Pc V' dg l := fun j hj => by rw [hV' j hj]; exact hlaV j hj
  have ep : po_prod V' l = po_prod V l := po_prod_e l hV'
  rw [← ep] at hVL
  have hC : ff_C LEFT k (dL + dQ) K l F Pc V' dg := ⟨hk, zp_n_t p3', hgood, hbad, hFrd, hF1, hF0, hLF, hsm, hgt, hle, la', fun j hj => ⟨hV0 j hj, hdg0 j hj⟩, hVL⟩
  have hm := pm_fs hk hgt hle
  obtain ⟨hS, hI0⟩ := ff_I0 hk nW d5 hb hp (by rw [← eL]; exact hgood) hF1 hF0 (by rw [← eL]; exact hLF) hsqF hI hbk hgt hle hK la' (fun j hj => (hdg j hj).1) hsd (by omega) (by rw [← eL]; exact hVL)
  rw [← eL] at hI0
  refine fd_rec2 (k := k) (P := pm_L.getD k 0) (K := K) (V := V') (dg := dg) (W0 := W) hl1 (by omega) hS (by rw [htp, hm]) (fun j hj => by rw [hV' j hj]; exact hrow6 j hj) b64 (by rw [b65]; exact hI0) (fun b7 g' n' ls' fr7 hfl hls hn5 hR => ?_)
  dsimp only
  rw [b65, ← hm] at hR
  have eP : po_prod ls' n' = W := by rw [← hfl.2]; exact po_prod_e n' (fun j hj => (hls j hj).symm)
  refine H _ _ _ b7 g' _ _ _ n' ls' (fun q hq => ?_) (Or.inr ⟨⟨d', d1, h1⟩, W, LEFT, k, dL + dQ, K, l, F, Pc, V', dg, hpp, hG, hC, hR⟩) hls hn5 ⟨fun z => absurd (z d' d1) h1, fun _ => ⟨by rw [eP]; exact hpp, fun j hj => by rw [← hls j hj]; exact hfl.1 j hj⟩⟩
  rw [fr7 q (by omega) (by omega) (by omega) (by omega) (by omega) (by omega) (by omega), fr6 q (by omega), fr5 q (by omega) (by omega) (by omega) (by omega) (by omega) (by omega) (by omega) (by omega), fr4 q (by omega) (by omega) (by omega) (by omega) (by omega), b3n q (by omega)]
  exact fr2 q hq
theorem fd_factors {post : Int32 → St1 → Prop} {a : Nat → Int64} {r : Nat} (hr : r < 4) (hreg : rg_r (fd_r a r))
    (H : ∀ mo' pr' lc' a' g' m' pv' pw' n ls, (∀ q, q < 4 → fd_r a' q = fd_r a q) → ff_R (fd_r a r) n ls → n ≤ 5 → ff_ok (fd_r a r) n ls → post (nI n) (nI n, mo', pr', lc', dc, a', g', m', pv', pw', a6)) :
    wpX_factors post (fc, mo, pr, lc, dc, a, a2, a3, a4, a5, a6) (nI r) := by
  unfold wpX_factors
  dsimp only
  exact fd_isReg hr (br_f (by decide) (fd_findFactors hr hreg (fun mo' pr' lc' a' g' m' pv' pw' n ls h1 h2 h3 h4 h5 => H mo' pr' lc' a' g' m' pv' pw' n ls h1 h2 h4 h5)))
/-- factor number k: too big, or copied to the register d -/
theorem fd_factor {post : Int32 → St1 → Prop} {a : Nat → Int64} {d r k n : Nat} {ls : Nat → po_P} (hd : d < 4) (hr : r < 4) (hreg : rg_r (fd_r a r)) (hR : ff_R (fd_r a r) n ls) (hk : k < n) (hn : n ≤ 5) (hok : fl_ok (ls k))
    (H0 : ∀ fc' mo' pr' lc' a' g' m' pv' pw', (∀ q, q < 4 → fd_r a' q = fd_r a q) → post (-1001) (fc', mo', pr', lc', dc, a', g', m', pv', pw', a6))
    (H1 : ∀ fc' mo' pr' lc' a' g' m' pv' pw' e, (∀ q, q < 4 → q ≠ d → fd_r a' q = fd_r a q) → fd_r a' d = ls k → rg_r (ls k) → e ≤ 5 → 1 ≤ e → zp_t e (ls k) → post (nI e) (fc', mo', pr', lc', dc, a', g', m', pv', pw', a6)) :
    wpX_factor post (fc, mo, pr, lc, dc, a, a2, a3, a4, a5, a6) (nI d) (nI r) (nI k) := by
  unfold wpX_factor
  dsimp only
  refine fd_isReg hd (br_f (by decide) (fd_isReg hr (br_f (by decide) (fd_findFactors hr hreg (fun mo' pr' lc' a' g' m' pv' pw' n' ls' h1 h2 h3 h4 h5 => ?_)))))
  dsimp only
  obtain ⟨e1, e2⟩ := ff_R_u hreg hR h2
  subst e1
  refine br_f (nI_pos (by omega)) (pk_lt k n (fun _ => ?_) (fun z => absurd z (by omega)))
  refine fd_loadFactor (k := k) (by omega) (fun b hb => ?_)
  dsimp only
  have b6 : fd_r b 6 = ls k := by rw [hb, fd_u_s, h3 k hk, ← e2 k hk]
  have fr : ∀ q, q < 4 → fd_r b q = fd_r a q := fun q hq => by rw [hb, fd_u_n (by omega)]; exact h1 q hq
  obtain ⟨t, t1, t2, t3, t4⟩ := hok
  refine fd_keep (d := d) (f := 6) (by omega) (by omega) (H0 _ _ _ _ b _ _ _ _ fr) (fun b' hb' z => ?_) (fun b' e hb' he z1 z2 z3 => ?_)
  · rw [b6] at z
    have := z t
    omega
  · rw [b6] at hb' z1 z2 z3
    have et : e = t := zp_t_u ⟨z1, z2⟩ ⟨by omega, t4⟩
    exact H1 _ _ _ _ b' _ _ _ _ e (fun q hq hqd => by rw [hb', fd_u_n hqd]; exact fr q hq) (by rw [hb', fd_u_s]) z3 he (by omega) ⟨z1, z2⟩
end
end
section
/-! what the factors of a register satisfy -/
theorem hd_pr {p : Nat} (h : p = 2 ∨ p = 3 ∨ p = 5 ∨ p = 7) : po_prime p := by
  rcases h with rfl | rfl | rfl | rfl
  · exact pm_two
  · exact pm_L_prime (k := 0) (by omega)
  · exact pm_L_prime (k := 1) (by omega)
  · exact pm_L_prime (k := 2) (by omega)
/-- the product of the first k values -/
def hd_p (ls : Nat → po_P) (x : Int) : Nat → Int
  | 0 => 1
  | k + 1 => hd_p ls x k * po_ev 6 (ls k) x
/-- degrees of a list of factors -/
def hd_D (d n : Nat) (ls : Nat → po_P) (dg : Nat → Nat) : Prop := (∀ j, j < n → 1 ≤ dg j ∧ zp_t (dg j) (ls j)) ∧ (∀ k, k ≤ n → zp_t (po_sd dg k) (po_prod ls k)) ∧ po_sd dg n = d
theorem hd_tp {ls : Nat → po_P} {dg : Nat → Nat} {n : Nat} (h : ∀ j, j < n → zp_t (dg j) (ls j)) : ∀ k, k ≤ n → zp_t (po_sd dg k) (po_prod ls k)
  | 0, _ => zp_t_C (by decide)
  | k + 1, hk => zp_t_mul (hd_tp h k (by omega)) (h k (by omega))
theorem hd_ex {f : po_P} {d n : Nat} {ls : Nat → po_P} (h1 : f d ≠ 0) (h2 : ∀ i, d < i → f i = 0) (hok : ff_ok f n ls) : ∃ dg, hd_D d n ls dg := by
  by_cases z : 1 ≤ d
  · obtain ⟨hp, hl⟩ := hok.2 ⟨d, z, h1⟩
    refine ⟨fun j => if h : j < n then Classical.choose (hl j h) else 0, ?_⟩
    have hj : ∀ j, j < n → 1 ≤ (if h : j < n then Classical.choose (hl j h) else 0) ∧ zp_t (if h : j < n then Classical.choose (hl j h) else 0) (ls j) := fun j hj => by
      have := Classical.choose_spec (hl j hj)
      rw [dif_pos hj]
      exact ⟨this.1, by omega, this.2.2.2⟩
    have tp := hd_tp (fun j h => (hj j h).2)
    refine ⟨hj, tp, ?_⟩
    obtain ⟨e, ne, _, e1, e2⟩ := fd_pp_n hp
    have : e = d := zp_t_u ⟨e1, e2⟩ ⟨h1, h2⟩
    rw [← this]
    exact zp_t_u (tp n (Nat.le_refl n)) (zp_n_t ne)
  · have n0 : n = 0 := hok.1 (fun i hi => h2 i (by omega))
    subst n0
    have d0 : d = 0 := by omega
    subst d0
    refine ⟨fun _ => 0, fun j hj => absurd hj (by omega), fun k hk => ?_, rfl⟩
    have k0 : k = 0 := by omega
    subst k0
    exact zp_t_C (by decide)
theorem hd_ev {d n : Nat} {ls : Nat → po_P} {dg : Nat → Nat} (h : hd_D d n ls dg) (hd : d ≤ 5) (x : Int) : ∀ k, k ≤ n → po_ev 20 (po_prod ls k) x = hd_p ls x k
  | 0, _ => by
    show po_ev 20 (po_C 1) x = 1
    rw [ev_ext x 1 19 (po_C 1) (fun i hi => by simp only [po_C]; rw [if_neg (by omega)])]
    simp [po_ev, po_C]
  | k + 1, hk => by
    have ih := hd_ev h hd x k (by omega)
    have t1 := h.2.1 k (by omega)
    have t2 := (h.1 k (by omega)).2
    have s1 : po_sd dg (k + 1) ≤ d := by rw [← h.2.2]; exact po_sd_le hk
    rw [po_sd] at s1
    show po_ev 20 (po_mul (po_prod ls k) (ls k)) x = hd_p ls x k * po_ev 6 (ls k) x
    rw [ev_mul (b := dg k + 1) (fun i hi => t2.2 i (by omega)) x (po_sd dg k + 1) 20 (po_prod ls k) (fun i hi => t1.2 i (by omega)) (by omega), ih, ← ev_ext x 6 14 (ls k) (fun i hi => t2.2 i (by omega))]
/-- the value of the register is, up to sign, content times the values of the factors -/
theorem hd_val {f : po_P} {d n : Nat} {ls : Nat → po_P} {dg : Nat → Nat} (hf : rg_r f) (h1 : f d ≠ 0) (h2 : ∀ i, d < i → f i = 0) (hok : ff_ok f n ls) (hD : hd_D d n ls dg) (hd : d ≤ 5) (x : Int) : (fd_ct f : Int) * hd_p ls x n = po_ev 6 f x ∨ (fd_ct f : Int) * hd_p ls x n = - po_ev 6 f x := by
  by_cases z : 1 ≤ d
  · obtain ⟨⟨c, c0, c1, c2, _⟩, _⟩ := hok.2 ⟨d, z, h1⟩
    have e1 : po_ev 6 f x = c * hd_p ls x n := by
      rw [← hd_ev hD hd x n (Nat.le_refl n), ← ev_sc, ← ev_ext x 6 14 f (fun i hi => (hf i).2.2 hi)]
      congr 1
      funext i
      exact c2 i
    rw [e1, ← c1]
    rcases Int.natAbs_eq c with y | y
    · left; rw [← y]
    · right
      have : (c.natAbs : Int) = - c := by omega
      rw [this, Int.neg_mul]
  · have n0 : n = 0 := hok.1 (fun i hi => h2 i (by omega))
    subst n0
    have e1 : po_ev 6 f x = f 0 := by
      rw [show (6 : Nat) = 1 + 5 from rfl, ev_ext x 1 5 f (fun i hi => h2 i (by omega))]
      simp [po_ev]
    rw [e1]
    have d0 : d = 0 := by omega
    subst d0
    have ct : fd_ct f = (f 0).natAbs := by
      have hz : ∀ i, 1 ≤ i → f i = 0 := fun i hi => h2 i (by omega)
      have : ∀ k, fd_cg f (k + 1) = (f 0).natAbs := by
        intro k
        induction k with
        | zero => simp [fd_cg]
        | succ k ih =>
          show Nat.gcd (fd_cg f (k + 1)) (f (k + 1)).natAbs = _
          rw [ih, hz (k + 1) (by omega), Int.natAbs_zero, Nat.gcd_zero_right]
      exact this 11
    show (fd_ct f : Int) * 1 = _ ∨ _ * 1 = _
    rw [ct]
    omega
theorem fk_0 {p : Int} {F : po_P} (h : po_fin p F) : fk_k p F 0 := ⟨fun _ => po_C 0, F, h, fun j hj => absurd hj (by omega), po_eq_e (zp_1m F).symm⟩
theorem ga_hk {R : Type} [Lean.Grind.CommRing R] {c w q m x F f : R} (h : F = f * q + m * x) (k : f = c * w) : F = w * (c * q) + m * x := by grind
theorem hd_fk {p : Nat} (hp : po_prime p) {f : po_P} {d n : Nat} {ls : Nat → po_P} {dg : Nat → Nat} (h1 : f d ≠ 0) (h2 : ∀ i, d < i → f i = 0) (hok : ff_ok f n ls) (hD : hd_D d n ls dg) (hpd : ¬ (p : Int) ∣ f d) : ∀ F, po_dv p f F → fk_k p F n := fun F hF => by
  obtain ⟨q, fq, e⟩ := hF
  have ff : po_fin p f := po_fin_0 (n := d + 1) (fun i hi => h2 i (by omega))
  have fF : po_fin p F := po_fin_eq (po_eq_s e) (po_fin_mul ff fq)
  by_cases z : 1 ≤ d
  · obtain ⟨⟨c, c0, c1, c2, _⟩, _⟩ := hok.2 ⟨d, z, h1⟩
    have lead : ∀ k, k ≤ n → ¬ (p : Int) ∣ po_prod ls k (po_sd dg k) → ∀ j, j < k → ¬ (p : Int) ∣ ls j (dg j) := by
      intro k
      induction k with
      | zero => intro _ _ j hj; omega
      | succ k ih =>
        intro hk hn j hj
        have t1 := hD.2.1 k (by omega)
        have t2 := (hD.1 k (by omega)).2
        have e : po_prod ls (k + 1) (po_sd dg (k + 1)) = po_prod ls k (po_sd dg k) * ls k (dg k) := (zp_top t1.2 t2.2).1
        rw [e] at hn
        by_cases y : j = k
        · subst y; exact fun w => hn (Int.dvd_mul_of_dvd_right w)
        · exact ih (by omega) (fun w => hn (Int.dvd_mul_of_dvd_left w)) j (by omega)
    have hl := lead n (Nat.le_refl n) (fun w => hpd (by rw [c2 d, ← hD.2.2]; exact Int.dvd_mul_of_dvd_right w))
    refine ⟨ls, po_mul (po_C c) q, po_fin_mul (po_fin_C _ _) fq, fun j hj => ⟨dg j, (hD.1 j hj).1, ⟨fun i hi => by rw [(hD.1 j hj).2.2 i (by omega)]; exact Int.dvd_zero _, hl j hj⟩⟩, ?_⟩
    obtain ⟨x, hx⟩ := po_eq_ex e
    have ef : f = po_mul (po_C c) (po_prod ls n) := by funext i; rw [po_mul_C]; exact c2 i
    exact po_ex_eq (@ga_hk po_P po_ring _ _ _ _ _ _ _ hx ef)
  · have n0 : n = 0 := hok.1 (fun i hi => h2 i (by omega))
    subst n0
    exact fk_0 fF
end
section
/-! the walk of holds -/
theorem hd_rem : ∀ t : Nat, t < 41 → ∀ p : Nat, p < 8 → 2 ≤ p → ((p : Int) ∣ (t : Int) - 20) → (Int32.ofInt ((t : Int) - 20)) - (Int32.ofInt ((t : Int) - 20)) / nI p * nI p = 0 := by decide +kernel
theorem hd_rm {c : Int32} {p : Nat} (h1 : -20 ≤ c.toInt ∧ c.toInt ≤ 20) (hp : p < 8) (hp2 : 2 ≤ p) (h : (p : Int) ∣ c.toInt) : c - c / nI p * nI p = 0 := by
  have := hd_rem (c.toInt + 20).toNat (by omega) p hp hp2 (by rw [show (((c.toInt + 20).toNat : Nat) : Int) - 20 = c.toInt by omega]; exact h)
  rw [show (((c.toInt + 20).toNat : Nat) : Int) - 20 = c.toInt by omega, Int32.ofInt_toInt] at this
  exact this
theorem hd_n1 : ∀ e, e < 6 → ¬ nI e = -1001 := by decide +kernel
theorem hd_n0 : ∀ p, p < 8 → 2 ≤ p → ¬ nI p = 0 := by decide +kernel
section
variable {fc lc : Int32} {a2 : Nat → Int32} {a3 : Nat → Int64} {a4 a5 : Nat → Int32}
theorem fd_h163 {post : Int32 → St1 → Prop} {a : Nat → Int64} {r d n : Nat} (hr : r < 4) (h0 : rg_I a) (hd : d ≤ 5) (hn : n ≤ 5) (hk : ∀ p : Nat, (p = 2 ∨ p = 3 ∨ p = 5 ∨ p = 7) → ¬ (p : Int) ∣ fd_r a r d → ∀ F, po_dv p (fd_r a r) F → fk_k p F n)
    (H : ∀ mo' pr' dc' a' a6', rg_I a' → post 1 (fc, mo', pr', lc, dc', a', a2, a3, a4, a5, a6')) :
    ∀ (fu p : Nat) (mo pr : Int64) (dc : Int32) (b : Nat → Int64) (a6 : Nat → Int32), fu + p = 9 → 2 ≤ p → p ≤ 8 → (∀ q, q < 4 → fd_r b q = fd_r a q) → wL_holds_163 post (nI r) (nI d) (nI n) fu (nI p) fc mo pr lc dc b a2 a3 a4 a5 a6 := by
  intro fu
  induction fu with
  | zero => intro p mo pr dc b a6 h1 h2 h3; omega
  | succ fu ih =>
    intro p mo pr dc b a6 h1 h2 h3 hb
    refine pk_le 8 p (fun z => H mo pr dc b a6 (rg_fr h0 hb)) (fun z => pk_eq p 4 (fun w => nm_r (nI_1 p) (ih (p + 1) mo pr dc b a6 (by omega) (by omega) (by omega) hb)) (fun w => pk_eq p 6 (fun y => nm_r (nI_1 p) (ih (p + 1) mo pr dc b a6 (by omega) (by omega) (by omega) hb)) (fun y => ?_)))
    have hps : p = 2 ∨ p = 3 ∨ p = 5 ∨ p = 7 := by omega
    have br := hb r hr
    have hreg : rg_r (fd_r b r) := by rw [br]; exact h0 r hr
    have hp := hd_pr hps
    by_cases pd : (p : Int) ∣ fd_r a r d
    · refine fd_factorsModulo (k0 := 0) hr hp hps hreg (fun _ F hF => ?_) (fun m b' mo' pr' dc' a6' fr hm => ?_)
      · obtain ⟨q, fq, e⟩ := hF
        exact fk_0 (po_fin_eq (po_eq_s e) (po_fin_mul (fd_r_fin _ _ _) fq))
      · dsimp only
        refine fd_get' hr (by omega) (by rw [fr r hr]; exact hreg) (fun c hc => ⟨hd_n0 p z h2, br_t ?_ (nm_r (nI_1 p) (ih (p + 1) mo' pr' dc' b' a6' (by omega) (by omega) (by omega) (fun q hq => by rw [fr q hq]; exact hb q hq)))⟩)
        rw [fr r hr, br] at hc
        have := h0 r hr d
        exact hd_rm (by omega) z h2 (by rw [hc]; exact pd)
    · refine fd_factorsModulo (k0 := n) hr hp hps hreg (fun _ F hF => by rw [br] at hF; exact hk p hps pd F hF) (fun m b' mo' pr' dc' a6' fr hm => ?_)
      dsimp only
      obtain ⟨c', rfl, m2, m3⟩ := hm ⟨d, by rw [br]; exact pd⟩
      have nx := fun (y : Int32) (hy : y = nI p + 1) => nm_r (P := fun y => wL_holds_163 post (nI r) (nI d) (nI n) fu y fc mo' pr' lc dc' b' a2 a3 a4 a5 a6') (nI_1 p) (ih (p + 1) mo' pr' dc' b' a6' (by omega) (by omega) (by omega) (fun q hq => by rw [fr q hq]; exact hb q hq)) y hy
      exact fd_get' hr (by omega) (by rw [fr r hr]; exact hreg) (fun c hc => ⟨hd_n0 p z h2, br_c (fun _ => nx) (fun _ => pk_le n c' (fun _ => nx) (fun w => absurd w (by omega)))⟩)
end
section
variable {lc dc : Int32} {a6 : Nat → Int32}
theorem fd_h53 {post : Int32 → St1 → Prop} {a : Nat → Int64} {r d n : Nat} {x : Int32} {ls : Nat → po_P} {dg : Nat → Nat} (hr : r < 3) (h0 : rg_I a) (h1 : fd_r a r d ≠ 0) (h2 : ∀ i, d < i → fd_r a r i = 0) (hd : d ≤ 5) (hn : n ≤ 5) (hx : -12 ≤ x.toInt ∧ x.toInt ≤ 12) (hR : ff_R (fd_r a r) n ls) (hok : ff_ok (fd_r a r) n ls) (hD : hd_D d n ls dg)
    (H : ∀ fc' mo' pr' lc' dc' a' g' m' pv' pw' a6', rg_I a' → post 1 (fc', mo', pr', lc', dc', a', g', m', pv', pw', a6')) :
    ∀ (fu k s : Nat) (big : Int32) (x5 : Int64) (fc : Int32) (mo pr : Int64) (lc : Int32) (b : Nat → Int64) (a2 : Nat → Int32) (a3 : Nat → Int64) (a4 a5 : Nat → Int32), fu + k = n + 1 → k ≤ n → (∀ q, q < 3 → fd_r b q = fd_r a q) → rg_I b → s ≤ 5 * k → (big = 0 → s = po_sd dg k ∧ x5 = Int64.ofInt ((fd_ct (fd_r a r) : Int) * hd_p ls x.toInt k)) → wL_holds_53 post (nI r) x (nI d) (nI n) fu x5 (nI s) big (nI k) fc mo pr lc dc b a2 a3 a4 a5 a6 := by
  intro fu
  induction fu with
  | zero => intro k s big x5 fc mo pr lc b a2 a3 a4 a5 e1 e2; omega
  | succ fu ih =>
    intro k s big x5 fc mo pr lc b a2 a3 a4 a5 e1 e2 hb hI hs hbig
    have br := hb r hr
    have dpos : 1 ≤ n → 1 ≤ d := fun z => by
      have := (hD.1 0 (by omega)).1
      have l1 : po_sd dg 1 ≤ po_sd dg n := po_sd_le z
      have l2 : po_sd dg 1 = 0 + dg 0 := rfl
      rw [hD.2.2] at l1
      omega
    refine pk_le n k (fun z => ?_) (fun z => ?_)
    · have kn : k = n := by omega
      subst kn
      have fin : ∃ fu163 : Nat, wL_holds_163 post (nI r) (nI d) (nI k) fu163 2 fc mo pr lc dc b a2 a3 a4 a5 a6 := ⟨7, fd_h163 (by omega) hI hd hn (fun p hps hpd F hF => by
        rw [br] at hpd hF
        exact hd_fk (hd_pr hps) h1 h2 hok hD hpd F hF) (fun mo' pr' dc' a' a6' h => H _ _ _ _ _ a' _ _ _ _ _ h) 7 2 mo pr dc b a6 (by omega) (by omega) (by omega) (fun _ _ => rfl)⟩
      refine fd_at (r := r) (by omega) (by rw [br]; exact h0 r (by omega)) hx (fun v hv => ?_)
      rw [br] at hv
      refine br_c (fun b0 => ?_) (fun _ => fin)
      obtain ⟨s1, s2⟩ := hbig b0
      rw [hD.2.2] at s1
      refine pk_eq s d (fun _ => ?_) (fun w => absurd s1 w)
      have ev : v = Int64.ofInt (po_ev 6 (fd_r a r) x.toInt) := by rw [← hv, Int64.ofInt_toInt]
      rcases hd_val (h0 r (by omega)) h1 h2 hok hD hd x.toInt with y | y
      · exact br_t (by rw [s2, y, ev]) fin
      · exact br_c (fun _ => fin) (fun _ => br_t (by rw [s2, y, ev, Int64.ofInt_neg]) fin)
    · have d1 := dpos (by omega)
      have okk : fl_ok (ls k) := (hok.2 ⟨d, d1, h1⟩).2 k z
      refine fd_factor (d := 3) (k := k) (n := n) (ls := ls) (by omega) (by omega) (by rw [br]; exact h0 r (by omega)) (by rw [br]; exact hR) z hn okk (fun fc' mo' pr' lc' b' g' m' pv' pw' fr => ?_) (fun fc' mo' pr' lc' b' g' m' pv' pw' e fr f3 hrg he5 he1 het => ?_)
      · dsimp only
        refine br_t rfl (nm_r (nI_1 k) (ih (k + 1) s 1 x5 fc' mo' pr' lc' b' g' m' pv' pw' (by omega) (by omega) (fun q hq => by rw [fr q (by omega)]; exact hb q hq) (rg_fr hI fr) (by omega) (fun w => absurd w (by decide))))
      · dsimp only
        have ed : e = dg k := zp_t_u het (hD.1 k z).2
        have ed2 : e ≤ d := by
          have l1 : po_sd dg (k + 1) ≤ po_sd dg n := po_sd_le (by omega)
          rw [po_sd, hD.2.2] at l1
          omega
        have hI' : rg_I b' := fun q hq => by
          by_cases w : q = 3
          · subst w; rw [f3]; exact hrg
          · rw [fr q hq w]; exact hI q hq
        refine br_f (hd_n1 e (by omega)) (pk_lt e 1 (fun w => absurd w (by omega)) (fun _ => pk_le e d (fun _ => nm_r (nI_add s e) ?_) (fun w => absurd w (by omega))))
        refine fd_at (r := 3) (by omega) (hI' 3 (by omega)) hx (fun v hv => nm_e (nm_r (nI_1 k) (ih (k + 1) (s + e) big (x5 * v) fc' mo' pr' lc' b' g' m' pv' pw' (by omega) (by omega) (fun q hq => by rw [fr q (by omega) (by omega)]; exact hb q hq) hI' (by omega) (fun w => ?_))))
        obtain ⟨s1, s2⟩ := hbig w
        refine ⟨by rw [po_sd, s1, ed], ?_⟩
        rw [f3] at hv
        have ev : v = Int64.ofInt (po_ev 6 (ls k) x.toInt) := by rw [← hv, Int64.ofInt_toInt]
        rw [s2, ev, ← Int64.ofInt_mul, hd_p, Int.mul_assoc]
theorem fd_degree {post : Int32 → Prop} {fc : Int32} {mo pr : Int64} {a : Nat → Int64} {a2 : Nat → Int32} {a3 : Nat → Int64} {a4 a5 : Nat → Int32} {r : Nat} (hr : r < 4) (H0 : (∀ i, fd_r a r i = 0) → post (-1)) (H1 : ∀ d, d < 12 → fd_r a r d ≠ 0 → (∀ i, d < i → fd_r a r i = 0) → post (nI d)) : wpX_degree post (fc, mo, pr, lc, dc, a, a2, a3, a4, a5, a6) (nI r) := by
  unfold wpX_degree
  dsimp only
  exact fd_isReg hr (br_f (by decide) (fd_degreeOf (by omega) H0 H1))
theorem fd_holds {post : Int32 → St1 → Prop} {fc : Int32} {mo pr : Int64} {a : Nat → Int64} {a2 : Nat → Int32} {a3 : Nat → Int64} {a4 a5 : Nat → Int32} {r : Nat} {x : Int32} (hr : r < 3) (h0 : rg_I a) (hx : -12 ≤ x.toInt ∧ x.toInt ≤ 12)
    (H : ∀ fc' mo' pr' lc' dc' a' g' m' pv' pw' a6', rg_I a' → post 1 (fc', mo', pr', lc', dc', a', g', m', pv', pw', a6')) :
    wpL_holds post (fc, mo, pr, lc, dc, a, a2, a3, a4, a5, a6) (nI r) x := by
  unfold wpL_holds
  dsimp only
  have hreg := h0 r (by omega)
  refine fd_degree (by omega) (fun z => ?_) (fun d hd h1 h2 => ?_)
  · refine fd_factors (by omega) hreg (fun mo' pr' lc' b g' m' pv' pw' n ls fr hR hn hok => ?_)
    dsimp only
    have n0 : n = 0 := hok.1 (fun i _ => z i)
    subst n0
    refine br_f (by decide) (br_t rfl (fd_content (by omega) (by rw [fr r (by omega)]; exact hreg) (fun c hc => br_t ?_ (H _ _ _ _ _ b _ _ _ _ _ (rg_fr h0 fr)))))
    rw [fr r (by omega)] at hc
    have : fd_ct (fd_r a r) = 0 := by
      have : ∀ k, fd_cg (fd_r a r) k = 0 := by
        intro k
        induction k with
        | zero => rfl
        | succ k ih => show Nat.gcd (fd_cg (fd_r a r) k) (fd_r a r k).natAbs = 0; rw [ih, z k]; rfl
      exact this 12
    rw [this] at hc
    exact Int32.toInt_inj.mp hc
  · have d5 : d ≤ 5 := Classical.byContradiction (fun w => h1 ((hreg d).2.2 (by omega)))
    refine fd_factors (by omega) hreg (fun mo' pr' lc' b g' m' pv' pw' n ls fr hR hn hok => ?_)
    dsimp only
    obtain ⟨dg, hD⟩ := hd_ex h1 h2 hok
    refine br_t (nI_pos' (by omega)) (fd_content (by omega) (by rw [fr r (by omega)]; exact hreg) (fun c hc => ⟨n + 1, ?_⟩))
    rw [fr r (by omega)] at hc
    refine fd_h53 (a := a) hr h0 h1 h2 d5 hn hx hR hok hD H (n + 1) 0 0 0 c.toInt64 (nI n) mo' pr' lc' b g' m' pv' pw' (by omega) (by omega) (fun q hq => fr q (by omega)) (rg_fr h0 fr) (by omega) (fun _ => ⟨rfl, ?_⟩)
    have : c.toInt64.toInt = (fd_ct (fd_r a r) : Int) := by rw [Int32.toInt_toInt64, hc]
    rw [hd_p, Int.mul_one, ← this, Int64.ofInt_toInt]
end
end
section
/-! the law -/
theorem hd_13 (y : Int32) : -12 ≤ (y - y / 13 * 13).toInt ∧ (y - y / 13 * 13).toInt ≤ 12 := by
  have h13 : (13 : Int32).toInt = 13 := rfl
  have hy := y.toInt_lt
  have hy2 := y.le_toInt
  have k1 := Int.mul_tdiv_add_tmod y.toInt 13
  have k2 := Int.tmod_lt_of_pos y.toInt (show (0 : Int) < 13 by omega)
  have k3 := Int.lt_tmod_of_pos y.toInt (show (0 : Int) < 13 by omega)
  have e1 : (y / 13).toInt = y.toInt.tdiv 13 := by
    rw [Int32.toInt_div, h13, Int.bmod_def]; omega
  have e3 : (y - y / 13 * 13).toInt = y.toInt.tmod 13 := by
    rw [Int32.toInt_sub, Int32.toInt_mul, e1, h13, Int.bmod_def, Int.bmod_def, Int.mul_comm (y.toInt.tdiv 13) 13]
    generalize y.toInt.tdiv 13 = t at *
    generalize y.toInt.tmod 13 = m at *
    clear e1 h13
    omega
  rw [e3]; omega
theorem hd_m (x : Int32) {d : Nat} (h0 : 0 < d) (hd : d < 1000) : ∃ r, r < d ∧ (x &&& 255) - (x &&& 255) / nI d * nI d = nI r := by
  obtain ⟨j, hj, e⟩ := pk_andE x (m := 255) 8 rfl
  rw [e, pk_rem (by omega) h0 (by omega)]
  exact ⟨j % d, Nat.mod_lt _ h0, rfl⟩
theorem hd_lt {L k : Nat} (hL : L ≤ 260) (hk : k ≤ 1000) : ((Int32.ofNat L) - 3 < nI k) ↔ L < k + 3 := by
  have e1 : (Int32.ofNat L).toInt = (L : Int) := nI_toInt (n := L) (by omega)
  have e2 : (nI k).toInt = (k : Int) := nI_toInt (by omega)
  have e3 : (3 : Int32).toInt = 3 := rfl
  rw [Int32.lt_iff_toInt_lt, Int32.toInt_sub, e1, e2, e3, Int.bmod_def]
  omega
theorem rg_init : rg_I (fun _ => 0) := fun r _ i => by
  have : fd_r (fun _ => 0) r i = 0 := by
    simp only [fd_r]
    split <;> rfl
  rw [this]; omega
section
variable {fc lc dc : Int32} {mo pr : Int64} {a2 : Nat → Int32} {a3 : Nat → Int64} {a4 a5 a6 : Nat → Int32}
theorem fd_l203 {L kc ks r k : Nat} {xs : Nat → Int32} {x4 : Int32} {a : Nat → Int64} {J : Int32 → Int32 → Int64 → Int64 → Int32 → Int32 → (Nat → Int64) → (Nat → Int32) → (Nat → Int64) → (Nat → Int32) → (Nat → Int32) → (Nat → Int32) → Prop} (hr : r < 3) (h0 : rg_I a)
    (H : ∀ fc' mo' pr' lc' dc' a' g' m' pv' pw' a6', rg_I a' → J (nI (k + 3)) fc' mo' pr' lc' dc' a' g' m' pv' pw' a6') :
    wL_law_203 (fun r => r = 1) L xs J (nI k) x4 (nI r) kc ks fc mo pr lc dc a a2 a3 a4 a5 a6 :=
  ⟨by decide, fd_holds hr h0 (hd_13 _) (fun fc' mo' pr' lc' dc' a' g' m' pv' pw' a6' h => br_f (by decide) (nm_r (show nI k + 3 = nI (k + 3) from nI_add k 3) (H fc' mo' pr' lc' dc' a' g' m' pv' pw' a6' h)))⟩
end
theorem fd_l10 {L kc ks : Nat} {xs : Nat → Int32} (hL : L ≤ 260) : ∀ (f k : Nat) (fc : Int32) (mo pr : Int64) (lc dc : Int32) (a : Nat → Int64) (a2 : Nat → Int32) (a3 : Nat → Int64) (a4 a5 a6 : Nat → Int32), f + k = L / 3 + 1 → k ≤ L / 3 → rg_I a → wL_law_10 (fun r => r = 1) L xs kc ks f (nI (3 * k)) fc mo pr lc dc a a2 a3 a4 a5 a6 := by
  intro f
  induction f with
  | zero => intro k fc mo pr lc dc a a2 a3 a4 a5 a6 h1 h2; omega
  | succ f ih =>
    intro k fc mo pr lc dc a a2 a3 a4 a5 a6 h1 h2 h0
    by_cases z : L < 3 * k + 3
    · refine br_t ((hd_lt hL (by omega)).mpr z) ?_
      refine fd_holds (r := 0) (by omega) h0 (by decide) (fun _ _ _ _ _ _ _ _ _ _ _ i1 => br_f (by decide) ?_)
      refine fd_holds (r := 1) (by omega) i1 (by decide) (fun _ _ _ _ _ _ _ _ _ _ _ i2 => br_f (by decide) ?_)
      exact fd_holds (r := 2) (by omega) i2 (by decide) (fun _ _ _ _ _ _ _ _ _ _ _ _ => br_f (by decide) rfl)
    · have ih' : ∀ fc' mo' pr' lc' dc' a' g' m' pv' pw' a6', rg_I a' → wL_law_10 (fun r => r = 1) L xs kc ks f (nI (3 * k + 3)) fc' mo' pr' lc' dc' a' g' m' pv' pw' a6' := fun fc' mo' pr' lc' dc' a' g' m' pv' pw' a6' h => ih (k + 1) fc' mo' pr' lc' dc' a' g' m' pv' pw' a6' (by omega) (by omega) h
      refine br_f (fun w => z ((hd_lt hL (by omega)).mp w)) ⟨pk_in (3 * k + 1) L (by omega) (nI_1 _), fun x3 _ => ⟨pk_in (3 * k + 2) L (by omega) (show nI (3 * k) + 2 = nI (3 * k + 2) from nI_add (3 * k) 2), fun x4 _ => ⟨by decide, fun x5 h5 => ⟨by decide, fun x6 h6 => ⟨by decide, fun x7 h7 => ⟨pk_in (3 * k) L (by omega) rfl, fun kk hk => ?_⟩⟩⟩⟩⟩⟩
      obtain ⟨r, r3, e5⟩ := hd_m x3 (d := 3) (by omega) (by omega)
      obtain ⟨s, s3, e6⟩ := hd_m (x3 >>> ((8 : Int32) &&& 31)) (d := 3) (by omega) (by omega)
      obtain ⟨t, t3, e7⟩ := hd_m (x3 >>> ((16 : Int32) &&& 31)) (d := 3) (by omega) (by omega)
      have e5' : x5 = nI r := h5.trans e5
      have e6' : x6 = nI s := h6.trans e6
      have e7' : x7 = nI t := h7.trans e7
      subst e5' e6' e7'
      obtain ⟨j, hj, ej⟩ := pk_andE (xs (nI (3 * k)).toNatClampNeg) (m := 7) 3 rfl
      have ek : kk = nI j := hk.trans ej
      subst ek
      have hset : ¬ (4 : Int32) = 0 ∧ (¬ (8 : Int32) = 0 ∧ (wpX_set (fun _ u => match u with | (q0, q1, q2, q3, q4, b1, b2, b3, b4, b5, b6) => (wL_law_203 (fun r => r = 1) L xs (wL_law_10 (fun r => r = 1) L xs kc ks f) (nI (3 * k)) x4 (nI r) kc ks q0 q1 q2 q3 q4 b1 b2 b3 b4 b5 b6)) (fc, mo, pr, lc, dc, a, a2, a3, a4, a5, a6) (nI r) ((x4 &&& 255) - (x4 &&& 255) / 4 * 4) ((x4 >>> ((8 : Int32) &&& 31)) - (x4 >>> ((8 : Int32) &&& 31)) / 8 * 8))) := by
        refine ⟨by decide, by decide, ?_⟩
        obtain ⟨i, i4, ei⟩ := hd_m x4 (d := 4) (by omega) (by omega)
        have ei' : (x4 &&& 255) - (x4 &&& 255) / 4 * 4 = nI i := ei
        rw [ei']
        exact fd_set (by omega) (by omega) h0 (fun _ a' h => fd_l203 r3 h ih')
      refine br_f (nI_pos (by omega)) (pk_lt 3 j (fun _ => hset) (fun w => ?_))
      refine pk_eq j 0 (fun _ => ⟨by decide, ?_⟩) (fun _ => pk_eq j 1 (fun _ => ?_) (fun _ => pk_eq j 2 (fun _ => ⟨by decide, ?_⟩) (fun _ => pk_eq j 3 (fun _ => ?_) (fun _ => trivial))))
      · obtain ⟨i, i6, ei⟩ := hd_m x4 (d := 6) (by omega) (by omega)
        have ei' : (x4 &&& 255) - (x4 &&& 255) / 6 * 6 = nI i := ei
        rw [ei']
        exact fd_apply i6 (by omega) (by omega) (by omega) h0 (fun _ _ _ a' h => fd_l203 r3 h ih')
      · exact fd_apply (o := 2) (by omega) (by omega) (by omega) (by omega) h0 (fun _ _ _ a' h => fd_l203 r3 h ih')
      · exact fd_shift (by omega) (by omega) h0 (fun _ a' h => fd_l203 r3 h ih')
      · exact br_c (fun _ => fd_derive (by omega) (by omega) h0 (fun _ a' h => fd_l203 r3 h ih')) (fun _ => fd_l203 r3 h0 ih')
theorem i_vc (xs : Nat → Int32) (L : Nat) (hL : L ≤ 260) : wpL_law (fun r => r = 1) L xs := by
  refine ⟨6, 389, by omega, by omega, ?_⟩
  refine ⟨by omega, by omega, by omega, by omega, by omega, by omega, by omega, by omega, by omega, by omega, by omega, by omega, ?_⟩
  exact ⟨L / 3 + 1, fd_l10 hL (L / 3 + 1) 0 0 0 0 0 0 _ _ _ _ _ _ (by omega) (by omega) rg_init⟩
end
