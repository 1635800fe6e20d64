section
theorem pk_us {f : Nat → Int32} {k : Nat} {x : Int32} : upd f k x k = x := if_pos rfl
theorem pk_un {f : Nat → Int32} {k j : Nat} {x : Int32} (h : j ≠ k) : upd f k x j = f j := if_neg h
theorem pk_sub {a b : Nat} (h : b ≤ a) : nI a - nI b = nI (a - b) := by
  obtain ⟨c, rfl⟩ : ∃ c, a = c + b := ⟨a - b, by omega⟩
  rw [← nI_add, Int32.add_sub_cancel, Nat.add_sub_cancel]
theorem pk_m1 (n : Nat) : nI (n + 1) + (-1) = nI n := by
  rw [← nI_1, Int32.add_assoc, show (1 : Int32) + (-1) = 0 from rfl, Int32.add_zero]
theorem pk_mul (a b : Nat) : nI a * nI b = nI (a * b) := (Int32.ofNat_mul a b).symm
theorem pk_div {a d : Nat} (ha : a < 2 ^ 31) (h0 : 0 < d) (hd : d < 2 ^ 31) : nI a / nI d = nI (a / d) := by
  apply Int32.toInt_inj.mp
  rw [lg_idiv_nonneg (by rw [nI_toInt ha]; omega) (by rw [nI_toInt hd]; omega), nI_toInt ha, nI_toInt hd, nI_toInt (Nat.lt_of_le_of_lt (Nat.div_le_self a d) ha)]
  first | rfl | exact (Int.natCast_ediv _ _).symm
theorem pk_rem {a d : Nat} (ha : a < 2 ^ 31) (h0 : 0 < d) (hd : d < 2 ^ 31) : nI a - nI a / nI d * nI d = nI (a % d) := by
  rw [pk_div ha h0 hd, pk_mul, pk_sub (Nat.div_mul_le_self a d)]
  exact congrArg nI (by have := Nat.div_add_mod' a d; omega)
theorem pk_sub_toInt {a b : Nat} (ha : a < 2 ^ 30) (hb : b < 2 ^ 30) : (nI a - nI b).toInt = (a : Int) - b := by
  rw [Int32.toInt_sub, nI_toInt (by omega), nI_toInt (by omega)]
  exact Int.bmod_eq_of_le (by omega) (by omega)
theorem pk_ix (x : Int32) {n : Nat} (hn : n < 2 ^ 31) : x < 0 ∨ nI n ≤ x ∨ ∃ j : Nat, j < n ∧ x = nI j := by
  by_cases h : x < 0
  · exact Or.inl h
  · obtain ⟨j, hj, rfl⟩ := nI_of h
    by_cases h2 : j < n
    · exact Or.inr (Or.inr ⟨j, h2, rfl⟩)
    · exact Or.inr (Or.inl (nI_le (by omega) hj))
theorem pk_le {x y : Int32} {A B : Prop} (a b : Nat) (f : a ≤ b → A) (g : b < a → B) (hx : x = nI a := by rfl) (hy : y = nI b := by rfl) (ha : a < 2 ^ 31 := by omega) (hb : b < 2 ^ 31 := by omega) : (x ≤ y → A) ∧ (¬ x ≤ y → B) := by
  subst hx hy
  rw [nI_leI ha hb]
  exact ⟨f, fun z => g (by omega)⟩
theorem pk_lt {x y : Int32} {A B : Prop} (a b : Nat) (f : a < b → A) (g : b ≤ a → B) (hx : x = nI a := by rfl) (hy : y = nI b := by rfl) (ha : a < 2 ^ 31 := by omega) (hb : b < 2 ^ 31 := by omega) : (x < y → A) ∧ (¬ x < y → B) := by
  subst hx hy
  rw [nI_ltI ha hb]
  exact ⟨f, fun z => g (by omega)⟩
theorem pk_eq {x y : Int32} {A B : Prop} (a b : Nat) (f : a = b → A) (g : a ≠ b → B) (hx : x = nI a := by rfl) (hy : y = nI b := by rfl) (ha : a < 2 ^ 31 := by omega) (hb : b < 2 ^ 31 := by omega) : (x = y → A) ∧ (¬ x = y → B) := by
  subst hx hy
  rw [nI_eq ha hb]
  exact ⟨f, g⟩
theorem pk_in {x : Int32} (n N : Nat) (h : n < N) (hx : x = nI n := by rfl) (hN : N < 2 ^ 31 := by omega) : vp_in x N := by
  subst hx
  exact vp_in_nI h hN
theorem pk_cl {x : Int32} (n : Nat) (hx : x = nI n := by rfl) (h : n < 2 ^ 31 := by omega) : x.toNatClampNeg = n := by
  subst hx
  exact nI_clamp h
theorem pk_tn {n : Nat} (h : n < 2 ^ 32) : (nI n).toBitVec.toNat = n := Nat.mod_eq_of_lt h
theorem pk_and (x : Int32) {m : Int32} (k : Nat) (hm : m.toBitVec.toNat = 2 ^ k - 1) : x &&& m = nI (x.toBitVec.toNat % 2 ^ k) := by
  apply Int32.toBitVec_inj.mp
  apply BitVec.eq_of_toNat_eq
  rw [Int32.toBitVec_and, BitVec.toNat_and, hm, Nat.and_two_pow_sub_one_eq_mod]
  show _ = (BitVec.ofNat 32 _).toNat
  rw [BitVec.toNat_ofNat]
  exact (Nat.mod_eq_of_lt (Nat.lt_of_le_of_lt (Nat.mod_le _ _) x.toBitVec.isLt)).symm
theorem pk_andE (x : Int32) {m : Int32} (k : Nat) (hm : m.toBitVec.toNat = 2 ^ k - 1) : ∃ j : Nat, j < 2 ^ k ∧ x &&& m = nI j := ⟨_, Nat.mod_lt _ (Nat.two_pow_pos k), pk_and x k hm⟩
end
section
/-! sums of Ints, the total of an assignment, what prepare keeps -/
def wc_hc (c : Int32) : Int := if c = 99 then 1000000 else c.toInt
def wc_sm (f : Nat → Int) : Nat → Int
  | 0 => 0
  | n + 1 => wc_sm f n + f n
theorem wc_sm_s (f : Nat → Int) (n : Nat) : wc_sm f (n + 1) = wc_sm f n + f n := rfl
theorem wc_sm_z (f : Nat → Int) : wc_sm f 0 = 0 := rfl
theorem wc_sm_c {f g : Nat → Int} {n : Nat} (h : ∀ i, i < n → f i = g i) : wc_sm f n = wc_sm g n := by
  induction n with
  | zero => rfl
  | succ n ih => rw [wc_sm_s, wc_sm_s, ih (fun i hi => h i (by omega)), h n (by omega)]
theorem wc_sm_0 {f : Nat → Int} {n : Nat} (h : ∀ i, i < n → 0 ≤ f i) : 0 ≤ wc_sm f n := by
  induction n with
  | zero => exact Int.le_refl 0
  | succ n ih =>
    have a := ih (fun i hi => h i (by omega))
    have b := h n (by omega)
    rw [wc_sm_s]; omega
theorem wc_sm_d {f g : Nat → Int} {m n : Nat} (hm : m ≤ n) (h : ∀ i, m ≤ i → i < n → f i ≤ g i) : wc_sm f n - wc_sm f m ≤ wc_sm g n - wc_sm g m := by
  induction n with
  | zero =>
    obtain rfl : m = 0 := by omega
    simp only [wc_sm_z]; omega
  | succ n ih =>
    rcases Nat.lt_or_ge n m with z | z
    · obtain rfl : m = n + 1 := by omega
      omega
    · have a := ih z (fun i h1 h2 => h i h1 (by omega))
      have b := h n z (by omega)
      rw [wc_sm_s, wc_sm_s]; omega
theorem wc_sm_le {f g : Nat → Int} {n : Nat} (h : ∀ i, i < n → f i ≤ g i) : wc_sm f n ≤ wc_sm g n := by
  have a := wc_sm_d (f := f) (g := g) (Nat.zero_le n) (fun i _ hi => h i hi)
  simp only [wc_sm_z] at a; omega
theorem wc_sm_b {f : Nat → Int} {c : Int} {n : Nat} (h : ∀ i, i < n → f i ≤ c) : wc_sm f n ≤ c * (n : Int) := by
  induction n with
  | zero => simp [wc_sm_z]
  | succ n ih =>
    have a := ih (fun i hi => h i (by omega))
    have b := h n (by omega)
    have e : c * ((n + 1 : Nat) : Int) = c * (n : Int) + c := by
      rw [Int.natCast_add, Int.mul_add]; simp
    rw [wc_sm_s, e]; omega
theorem wc_sm_t {f : Nat → Int} {n j : Nat} (h : ∀ i, i < n → 0 ≤ f i) (hj : j < n) : f j ≤ wc_sm f n := by
  induction n with
  | zero => omega
  | succ n ih =>
    have b := h n (by omega)
    rw [wc_sm_s]
    rcases Nat.lt_or_ge j n with z | z
    · have a := ih (fun i hi => h i (by omega)) z
      omega
    · obtain rfl : j = n := by omega
      have a := wc_sm_0 (f := f) (n := j) (fun i hi => h i (by omega))
      omega
theorem wc_sm_1 {f g : Nat → Int} {n j : Nat} (hj : j < n) (h : ∀ i, i < n → i ≠ j → f i = g i) : wc_sm f n + g j = wc_sm g n + f j := by
  induction n with
  | zero => omega
  | succ n ih =>
    rw [wc_sm_s, wc_sm_s]
    rcases Nat.lt_or_ge j n with z | z
    · have a := ih z (fun i hi => h i (by omega))
      have b := h n (by omega) (by omega)
      omega
    · obtain rfl : j = n := by omega
      have a := wc_sm_c (f := f) (g := g) (n := j) (fun i hi => h i (by omega) (by omega))
      omega
theorem wc_sm_2 {f g : Nat → Int} {n i j : Nat} (hi : i < n) (hj : j < n) (hij : i ≠ j) (h : ∀ k, k < n → k ≠ i → k ≠ j → f k = g k) : wc_sm f n + g i + g j = wc_sm g n + f i + f j := by
  have A := wc_sm_1 (f := f) (g := fun k => if k = i then f i else g k) (n := n) (j := j) hj (by
    intro k hk hkj
    by_cases e : k = i
    · subst e; simp
    · simp only [if_neg e]; exact h k hk e hkj)
  have B := wc_sm_1 (f := fun k => if k = i then f i else g k) (g := g) (n := n) (j := i) hi (by
    intro k hk hki
    simp only [if_neg hki])
  have e1 : (if j = i then f i else g j) = g j := if_neg (fun z => hij z.symm)
  have e2 : (if i = i then f i else g i) = f i := if_pos rfl
  try dsimp only at A B
  rw [e1] at A
  rw [e2] at B
  omega
def wc_Z (s p : Nat → Int) (g : Nat → Nat) (j w b : Nat) : Int := s (3 * w + b) + wc_sm (fun i => p ((6 * i + w) * 9 + 3 * g i + b)) j
def wc_T (s p : Nat → Int) (g : Nat → Nat) (n : Nat) : Int := wc_sm (fun w => wc_Z s p g w w (g w)) n
theorem wc_T_s (s p : Nat → Int) (g : Nat → Nat) (n : Nat) : wc_T s p g (n + 1) = wc_T s p g n + wc_Z s p g n n (g n) := rfl
theorem wc_Z_s (s p : Nat → Int) (g : Nat → Nat) (j w b : Nat) : wc_Z s p g (j + 1) w b = wc_Z s p g j w b + p ((6 * j + w) * 9 + 3 * g j + b) := by
  unfold wc_Z; rw [wc_sm_s]; omega
theorem wc_Z_c {s p : Nat → Int} {g g' : Nat → Nat} {j w b : Nat} (h : ∀ i, i < j → g i = g' i) : wc_Z s p g j w b = wc_Z s p g' j w b := by
  unfold wc_Z
  rw [wc_sm_c (g := fun i => p ((6 * i + w) * 9 + 3 * g' i + b)) (fun i hi => by rw [h i hi])]
theorem wc_T_c {s p : Nat → Int} {g g' : Nat → Nat} {n : Nat} (h : ∀ i, i < n → g i = g' i) : wc_T s p g n = wc_T s p g' n := by
  unfold wc_T
  refine wc_sm_c (fun w hw => ?_)
  try dsimp only
  rw [h w hw]
  exact wc_Z_c (fun i hi => h i (by omega))
def wc_tI (a : Nat → Int32) : Nat → Int := fun i => (a i).toInt
def wc_Gd (n d : Nat) (T0 : (Nat → Nat) → Int) (fl : Int32) (s p : Nat → Int32) : Prop :=
  0 ≤ fl.toInt ∧ (∀ v a, v < n → a < d → 0 ≤ (s (3 * v + a)).toInt) ∧ (∀ u v a b, u < v → v < n → a < d → b < d → 0 ≤ (p ((6 * u + v) * 9 + 3 * a + b)).toInt) ∧ (∀ g : Nat → Nat, (∀ w, w < n → g w < d) → fl.toInt + wc_T (wc_tI s) (wc_tI p) g n = T0 g)
theorem wc_Zn {n d : Nat} {s p : Nat → Int32} (h1 : ∀ v a, v < n → a < d → 0 ≤ (s (3 * v + a)).toInt) (h2 : ∀ u v a b, u < v → v < n → a < d → b < d → 0 ≤ (p ((6 * u + v) * 9 + 3 * a + b)).toInt) {g : Nat → Nat} (hg : ∀ w, w < n → g w < d) {j w b : Nat} (hw : w < n) (hj : j ≤ w) (hb : b < d) : 0 ≤ wc_Z (wc_tI s) (wc_tI p) g j w b := by
  unfold wc_Z
  have a := h1 w b hw hb
  have c := wc_sm_0 (f := fun i => wc_tI p ((6 * i + w) * 9 + 3 * g i + b)) (n := j) (fun i hi => h2 i w (g i) b (by omega) hw (hg i (by omega)) hb)
  have e : wc_tI s (3 * w + b) = (s (3 * w + b)).toInt := rfl
  omega
theorem wc_Gd_bd {n d : Nat} {T0 : (Nat → Nat) → Int} {fl : Int32} {s p : Nat → Int32} (hd : 0 < d) (hT : ∀ g : Nat → Nat, (∀ w, w < n → g w < d) → T0 g ≤ 42000000) (G : wc_Gd n d T0 fl s p) : fl.toInt ≤ 42000000 ∧ (∀ v a, v < n → a < d → (s (3 * v + a)).toInt ≤ 42000000) ∧ (∀ u v a b, u < v → v < n → a < d → b < d → (p ((6 * u + v) * 9 + 3 * a + b)).toInt ≤ 42000000) := by
  obtain ⟨G1, G2, G3, G4⟩ := G
  have nn : ∀ g : Nat → Nat, (∀ w, w < n → g w < d) → ∀ w, w < n → 0 ≤ wc_Z (wc_tI s) (wc_tI p) g w w (g w) :=
    fun g hg w hw => wc_Zn G2 G3 hg hw (Nat.le_refl w) (hg w hw)
  refine ⟨?_, ?_, ?_⟩
  · have a := G4 (fun _ => 0) (fun _ _ => hd)
    have b := hT (fun _ => 0) (fun _ _ => hd)
    have c : 0 ≤ wc_T (wc_tI s) (wc_tI p) (fun _ => 0) n := wc_sm_0 (nn (fun _ => 0) (fun _ _ => hd))
    omega
  · intro v x hv hx
    have hg : ∀ w, w < n → (fun w => if w = v then x else 0) w < d := by
      intro w hw
      by_cases e : w = v
      · simp only [if_pos e]; exact hx
      · simp only [if_neg e]; exact hd
    have ev : (fun w => if w = v then x else 0) v = x := if_pos rfl
    have a := G4 _ hg
    have b := hT _ hg
    have c : wc_Z (wc_tI s) (wc_tI p) (fun w => if w = v then x else 0) v v ((fun w => if w = v then x else 0) v) ≤ wc_T (wc_tI s) (wc_tI p) (fun w => if w = v then x else 0) n := wc_sm_t (f := fun w => wc_Z (wc_tI s) (wc_tI p) (fun w => if w = v then x else 0) w w ((fun w => if w = v then x else 0) w)) (nn _ hg) hv
    rw [ev] at c
    have e := wc_sm_0 (f := fun i => wc_tI p ((6 * i + v) * 9 + 3 * (fun w => if w = v then x else 0) i + x)) (n := v) (fun i hi => G3 i v _ x hi hv (hg i (by omega)) hx)
    unfold wc_Z at c
    have e1 : wc_tI s (3 * v + x) = (s (3 * v + x)).toInt := rfl
    omega
  · intro u v x y huv hv hx hy
    have hg : ∀ w, w < n → (fun w => if w = u then x else if w = v then y else 0) w < d := by
      intro w hw
      by_cases e : w = u
      · simp only [if_pos e]; exact hx
      · simp only [if_neg e]
        by_cases e2 : w = v
        · simp only [if_pos e2]; exact hy
        · simp only [if_neg e2]; exact hd
    have eu : (fun w => if w = u then x else if w = v then y else 0) u = x := if_pos rfl
    have ev : (fun w => if w = u then x else if w = v then y else 0) v = y := by
      have z : ¬ v = u := by omega
      simp only [if_neg z, if_pos]
    have a := G4 _ hg
    have b := hT _ hg
    have c : wc_Z (wc_tI s) (wc_tI p) (fun w => if w = u then x else if w = v then y else 0) v v ((fun w => if w = u then x else if w = v then y else 0) v) ≤ wc_T (wc_tI s) (wc_tI p) (fun w => if w = u then x else if w = v then y else 0) n := wc_sm_t (f := fun w => wc_Z (wc_tI s) (wc_tI p) (fun w => if w = u then x else if w = v then y else 0) w w ((fun w => if w = u then x else if w = v then y else 0) w)) (nn _ hg) hv
    rw [ev] at c
    have e := wc_sm_t (f := fun i => wc_tI p ((6 * i + v) * 9 + 3 * (fun w => if w = u then x else if w = v then y else 0) i + y)) (n := v) (j := u) (fun i hi => G3 i v _ y hi hv (hg i (by omega)) hy) huv
    try dsimp only at e
    rw [if_pos rfl] at e
    unfold wc_Z at c
    have e1 : wc_tI s (3 * v + y) = (s (3 * v + y)).toInt := rfl
    have e2 := G2 v y hv hy
    have e3 : wc_tI p ((6 * u + v) * 9 + 3 * x + y) = (p ((6 * u + v) * 9 + 3 * x + y)).toInt := rfl
    try dsimp only at c
    omega
theorem wc_ix {u v a i w x b d : Nat} (hv : v < 6) (hw : w < 6) (ha : a < 3) (hx : x < 3) (hb : b < 3) (hd : d ≤ 3) (h : (6 * u + v) * 9 + 3 * a ≤ (6 * i + w) * 9 + 3 * x + b) (h' : (6 * i + w) * 9 + 3 * x + b < (6 * u + v) * 9 + 3 * a + d) : i = u ∧ w = v ∧ x = a := by
  have e1 : i = u := by omega
  have e2 : w = v := by omega
  exact ⟨e1, e2, by omega⟩
end
section
/-! the three moves of prepare keep Gd -/
theorem wc_Gd_lower {n d : Nat} {T0 : (Nat → Nat) → Int} {fl m : Int32} {s p p' : Nat → Int32} {u v a : Nat} (hn : n ≤ 6) (hd : 0 < d) (hd3 : d ≤ 3) (hT : ∀ g : Nat → Nat, (∀ w, w < n → g w < d) → T0 g ≤ 42000000) (G : wc_Gd n d T0 fl s p) (huv : u < v) (hv : v < n) (ha : a < d) (hm0 : 0 ≤ m.toInt) (hm : ∀ b, b < d → m.toInt ≤ (p ((6 * u + v) * 9 + 3 * a + b)).toInt) (hp1 : ∀ b, b < d → p' ((6 * u + v) * 9 + 3 * a + b) = p ((6 * u + v) * 9 + 3 * a + b) - m) (hp2 : ∀ i, (i < (6 * u + v) * 9 + 3 * a ∨ (6 * u + v) * 9 + 3 * a + d ≤ i) → p' i = p i) : wc_Gd n d T0 fl (upd s (3 * u + a) (s (3 * u + a) + m)) p' := by
  obtain ⟨B1, B2, B3⟩ := wc_Gd_bd hd hT G
  obtain ⟨G1, G2, G3, G4⟩ := G
  have mb : m.toInt ≤ 42000000 := Int.le_trans (hm 0 hd) (B3 u v a 0 huv hv ha hd)
  have eP : ∀ b, b < d → (p' ((6 * u + v) * 9 + 3 * a + b)).toInt = (p ((6 * u + v) * 9 + 3 * a + b)).toInt - m.toInt := by
    intro b hb
    have h1 := G3 u v a b huv hv ha hb
    have h2 := B3 u v a b huv hv ha hb
    rw [hp1 b hb, Jvm.Kit.i32_sub (by omega) (by omega)]
  have s1 := G2 u a (by omega) ha
  have s2 := B2 u a (by omega) ha
  have eS : (s (3 * u + a) + m).toInt = (s (3 * u + a)).toInt + m.toInt := Jvm.Kit.i32_add (by omega) (by omega)
  have hP : ∀ i w x b, i < w → w < n → x < d → b < d → (i ≠ u ∨ w ≠ v ∨ x ≠ a) → p' ((6 * i + w) * 9 + 3 * x + b) = p ((6 * i + w) * 9 + 3 * x + b) := by
    intro i w x b hi hw hx hb hne
    refine hp2 _ ?_
    rcases Nat.lt_or_ge ((6 * i + w) * 9 + 3 * x + b) ((6 * u + v) * 9 + 3 * a) with z | z
    · exact Or.inl z
    · rcases Nat.lt_or_ge ((6 * i + w) * 9 + 3 * x + b) ((6 * u + v) * 9 + 3 * a + d) with y | y
      · have q := wc_ix (by omega) (by omega) (by omega) (by omega) (by omega) hd3 z y
        omega
      · exact Or.inr y
  have hS : ∀ w x, w < n → x < d → (w ≠ u ∨ x ≠ a) → upd s (3 * u + a) (s (3 * u + a) + m) (3 * w + x) = s (3 * w + x) := by
    intro w x hw hx hne
    exact pk_un (by omega)
  refine ⟨G1, ?_, ?_, ?_⟩
  · intro w x hw hx
    by_cases e : w = u ∧ x = a
    · obtain ⟨rfl, rfl⟩ := e
      rw [pk_us, eS]; omega
    · rw [hS w x hw hx (by omega)]; exact G2 w x hw hx
  · intro i w x b hi hw hx hb
    by_cases e : i = u ∧ w = v ∧ x = a
    · obtain ⟨rfl, rfl, rfl⟩ := e
      have h1 := hm b hb
      rw [eP b hb]; omega
    · rw [hP i w x b hi hw hx hb (by omega)]; exact G3 i w x b hi hw hx hb
  · intro g hg
    rw [← G4 g hg]
    have key : wc_T (wc_tI (upd s (3 * u + a) (s (3 * u + a) + m))) (wc_tI p') g n = wc_T (wc_tI s) (wc_tI p) g n := by
      by_cases e : g u = a
      · have hu : wc_Z (wc_tI (upd s (3 * u + a) (s (3 * u + a) + m))) (wc_tI p') g u u (g u) = wc_Z (wc_tI s) (wc_tI p) g u u (g u) + m.toInt := by
          unfold wc_Z
          rw [wc_sm_c (g := fun i => wc_tI p ((6 * i + u) * 9 + 3 * g i + g u)) (fun i hi => by
            show (p' _).toInt = (p _).toInt
            rw [hP i u (g i) (g u) hi (by omega) (hg i (by omega)) (hg u (by omega)) (by omega)])]
          rw [e]
          have q : wc_tI (upd s (3 * u + a) (s (3 * u + a) + m)) (3 * u + a) = wc_tI s (3 * u + a) + m.toInt := by
            show (upd s (3 * u + a) (s (3 * u + a) + m) (3 * u + a)).toInt = _
            rw [pk_us, eS]; rfl
          rw [q]; omega
        have hvv : wc_Z (wc_tI (upd s (3 * u + a) (s (3 * u + a) + m))) (wc_tI p') g v v (g v) = wc_Z (wc_tI s) (wc_tI p) g v v (g v) - m.toInt := by
          unfold wc_Z
          have A := wc_sm_1 (f := fun i => wc_tI p' ((6 * i + v) * 9 + 3 * g i + g v)) (g := fun i => wc_tI p ((6 * i + v) * 9 + 3 * g i + g v)) (n := v) (j := u) huv (fun i hi hne => by
            show (p' _).toInt = (p _).toInt
            rw [hP i v (g i) (g v) hi hv (hg i (by omega)) (hg v hv) (Or.inl hne)])
          try dsimp only at A
          rw [e] at A
          have q : wc_tI p' ((6 * u + v) * 9 + 3 * a + g v) = wc_tI p ((6 * u + v) * 9 + 3 * a + g v) - m.toInt := eP (g v) (hg v hv)
          have q2 : wc_tI (upd s (3 * u + a) (s (3 * u + a) + m)) (3 * v + g v) = wc_tI s (3 * v + g v) := by
            show (upd s (3 * u + a) (s (3 * u + a) + m) (3 * v + g v)).toInt = _
            rw [hS v (g v) hv (hg v hv) (Or.inl (by omega))]; rfl
          rw [q2]; omega
        have A := wc_sm_2 (f := fun w => wc_Z (wc_tI (upd s (3 * u + a) (s (3 * u + a) + m))) (wc_tI p') g w w (g w)) (g := fun w => wc_Z (wc_tI s) (wc_tI p) g w w (g w)) (n := n) (i := u) (j := v) (by omega) hv (by omega) (fun w hw h1 h2 => by
          try dsimp only
          unfold wc_Z
          rw [wc_sm_c (g := fun i => wc_tI p ((6 * i + w) * 9 + 3 * g i + g w)) (fun i hi => by
            show (p' _).toInt = (p _).toInt
            rw [hP i w (g i) (g w) hi hw (hg i (by omega)) (hg w hw) (Or.inr (Or.inl h2))])]
          have q2 : wc_tI (upd s (3 * u + a) (s (3 * u + a) + m)) (3 * w + g w) = wc_tI s (3 * w + g w) := by
            show (upd s (3 * u + a) (s (3 * u + a) + m) (3 * w + g w)).toInt = _
            rw [hS w (g w) hw (hg w hw) (Or.inl h1)]; rfl
          rw [q2])
        try dsimp only at A
        rw [hu, hvv] at A
        unfold wc_T
        omega
      · refine wc_sm_c (fun w hw => ?_)
        try dsimp only
        unfold wc_Z
        have h1 : w ≠ u ∨ g w ≠ a := by
          by_cases z : w = u
          · subst z; exact Or.inr e
          · exact Or.inl z
        have q2 : wc_tI (upd s (3 * u + a) (s (3 * u + a) + m)) (3 * w + g w) = wc_tI s (3 * w + g w) := by
          show (upd s (3 * u + a) (s (3 * u + a) + m) (3 * w + g w)).toInt = _
          rw [hS w (g w) hw (hg w hw) h1]; rfl
        rw [q2]
        rw [wc_sm_c (g := fun i => wc_tI p ((6 * i + w) * 9 + 3 * g i + g w)) (fun i hi => by
          show (p' _).toInt = (p _).toInt
          have h2 : i ≠ u ∨ w ≠ v ∨ g i ≠ a := by
            by_cases z : i = u
            · subst z; exact Or.inr (Or.inr e)
            · exact Or.inl z
          rw [hP i w (g i) (g w) hi hw (hg i (by omega)) (hg w hw) h2])]
    rw [key]
theorem wc_Gd_raise {n d : Nat} {T0 : (Nat → Nat) → Int} {fl : Int32} {s p p' : Nat → Int32} {u v b : Nat} (hn : n ≤ 6) (hd : 0 < d) (hd3 : d ≤ 3) (hT : ∀ g : Nat → Nat, (∀ w, w < n → g w < d) → T0 g ≤ 42000000) (G : wc_Gd n d T0 fl s p) (huv : u < v) (hv : v < n) (hb : b < d) (hp1 : ∀ a, a < d → p' ((6 * u + v) * 9 + 3 * a + b) = p ((6 * u + v) * 9 + 3 * a + b) + s (3 * v + b)) (hp2 : ∀ i, (∀ a, a < d → i ≠ (6 * u + v) * 9 + 3 * a + b) → p' i = p i) : wc_Gd n d T0 fl (upd s (3 * v + b) 0) p' := by
  obtain ⟨B1, B2, B3⟩ := wc_Gd_bd hd hT G
  obtain ⟨G1, G2, G3, G4⟩ := G
  have s1 := G2 v b hv hb
  have s2 := B2 v b hv hb
  have eP : ∀ a, a < d → (p' ((6 * u + v) * 9 + 3 * a + b)).toInt = (p ((6 * u + v) * 9 + 3 * a + b)).toInt + (s (3 * v + b)).toInt := by
    intro a ha
    have h1 := G3 u v a b huv hv ha hb
    have h2 := B3 u v a b huv hv ha hb
    rw [hp1 a ha, Jvm.Kit.i32_add (by omega) (by omega)]
  have hP : ∀ i w x y, i < w → w < n → x < d → y < d → (i ≠ u ∨ w ≠ v ∨ y ≠ b) → p' ((6 * i + w) * 9 + 3 * x + y) = p ((6 * i + w) * 9 + 3 * x + y) := by
    intro i w x y hi hw hx hy hne
    refine hp2 _ (fun a ha e => ?_)
    have e1 : i = u := by omega
    have e2 : w = v := by omega
    omega
  have hS : ∀ w x, w < n → x < d → (w ≠ v ∨ x ≠ b) → upd s (3 * v + b) 0 (3 * w + x) = s (3 * w + x) := by
    intro w x hw hx hne
    exact pk_un (by omega)
  have z0 : (0 : Int32).toInt = 0 := by decide
  refine ⟨G1, ?_, ?_, ?_⟩
  · intro w x hw hx
    by_cases e : w = v ∧ x = b
    · obtain ⟨rfl, rfl⟩ := e
      rw [pk_us, z0]; omega
    · rw [hS w x hw hx (by omega)]; exact G2 w x hw hx
  · intro i w x y hi hw hx hy
    by_cases e : i = u ∧ w = v ∧ y = b
    · obtain ⟨rfl, rfl, rfl⟩ := e
      have h1 := G3 i w x y hi hw hx hy
      rw [eP x hx]; omega
    · rw [hP i w x y hi hw hx hy (by omega)]; exact G3 i w x y hi hw hx hy
  · intro g hg
    rw [← G4 g hg]
    have key : wc_T (wc_tI (upd s (3 * v + b) 0)) (wc_tI p') g n = wc_T (wc_tI s) (wc_tI p) g n := by
      refine wc_sm_c (fun w hw => ?_)
      try dsimp only
      unfold wc_Z
      by_cases e : w = v ∧ g w = b
      · obtain ⟨rfl, e⟩ := e
        have A := wc_sm_1 (f := fun i => wc_tI p' ((6 * i + w) * 9 + 3 * g i + g w)) (g := fun i => wc_tI p ((6 * i + w) * 9 + 3 * g i + g w)) (n := w) (j := u) huv (fun i hi hne => by
            show (p' _).toInt = (p _).toInt
            rw [hP i w (g i) (g w) hi hv (hg i (by omega)) (hg w hv) (Or.inl hne)])
        try dsimp only at A
        rw [e] at A ⊢
        have q : wc_tI p' ((6 * u + w) * 9 + 3 * g u + b) = wc_tI p ((6 * u + w) * 9 + 3 * g u + b) + (s (3 * w + b)).toInt := eP (g u) (hg u (by omega))
        have q2 : wc_tI (upd s (3 * w + b) 0) (3 * w + b) = 0 := by
          show (upd s (3 * w + b) 0 (3 * w + b)).toInt = _
          rw [pk_us, z0]
        have q3 : wc_tI s (3 * w + b) = (s (3 * w + b)).toInt := rfl
        rw [q2]; omega
      · have h1 : w ≠ v ∨ g w ≠ b := by
          by_cases z : w = v
          · exact Or.inr (fun y => e ⟨z, y⟩)
          · exact Or.inl z
        have q2 : wc_tI (upd s (3 * v + b) 0) (3 * w + g w) = wc_tI s (3 * w + g w) := by
          show (upd s (3 * v + b) 0 (3 * w + g w)).toInt = _
          rw [hS w (g w) hw (hg w hw) h1]; rfl
        rw [q2]
        rw [wc_sm_c (g := fun i => wc_tI p ((6 * i + w) * 9 + 3 * g i + g w)) (fun i hi => by
          show (p' _).toInt = (p _).toInt
          rw [hP i w (g i) (g w) hi hw (hg i (by omega)) (hg w hw) (Or.inr h1)])]
    rw [key]
theorem wc_Gd_sink {n d : Nat} {T0 : (Nat → Nat) → Int} {fl m : Int32} {s s' p : Nat → Int32} {v : Nat} (hn : n ≤ 6) (hd : 0 < d) (hd3 : d ≤ 3) (hT : ∀ g : Nat → Nat, (∀ w, w < n → g w < d) → T0 g ≤ 42000000) (G : wc_Gd n d T0 fl s p) (hv : v < n) (hm0 : 0 ≤ m.toInt) (hm : ∀ a, a < d → m.toInt ≤ (s (3 * v + a)).toInt) (hs1 : ∀ a, a < d → s' (3 * v + a) = s (3 * v + a) - m) (hs2 : ∀ i, (i < 3 * v ∨ 3 * v + d ≤ i) → s' i = s i) : wc_Gd n d T0 (fl + m) s' p := by
  obtain ⟨B1, B2, B3⟩ := wc_Gd_bd hd hT G
  obtain ⟨G1, G2, G3, G4⟩ := G
  have mb : m.toInt ≤ 42000000 := Int.le_trans (hm 0 hd) (B2 v 0 hv hd)
  have eS : ∀ a, a < d → (s' (3 * v + a)).toInt = (s (3 * v + a)).toInt - m.toInt := by
    intro a ha
    have h1 := G2 v a hv ha
    have h2 := B2 v a hv ha
    rw [hs1 a ha, Jvm.Kit.i32_sub (by omega) (by omega)]
  have eF : (fl + m).toInt = fl.toInt + m.toInt := Jvm.Kit.i32_add (by omega) (by omega)
  have hS : ∀ w x, w < n → x < d → w ≠ v → s' (3 * w + x) = s (3 * w + x) := by
    intro w x hw hx hne
    exact hs2 _ (by omega)
  refine ⟨by omega, ?_, G3, ?_⟩
  · intro w x hw hx
    by_cases e : w = v
    · subst e
      have h1 := hm x hx
      rw [eS x hx]; omega
    · rw [hS w x hw hx e]; exact G2 w x hw hx
  · intro g hg
    rw [← G4 g hg]
    have A := wc_sm_1 (f := fun w => wc_Z (wc_tI s') (wc_tI p) g w w (g w)) (g := fun w => wc_Z (wc_tI s) (wc_tI p) g w w (g w)) (n := n) (j := v) hv (fun w hw hne => by
      try dsimp only
      unfold wc_Z
      have q2 : wc_tI s' (3 * w + g w) = wc_tI s (3 * w + g w) := by
        show (s' (3 * w + g w)).toInt = _
        rw [hS w (g w) hw (hg w hw) hne]; rfl
      rw [q2])
    have B : wc_Z (wc_tI s') (wc_tI p) g v v (g v) = wc_Z (wc_tI s) (wc_tI p) g v v (g v) - m.toInt := by
      unfold wc_Z
      have q : wc_tI s' (3 * v + g v) = wc_tI s (3 * v + g v) - m.toInt := eS (g v) (hg v hv)
      rw [q]; omega
    try dsimp only at A
    rw [B] at A
    unfold wc_T
    rw [eF]; omega
end
section
/-! digits, masks, the cost of a number, least, first, count -/
def wc_dg (d n x j : Nat) : Nat := x / d ^ (n - 1 - j) % d
theorem wc_dg_lt {d : Nat} (hd : 0 < d) (n x j : Nat) : wc_dg d n x j < d := Nat.mod_lt _ hd
def wc_nu (d : Nat) (f : Nat → Nat) : Nat → Nat
  | 0 => 0
  | k + 1 => wc_nu d f k * d + f k
theorem wc_nu_s (d : Nat) (f : Nat → Nat) (k : Nat) : wc_nu d f (k + 1) = wc_nu d f k * d + f k := rfl
theorem wc_nu_c {d : Nat} {f f' : Nat → Nat} {k : Nat} (h : ∀ j, j < k → f j = f' j) : wc_nu d f k = wc_nu d f' k := by
  induction k with
  | zero => rfl
  | succ k ih => rw [wc_nu_s, wc_nu_s, ih (fun j hj => h j (by omega)), h k (by omega)]
theorem wc_nu_lt {d : Nat} {f : Nat → Nat} {k : Nat} (h : ∀ j, j < k → f j < d) : wc_nu d f k < d ^ k := by
  induction k with
  | zero => exact Nat.one_pos
  | succ k ih =>
    have a := ih (fun j hj => h j (by omega))
    have b := h k (by omega)
    have c : (wc_nu d f k + 1) * d ≤ d ^ k * d := Nat.mul_le_mul_right d a
    rw [Nat.succ_mul] at c
    rw [wc_nu_s, Nat.pow_succ]; omega
theorem wc_dg_nu {d n x : Nat} {f : Nat → Nat} (hd : 0 < d) : ∀ {k : Nat}, k ≤ n → (∀ j, j < k → f j < d) → x / d ^ (n - k) = wc_nu d f k → ∀ j, j < k → wc_dg d n x j = f j := by
  intro k
  induction k with
  | zero => intro _ _ _ j hj; omega
  | succ k ih =>
    intro hk hf hx
    have e1 : x / d ^ (n - (k + 1)) = wc_nu d f k * d + f k := hx
    have hk' := hf k (by omega)
    have e2 : x / d ^ (n - k) = wc_nu d f k := by
      have q : n - k = (n - (k + 1)) + 1 := by omega
      rw [q, Nat.pow_succ, ← Nat.div_div_eq_div_mul, e1, Nat.mul_comm, Nat.mul_add_div hd, Nat.div_eq_of_lt hk']
      omega
    intro j hj
    rcases Nat.lt_or_ge j k with z | z
    · exact ih (by omega) (fun j hj => hf j (by omega)) e2 j z
    · obtain rfl : j = k := by omega
      unfold wc_dg
      have q : n - 1 - j = n - (j + 1) := by omega
      rw [q, e1, Nat.mul_comm, Nat.mul_add_mod, Nat.mod_eq_of_lt hk']
def wc_in (m : Int32) (a : Nat) : Bool := decide (((m >>> (nI a &&& 31)) &&& 1) = 1)
theorem wc_in_t {m : Int32} {a : Nat} : wc_in m a = true ↔ ((m >>> (nI a &&& 31)) &&& 1) = 1 := decide_eq_true_iff
theorem wc_in_n {m : Int32} {a : Nat} : wc_in m a = false ↔ ¬ ((m >>> (nI a &&& 31)) &&& 1) = 1 := decide_eq_false_iff_not
theorem wc_and1 (x : Int32) : x &&& 1 = 0 ∨ x &&& 1 = 1 := by
  obtain ⟨j, hj, e⟩ := pk_andE x (m := 1) 1 (by decide)
  have h : j = 0 ∨ j = 1 := by omega
  rcases h with rfl | rfl
  · exact Or.inl e
  · exact Or.inr e
theorem wc_in_0 {m : Int32} {a : Nat} : wc_in m a = false ↔ ((m >>> (nI a &&& 31)) &&& 1) = 0 := by
  rw [wc_in_n]
  rcases wc_and1 (m >>> (nI a &&& 31)) with h | h
  · rw [h]; decide
  · rw [h]; decide
def wc_ok (mK : Nat → Int32) (g : Nat → Nat) : Nat → Bool
  | 0 => true
  | n + 1 => wc_ok mK g n && wc_in (mK n) (g n)
theorem wc_ok_s (mK : Nat → Int32) (g : Nat → Nat) (n : Nat) : wc_ok mK g (n + 1) = (wc_ok mK g n && wc_in (mK n) (g n)) := rfl
theorem wc_ok_iff {mK : Nat → Int32} {g : Nat → Nat} {n : Nat} : wc_ok mK g n = true ↔ ∀ w, w < n → wc_in (mK w) (g w) = true := by
  induction n with
  | zero => exact ⟨fun _ w hw => by omega, fun _ => rfl⟩
  | succ n ih =>
    rw [wc_ok_s, Bool.and_eq_true, ih]
    constructor
    · intro h w hw
      rcases Nat.lt_or_ge w n with z | z
      · exact h.1 w z
      · obtain rfl : w = n := by omega
        exact h.2
    · intro h
      exact ⟨fun w hw => h w (by omega), h n (by omega)⟩
def wc_tc (U B : Nat → Int32) (g : Nat → Nat) (n : Nat) : Int := wc_T (fun i => wc_hc (U i)) (fun i => wc_hc (B i)) g n
def wc_cv (n d : Nat) (mK U B : Nat → Int32) (x : Nat) : Int := if wc_ok mK (wc_dg d n x) n = true then wc_tc U B (wc_dg d n x) n else 1000000
def wc_CO (c : Int32) : Prop := (0 ≤ c.toInt ∧ c.toInt ≤ 40) ∨ c = 99
theorem wc_hc_b {c : Int32} (h : wc_CO c) : 0 ≤ wc_hc c ∧ wc_hc c ≤ 1000000 := by
  unfold wc_hc
  by_cases e : c = 99
  · rw [if_pos e]; omega
  · rw [if_neg e]
    rcases h with h | h
    · omega
    · exact absurd h e
theorem wc_hc_n {c : Int32} (h : wc_CO c) (e : ¬ c = 99) : wc_hc c = c.toInt ∧ 0 ≤ c.toInt ∧ c.toInt ≤ 40 := by
  unfold wc_hc
  rw [if_neg e]
  rcases h with h | h
  · exact ⟨rfl, h.1, h.2⟩
  · exact absurd h e
theorem wc_hc_99 : wc_hc 99 = 1000000 := if_pos rfl
def wc_In (n d : Nat) (U B : Nat → Int32) : Prop := (∀ v a, v < n → a < d → wc_CO (U (3 * v + a))) ∧ (∀ u v a b, u < v → v < n → a < d → b < d → wc_CO (B ((6 * u + v) * 9 + 3 * a + b)))
theorem wc_Zn' {n d : Nat} {s p : Nat → Int} (h1 : ∀ v a, v < n → a < d → 0 ≤ s (3 * v + a)) (h2 : ∀ u v a b, u < v → v < n → a < d → b < d → 0 ≤ p ((6 * u + v) * 9 + 3 * a + b)) {g : Nat → Nat} (hg : ∀ w, w < n → g w < d) {j w b : Nat} (hw : w < n) (hj : j ≤ w) (hb : b < d) : 0 ≤ wc_Z s p g j w b := by
  unfold wc_Z
  have a := h1 w b hw hb
  have c := wc_sm_0 (f := fun i => p ((6 * i + w) * 9 + 3 * g i + b)) (n := j) (fun i hi => h2 i w (g i) b (by omega) hw (hg i (by omega)) hb)
  omega
theorem wc_tc_0 {n d : Nat} {U B : Nat → Int32} (hI : wc_In n d U B) {g : Nat → Nat} (hg : ∀ w, w < n → g w < d) : 0 ≤ wc_tc U B g n :=
  wc_sm_0 (fun w hw => wc_Zn' (n := n) (d := d) (s := fun i => wc_hc (U i)) (p := fun i => wc_hc (B i)) (fun v a hv ha => (wc_hc_b (hI.1 v a hv ha)).1) (fun u v a b huv hv ha hb => (wc_hc_b (hI.2 u v a b huv hv ha hb)).1) hg hw (Nat.le_refl w) (hg w hw))
theorem wc_cv_0 {n d : Nat} {mK U B : Nat → Int32} (hI : wc_In n d U B) (hd : 0 < d) (x : Nat) : 0 ≤ wc_cv n d mK U B x := by
  unfold wc_cv
  by_cases e : wc_ok mK (wc_dg d n x) n = true
  · rw [if_pos e]; exact wc_tc_0 hI (fun w _ => wc_dg_lt hd n x w)
  · rw [if_neg e]; omega
theorem wc_T_bd {n d : Nat} {s p : Nat → Int} (hn : n ≤ 6) (h1 : ∀ v a, v < n → a < d → s (3 * v + a) ≤ 1000000) (h2 : ∀ u v a b, u < v → v < n → a < d → b < d → p ((6 * u + v) * 9 + 3 * a + b) ≤ 1000000) {g : Nat → Nat} (hg : ∀ w, w < n → g w < d) : wc_T s p g n ≤ 42000000 := by
  have h := wc_sm_b (f := fun w => wc_Z s p g w w (g w)) (c := 7000000) (n := n) (fun w hw => by
    try dsimp only
    unfold wc_Z
    have a := h1 w (g w) hw (hg w hw)
    have c := wc_sm_b (f := fun i => p ((6 * i + w) * 9 + 3 * g i + g w)) (c := 1000000) (n := w) (fun i hi => h2 i w (g i) (g w) hi hw (hg i (by omega)) (hg w hw))
    omega)
  unfold wc_T
  omega
def wc_mn (f : Nat → Int) : Nat → Int
  | 0 => 500000
  | x + 1 => if f x < wc_mn f x then f x else wc_mn f x
def wc_fb (f : Nat → Int) : Nat → Nat
  | 0 => 0
  | x + 1 => if f x < wc_mn f x then x else wc_fb f x
def wc_ct (f : Nat → Int) (c : Int) : Nat → Nat
  | 0 => 0
  | x + 1 => if f x < c then wc_ct f c x + 1 else wc_ct f c x
theorem wc_mn_t {f : Nat → Int} {x : Nat} (h : f x < wc_mn f x) : wc_mn f (x + 1) = f x := if_pos h
theorem wc_mn_f {f : Nat → Int} {x : Nat} (h : ¬ f x < wc_mn f x) : wc_mn f (x + 1) = wc_mn f x := if_neg h
theorem wc_fb_t {f : Nat → Int} {x : Nat} (h : f x < wc_mn f x) : wc_fb f (x + 1) = x := if_pos h
theorem wc_fb_f {f : Nat → Int} {x : Nat} (h : ¬ f x < wc_mn f x) : wc_fb f (x + 1) = wc_fb f x := if_neg h
theorem wc_ct_t {f : Nat → Int} {c : Int} {x : Nat} (h : f x < c) : wc_ct f c (x + 1) = wc_ct f c x + 1 := if_pos h
theorem wc_ct_f {f : Nat → Int} {c : Int} {x : Nat} (h : ¬ f x < c) : wc_ct f c (x + 1) = wc_ct f c x := if_neg h
theorem wc_mn_le (f : Nat → Int) : ∀ N, wc_mn f N ≤ 500000
  | 0 => Int.le_refl _
  | N + 1 => by
    have a := wc_mn_le f N
    by_cases h : f N < wc_mn f N
    · rw [wc_mn_t h]; omega
    · rw [wc_mn_f h]; exact a
theorem wc_mn_0 {f : Nat → Int} (h0 : ∀ x, 0 ≤ f x) : ∀ N, 0 ≤ wc_mn f N
  | 0 => by show (0 : Int) ≤ 500000; omega
  | N + 1 => by
    by_cases h : f N < wc_mn f N
    · rw [wc_mn_t h]; exact h0 N
    · rw [wc_mn_f h]; exact wc_mn_0 h0 N
theorem wc_mn_lb {f : Nat → Int} : ∀ {N x : Nat}, x < N → wc_mn f N ≤ f x
  | 0, x, hx => by omega
  | N + 1, x, hx => by
    by_cases h : f N < wc_mn f N
    · rw [wc_mn_t h]
      rcases Nat.lt_or_ge x N with z | z
      · have a := wc_mn_lb (f := f) z
        omega
      · obtain rfl : x = N := by omega
        omega
    · rw [wc_mn_f h]
      rcases Nat.lt_or_ge x N with z | z
      · exact wc_mn_lb (f := f) z
      · obtain rfl : x = N := by omega
        omega
theorem wc_mn_fb {f : Nat → Int} : ∀ {N : Nat}, wc_mn f N < 500000 → wc_fb f N < N ∧ f (wc_fb f N) = wc_mn f N ∧ ∀ y, y < wc_fb f N → wc_mn f N < f y
  | 0, h => by
    have e : wc_mn f 0 = 500000 := rfl
    omega
  | N + 1, hN => by
    by_cases h : f N < wc_mn f N
    · rw [wc_mn_t h, wc_fb_t h]
      refine ⟨by omega, rfl, fun y hy => ?_⟩
      have a := wc_mn_lb (f := f) hy
      omega
    · rw [wc_mn_f h] at hN ⊢
      rw [wc_fb_f h]
      obtain ⟨a, b, c⟩ := wc_mn_fb hN
      exact ⟨by omega, b, c⟩
theorem wc_ct_le (f : Nat → Int) (c : Int) : ∀ N, wc_ct f c N ≤ N
  | 0 => Nat.le_refl 0
  | N + 1 => by
    have a := wc_ct_le f c N
    by_cases h : f N < c
    · rw [wc_ct_t h]; omega
    · rw [wc_ct_f h]; omega
theorem wc_ct_c {f f' : Nat → Int} {c c' : Int} : ∀ {N : Nat}, (∀ x, x < N → (f x < c ↔ f' x < c')) → wc_ct f c N = wc_ct f' c' N
  | 0, _ => rfl
  | N + 1, h => by
    have a := wc_ct_c (f := f) (f' := f') (N := N) (fun x hx => h x (by omega))
    have b := h N (by omega)
    by_cases z : f N < c
    · rw [wc_ct_t z, wc_ct_t (b.mp z), a]
    · rw [wc_ct_f z, wc_ct_f (fun q => z (b.mpr q)), a]
theorem wc_mn_c {f f' : Nat → Int} : ∀ {N : Nat}, (∀ x, x < N → f x = f' x) → wc_mn f N = wc_mn f' N ∧ wc_fb f N = wc_fb f' N
  | 0, _ => ⟨rfl, rfl⟩
  | N + 1, h => by
    obtain ⟨a, b⟩ := wc_mn_c (f := f) (f' := f') (N := N) (fun x hx => h x (by omega))
    have c := h N (by omega)
    by_cases z : f N < wc_mn f N
    · have z' : f' N < wc_mn f' N := by omega
      rw [wc_mn_t z, wc_mn_t z', wc_fb_t z, wc_fb_t z']; exact ⟨c, rfl⟩
    · have z' : ¬ f' N < wc_mn f' N := by omega
      rw [wc_mn_f z, wc_mn_f z', wc_fb_f z, wc_fb_f z']; exact ⟨a, b⟩
end
section
/-! prepare: lower, raise, sink -/
theorem wc_i2 (u a : Nat) : (3 : Int32) * nI u + nI a = nI (3 * u + a) := by
  rw [show (3 : Int32) = nI 3 from rfl, pk_mul, nI_add]
theorem wc_i4 (u v a b : Nat) : ((6 : Int32) * nI u + nI v) * 9 + 3 * nI a + nI b = nI ((6 * u + v) * 9 + 3 * a + b) := by
  rw [show (3 : Int32) = nI 3 from rfl, show (6 : Int32) = nI 6 from rfl, show (9 : Int32) = nI 9 from rfl, pk_mul, pk_mul, nI_add, pk_mul, nI_add, nI_add]
theorem wc_i40 (u v a : Nat) : ((6 : Int32) * nI u + nI v) * 9 + 3 * nI a + 0 = nI ((6 * u + v) * 9 + 3 * a) := wc_i4 u v a 0
theorem wc_i1 (u : Nat) : (3 : Int32) * nI u = nI (3 * u) := by
  rw [show (3 : Int32) = nI 3 from rfl, pk_mul]
section
variable {n d : Nat} {fl cu ab cn cg oL oH oV oW : Int32} {tU tB tA mK sG pR eX rE vA fB : Nat → Int32}
theorem wc_lower81 {post : SX → Prop} {J : Int32 → (Nat → Int32) → (Nat → Int32) → (Nat → Int32) → (Nat → Int32) → (Nat → Int32) → (Nat → Int32) → (Nat → Int32) → (Nat → Int32) → (Nat → Int32) → (Nat → Int32) → Prop} {u v a ba : Nat} {m : Int32} {p : Nat → Int32} (hd3 : d ≤ 3) (hu : 3 * u + a < 18) (hba : ba + 3 ≤ 324) (hJ : ∀ p' : Nat → Int32, (∀ b, b < d → p' (ba + b) = p (ba + b) - m) → (∀ i, (i < ba ∨ ba + d ≤ i) → p' i = p i) → J (nI (a + 1)) tU tB tA mK (upd sG (3 * u + a) (sG (3 * u + a) + m)) p' eX rE vA fB) :
    ∀ (f j : Nat) (p' : Nat → Int32), j ≤ d → d - j < f → (∀ b, b < j → p' (ba + b) = p (ba + b) - m) → (∀ i, (i < ba ∨ ba + j ≤ i) → p' i = p i) → wX_lower_81 post J (nI u) (nI v) (nI a) (nI ba) m (nI n) (nI d) fl cu ab cn cg oL oH oV oW f (nI j) tU tB tA mK sG p' eX rE vA fB := by
  intro f
  induction f with
  | zero => intro j p' h1 h2; omega
  | succ f ih =>
    intro j p' h1 h2 h3 h4
    refine pk_le d j (fun h => ?_) (fun h => ?_)
    · obtain rfl : j = d := by omega
      refine ⟨pk_in (3 * u + a) 18 hu (wc_i2 u a), pk_in (3 * u + a) 18 hu (wc_i2 u a), fun y ey x ex => ?_⟩
      rw [wc_i2, nI_clamp (by omega)] at ey
      rw [nI_1] at ex
      subst ey ex
      exact hJ p' h3 h4
    · refine ⟨pk_in (ba + j) 324 (by omega) (nI_add ba j), pk_in (ba + j) 324 (by omega) (nI_add ba j), fun y ey x ex => ?_⟩
      rw [nI_add, nI_clamp (by omega)] at ey
      rw [nI_1] at ex
      subst ey ex
      refine ih (j + 1) _ (by omega) (by omega) ?_ ?_
      · intro b hb
        by_cases e : b = j
        · subst e; rw [pk_us, h4 (ba + b) (by omega)]
        · rw [pk_un (by omega)]; exact h3 b (by omega)
      · intro i hi
        rw [pk_un (by omega)]; exact h4 i (by omega)
theorem wc_lower31 {post : SX → Prop} {J : Int32 → (Nat → Int32) → (Nat → Int32) → (Nat → Int32) → (Nat → Int32) → (Nat → Int32) → (Nat → Int32) → (Nat → Int32) → (Nat → Int32) → (Nat → Int32) → (Nat → Int32) → Prop} {u v a ba : Nat} (hd3 : d ≤ 3) (hba : ba + 3 ≤ 324) (hK : ∀ m : Int32, (∀ b, b < d → m.toInt ≤ (pR (ba + b)).toInt) → (∃ b, b < d ∧ m = pR (ba + b)) → ∃ n81, wX_lower_81 post J (nI u) (nI v) (nI a) (nI ba) m (nI n) (nI d) fl cu ab cn cg oL oH oV oW n81 0 tU tB tA mK sG pR eX rE vA fB) :
    ∀ (f j : Nat) (m : Int32), j ≤ d → d - j < f → (∀ b, b < j → m.toInt ≤ (pR (ba + b)).toInt) → (∃ b, b < j ∧ m = pR (ba + b)) → wX_lower_31 post J (nI u) (nI v) (nI a) (nI ba) (nI n) (nI d) fl cu ab cn cg oL oH oV oW tU tB tA mK sG pR eX rE vA fB f m (nI j) := by
  intro f
  induction f with
  | zero => intro j m h1 h2; omega
  | succ f ih =>
    intro j m h1 h2 h3 h4
    refine pk_le d j (fun h => ?_) (fun h => ?_)
    · obtain rfl : j = d := by omega
      exact hK m h3 h4
    · refine ⟨pk_in (ba + j) 324 (by omega) (nI_add ba j), ?_⟩
      have e : (nI ba + nI j).toNatClampNeg = ba + j := by rw [nI_add, nI_clamp (by omega)]
      refine br_c (fun hm x ex => ?_) (fun hm => ⟨pk_in (ba + j) 324 (by omega) (nI_add ba j), fun y ey x ex => ?_⟩)
      · rw [e, Int32.le_iff_toInt_le] at hm
        rw [nI_1] at ex
        subst ex
        refine ih (j + 1) m (by omega) (by omega) ?_ ?_
        · intro b hb
          by_cases e : b = j
          · subst e; exact hm
          · exact h3 b (by omega)
        · obtain ⟨b, hb, eb⟩ := h4
          exact ⟨b, by omega, eb⟩
      · rw [e, Int32.le_iff_toInt_le] at hm
        rw [e] at ey
        rw [nI_1] at ex
        subst ex ey
        refine ih (j + 1) _ (by omega) (by omega) ?_ ?_
        · intro b hb
          by_cases e : b = j
          · subst e; exact Int.le_refl _
          · have q := h3 b (by omega)
            omega
        · exact ⟨j, by omega, rfl⟩
theorem wc_lower2 {post : SX → Prop} {T0 : (Nat → Nat) → Int} {u v : Nat} (hn : n ≤ 6) (hd : 1 < d) (hd3 : d ≤ 3) (hT : ∀ g : Nat → Nat, (∀ w, w < n → g w < d) → T0 g ≤ 42000000) (huv : u < v) (hv : v < n) (hpost : ∀ s p, wc_Gd n d T0 fl s p → post (nI n, nI d, fl, cu, ab, cn, cg, oL, oH, oV, oW, tU, tB, tA, mK, s, p, eX, rE, vA, fB)) :
    ∀ (f a : Nat) (s p : Nat → Int32), a ≤ d → d - a < f → wc_Gd n d T0 fl s p → wX_lower_2 post (nI u) (nI v) (nI n) (nI d) fl cu ab cn cg oL oH oV oW f (nI a) tU tB tA mK s p eX rE vA fB := by
  intro f
  induction f with
  | zero => intro a s p h1 h2; omega
  | succ f ih =>
    intro a s p h1 h2 G
    refine pk_le d a (fun h => ?_) (fun h => ?_)
    · exact hpost s p G
    · unfold wpX_cell
      rw [wc_i40]
      refine ⟨vp_in_nI (by omega) (by omega), fun y ey => ?_⟩
      rw [nI_clamp (by omega)] at ey
      subst ey
      refine ⟨d + 1, wc_lower31 hd3 (by omega) (fun m hm1 hm2 => ⟨d + 1, ?_⟩) (d + 1) 1 _ (by omega) (by omega) (fun b hb => ?_) ⟨0, by omega, rfl⟩⟩
      · refine wc_lower81 (p := p) hd3 (by omega) (by omega) (fun p' q1 q2 => ?_) (d + 1) 0 p (by omega) (by omega) (fun b hb => by omega) (fun i _ => rfl)
        refine ih (a + 1) _ _ (by omega) (by omega) ?_
        obtain ⟨b, hb, eb⟩ := hm2
        exact wc_Gd_lower hn (by omega) hd3 hT G huv hv h (by rw [eb]; exact G.2.2.1 u v a b huv hv h hb) hm1 q1 q2
      · obtain rfl : b = 0 := by omega
        exact Int.le_refl _
theorem wc_lower {post : SX → Prop} {T0 : (Nat → Nat) → Int} {u v : Nat} (hn : n ≤ 6) (hd : 1 < d) (hd3 : d ≤ 3) (hT : ∀ g : Nat → Nat, (∀ w, w < n → g w < d) → T0 g ≤ 42000000) (huv : u < v) (hv : v < n) (G : wc_Gd n d T0 fl sG pR) (hpost : ∀ s p, wc_Gd n d T0 fl s p → post (nI n, nI d, fl, cu, ab, cn, cg, oL, oH, oV, oW, tU, tB, tA, mK, s, p, eX, rE, vA, fB)) : wpX_lower post (nI n, nI d, fl, cu, ab, cn, cg, oL, oH, oV, oW, tU, tB, tA, mK, sG, pR, eX, rE, vA, fB) (nI u) (nI v) :=
  ⟨d + 1, wc_lower2 hn hd hd3 hT huv hv hpost (d + 1) 0 sG pR (by omega) (by omega) G⟩
theorem wc_raise25 {post : SX → Prop} {J : Int32 → (Nat → Int32) → (Nat → Int32) → (Nat → Int32) → (Nat → Int32) → (Nat → Int32) → (Nat → Int32) → (Nat → Int32) → (Nat → Int32) → (Nat → Int32) → (Nat → Int32) → Prop} {u v b : Nat} {m : Int32} {p : Nat → Int32} (hd3 : d ≤ 3) (hb : b < 3) (hv : v < 6) (hu : u < 6) (hJ : ∀ p' : Nat → Int32, (∀ a, a < d → p' ((6 * u + v) * 9 + 3 * a + b) = p ((6 * u + v) * 9 + 3 * a + b) + m) → (∀ i, (∀ a, a < d → i ≠ (6 * u + v) * 9 + 3 * a + b) → p' i = p i) → J (nI (b + 1)) tU tB tA mK (upd sG (3 * v + b) 0) p' eX rE vA fB) :
    ∀ (f j : Nat) (p' : Nat → Int32), j ≤ d → d - j < f → (∀ a, a < j → p' ((6 * u + v) * 9 + 3 * a + b) = p ((6 * u + v) * 9 + 3 * a + b) + m) → (∀ i, (∀ a, a < j → i ≠ (6 * u + v) * 9 + 3 * a + b) → p' i = p i) → wX_raise_25 post J (nI u) (nI v) (nI b) m (nI n) (nI d) fl cu ab cn cg oL oH oV oW f (nI j) tU tB tA mK sG p' eX rE vA fB := by
  intro f
  induction f with
  | zero => intro j p' h1 h2; omega
  | succ f ih =>
    intro j p' h1 h2 h3 h4
    refine pk_le d j (fun h => ?_) (fun h => ?_)
    · obtain rfl : j = d := by omega
      refine ⟨pk_in (3 * v + b) 18 (by omega) (wc_i2 v b), fun y ey x ex => ?_⟩
      rw [wc_i2, nI_clamp (by omega)] at ey
      rw [nI_1] at ex
      subst ey ex
      exact hJ p' h3 h4
    · refine ⟨pk_in ((6 * u + v) * 9 + 3 * j + b) 324 (by omega) (wc_i4 u v j b), pk_in ((6 * u + v) * 9 + 3 * j + b) 324 (by omega) (wc_i4 u v j b), fun y ey x ex => ?_⟩
      rw [wc_i4, nI_clamp (by omega)] at ey
      rw [nI_1] at ex
      subst ey ex
      refine ih (j + 1) _ (by omega) (by omega) ?_ ?_
      · intro a ha
        by_cases e : a = j
        · subst e; rw [pk_us, h4 _ (fun x hx => by omega)]
        · rw [pk_un (by omega)]; exact h3 a (by omega)
      · intro i hi
        rw [pk_un (hi j (by omega))]; exact h4 i (fun a ha => hi a (by omega))
theorem wc_raise2 {post : SX → Prop} {T0 : (Nat → Nat) → Int} {u v : Nat} (hn : n ≤ 6) (hd : 1 < d) (hd3 : d ≤ 3) (hT : ∀ g : Nat → Nat, (∀ w, w < n → g w < d) → T0 g ≤ 42000000) (huv : u < v) (hv : v < n) (hpost : ∀ s p, wc_Gd n d T0 fl s p → post (nI n, nI d, fl, cu, ab, cn, cg, oL, oH, oV, oW, tU, tB, tA, mK, s, p, eX, rE, vA, fB)) :
    ∀ (f b : Nat) (s p : Nat → Int32), b ≤ d → d - b < f → wc_Gd n d T0 fl s p → wX_raise_2 post (nI u) (nI v) (nI n) (nI d) fl cu ab cn cg oL oH oV oW f (nI b) tU tB tA mK s p eX rE vA fB := by
  intro f
  induction f with
  | zero => intro a s p h1 h2; omega
  | succ f ih =>
    intro b s p h1 h2 G
    refine pk_le d b (fun h => ?_) (fun h => ?_)
    · exact hpost s p G
    · refine ⟨pk_in (3 * v + b) 18 (by omega) (wc_i2 v b), fun y ey => ?_⟩
      rw [wc_i2, nI_clamp (by omega)] at ey
      subst ey
      refine ⟨d + 1, wc_raise25 (p := p) hd3 (by omega) (by omega) (by omega) (fun p' q1 q2 => ?_) (d + 1) 0 p (by omega) (by omega) (fun b hb => by omega) (fun i _ => rfl)⟩
      refine ih (b + 1) _ _ (by omega) (by omega) ?_
      exact wc_Gd_raise hn (by omega) hd3 hT G huv hv h q1 q2
theorem wc_raise {post : SX → Prop} {T0 : (Nat → Nat) → Int} {u v : Nat} (hn : n ≤ 6) (hd : 1 < d) (hd3 : d ≤ 3) (hT : ∀ g : Nat → Nat, (∀ w, w < n → g w < d) → T0 g ≤ 42000000) (huv : u < v) (hv : v < n) (G : wc_Gd n d T0 fl sG pR) (hpost : ∀ s p, wc_Gd n d T0 fl s p → post (nI n, nI d, fl, cu, ab, cn, cg, oL, oH, oV, oW, tU, tB, tA, mK, s, p, eX, rE, vA, fB)) : wpX_raise post (nI n, nI d, fl, cu, ab, cn, cg, oL, oH, oV, oW, tU, tB, tA, mK, sG, pR, eX, rE, vA, fB) (nI u) (nI v) :=
  ⟨d + 1, wc_raise2 hn hd hd3 hT huv hv hpost (d + 1) 0 sG pR (by omega) (by omega) G⟩
theorem wc_sink56 {post : SX → Prop} {v : Nat} {m : Int32} {s : Nat → Int32} (hd3 : d ≤ 3) (hv : v < 6) (hJ : ∀ s' : Nat → Int32, (∀ a, a < d → s' (3 * v + a) = s (3 * v + a) - m) → (∀ i, (i < 3 * v ∨ 3 * v + d ≤ i) → s' i = s i) → post (nI n, nI d, fl + m, cu, ab, cn, cg, oL, oH, oV, oW, tU, tB, tA, mK, s', pR, eX, rE, vA, fB)) :
    ∀ (f j : Nat) (s' : Nat → Int32), j ≤ d → d - j < f → (∀ a, a < j → s' (3 * v + a) = s (3 * v + a) - m) → (∀ i, (i < 3 * v ∨ 3 * v + j ≤ i) → s' i = s i) → wX_sink_56 post (nI v) m (nI n) (nI d) fl cu ab cn cg oL oH oV oW f (nI j) tU tB tA mK s' pR eX rE vA fB := by
  intro f
  induction f with
  | zero => intro j s' h1 h2; omega
  | succ f ih =>
    intro j s' h1 h2 h3 h4
    refine pk_le d j (fun h => ?_) (fun h => ?_)
    · obtain rfl : j = d := by omega
      intro y ey
      subst ey
      exact hJ s' h3 h4
    · refine ⟨pk_in (3 * v + j) 18 (by omega) (wc_i2 v j), pk_in (3 * v + j) 18 (by omega) (wc_i2 v j), fun y ey x ex => ?_⟩
      rw [wc_i2, nI_clamp (by omega)] at ey
      rw [nI_1] at ex
      subst ey ex
      refine ih (j + 1) _ (by omega) (by omega) ?_ ?_
      · intro b hb
        by_cases e : b = j
        · subst e; rw [pk_us, h4 (3 * v + b) (by omega)]
        · rw [pk_un (by omega)]; exact h3 b (by omega)
      · intro i hi
        rw [pk_un (by omega)]; exact h4 i (by omega)
theorem wc_sink11 {post : SX → Prop} {v : Nat} (hd3 : d ≤ 3) (hv : v < 6) (hK : ∀ m : Int32, (∀ b, b < d → m.toInt ≤ (sG (3 * v + b)).toInt) → (∃ b, b < d ∧ m = sG (3 * v + b)) → ∃ n56, wX_sink_56 post (nI v) m (nI n) (nI d) fl cu ab cn cg oL oH oV oW n56 0 tU tB tA mK sG pR eX rE vA fB) :
    ∀ (f j : Nat) (m : Int32), j ≤ d → d - j < f → (∀ b, b < j → m.toInt ≤ (sG (3 * v + b)).toInt) → (∃ b, b < j ∧ m = sG (3 * v + b)) → wX_sink_11 post (nI v) (nI n) (nI d) fl cu ab cn cg oL oH oV oW tU tB tA mK sG pR eX rE vA fB f m (nI j) := by
  intro f
  induction f with
  | zero => intro j m h1 h2; omega
  | succ f ih =>
    intro j m h1 h2 h3 h4
    refine pk_le d j (fun h => ?_) (fun h => ?_)
    · obtain rfl : j = d := by omega
      exact hK m h3 h4
    · refine ⟨pk_in (3 * v + j) 18 (by omega) (wc_i2 v j), ?_⟩
      have e : ((3 : Int32) * nI v + nI j).toNatClampNeg = 3 * v + j := by rw [wc_i2, nI_clamp (by omega)]
      refine br_c (fun hm x ex => ?_) (fun hm => ⟨pk_in (3 * v + j) 18 (by omega) (wc_i2 v j), fun y ey x ex => ?_⟩)
      · rw [e, Int32.le_iff_toInt_le] at hm
        rw [nI_1] at ex
        subst ex
        refine ih (j + 1) m (by omega) (by omega) ?_ ?_
        · intro b hb
          by_cases e : b = j
          · subst e; exact hm
          · exact h3 b (by omega)
        · obtain ⟨b, hb, eb⟩ := h4
          exact ⟨b, by omega, eb⟩
      · rw [e, Int32.le_iff_toInt_le] at hm
        rw [e] at ey
        rw [nI_1] at ex
        subst ex ey
        refine ih (j + 1) _ (by omega) (by omega) ?_ ?_
        · intro b hb
          by_cases e : b = j
          · subst e; exact Int.le_refl _
          · have q := h3 b (by omega)
            omega
        · exact ⟨j, by omega, rfl⟩
theorem wc_sink {post : SX → Prop} {T0 : (Nat → Nat) → Int} {v : Nat} (hn : n ≤ 6) (hd : 1 < d) (hd3 : d ≤ 3) (hT : ∀ g : Nat → Nat, (∀ w, w < n → g w < d) → T0 g ≤ 42000000) (hv : v < n) (G : wc_Gd n d T0 fl sG pR) (hpost : ∀ fl' s, wc_Gd n d T0 fl' s pR → post (nI n, nI d, fl', cu, ab, cn, cg, oL, oH, oV, oW, tU, tB, tA, mK, s, pR, eX, rE, vA, fB)) : wpX_sink post (nI n, nI d, fl, cu, ab, cn, cg, oL, oH, oV, oW, tU, tB, tA, mK, sG, pR, eX, rE, vA, fB) (nI v) := by
  refine ⟨pk_in (3 * v) 18 (by omega) (wc_i1 v), fun y ey => ?_⟩
  rw [wc_i1, nI_clamp (by omega)] at ey
  subst ey
  refine ⟨d + 1, wc_sink11 hd3 (by omega) (fun m hm1 hm2 => ⟨d + 1, ?_⟩) (d + 1) 1 _ (by omega) (by omega) (fun b hb => ?_) ⟨0, by omega, rfl⟩⟩
  · refine wc_sink56 (s := sG) hd3 (by omega) (fun s' q1 q2 => ?_) (d + 1) 0 sG (by omega) (by omega) (fun b hb => by omega) (fun i _ => rfl)
    refine hpost _ _ ?_
    obtain ⟨b, hb, eb⟩ := hm2
    exact wc_Gd_sink hn (by omega) hd3 hT G hv (by rw [eb]; exact G.2.1 v b hv hb) hm1 q1 q2
  · obtain rfl : b = 0 := by omega
    exact Int.le_refl _
end
end
section
/-! openMasks, prepare -/
def wc_s0 (mK U : Nat → Int32) (k : Nat) : Int32 := if wc_in (mK (k / 3)) (k % 3) = true ∧ ¬ U k = 99 then U k else 1000000
def wc_p0 (B : Nat → Int32) (k : Nat) : Int32 := if B k = 99 then 1000000 else B k
def wc_T0 (n : Nat) (mK U B : Nat → Int32) : (Nat → Nat) → Int := fun g => wc_T (wc_tI (wc_s0 mK U)) (wc_tI (wc_p0 B)) g n
theorem wc_M6 : (1000000 : Int32).toInt = 1000000 := by decide
theorem wc_p0_i (B : Nat → Int32) (k : Nat) : (wc_p0 B k).toInt = wc_hc (B k) := by
  unfold wc_p0 wc_hc
  by_cases e : B k = 99
  · rw [if_pos e, if_pos e, wc_M6]
  · rw [if_neg e, if_neg e]
theorem wc_s0_b {mK U : Nat → Int32} {k : Nat} (h : wc_CO (U k)) : 0 ≤ (wc_s0 mK U k).toInt ∧ (wc_s0 mK U k).toInt ≤ 1000000 := by
  unfold wc_s0
  by_cases e : wc_in (mK (k / 3)) (k % 3) = true ∧ ¬ U k = 99
  · rw [if_pos e]
    have a := wc_hc_n h e.2
    omega
  · rw [if_neg e, wc_M6]; omega
theorem wc_s0_i {mK U : Nat → Int32} {w a : Nat} (ha : a < 3) (h : wc_in (mK w) a = true) : (wc_s0 mK U (3 * w + a)).toInt = wc_hc (U (3 * w + a)) := by
  unfold wc_s0 wc_hc
  have e1 : (3 * w + a) / 3 = w := by omega
  have e2 : (3 * w + a) % 3 = a := by omega
  rw [e1, e2]
  by_cases e : U (3 * w + a) = 99
  · rw [if_neg (fun z => z.2 e), if_pos e, wc_M6]
  · rw [if_pos ⟨h, e⟩, if_neg e]
theorem wc_T_cc {n d : Nat} {s p s' p' : Nat → Int} (h1 : ∀ v a, v < n → a < d → s (3 * v + a) = s' (3 * v + a)) (h2 : ∀ u v a b, u < v → v < n → a < d → b < d → p ((6 * u + v) * 9 + 3 * a + b) = p' ((6 * u + v) * 9 + 3 * a + b)) {g : Nat → Nat} (hg : ∀ w, w < n → g w < d) : wc_T s p g n = wc_T s' p' g n := by
  refine wc_sm_c (fun w hw => ?_)
  try dsimp only
  unfold wc_Z
  rw [h1 w (g w) hw (hg w hw), wc_sm_c (g := fun i => p' ((6 * i + w) * 9 + 3 * g i + g w)) (fun i hi => h2 i w (g i) (g w) hi hw (hg i (by omega)) (hg w hw))]
theorem wc_T0_bd {n d : Nat} {mK U B : Nat → Int32} (hn : n ≤ 6) (hI : wc_In n d U B) : ∀ g : Nat → Nat, (∀ w, w < n → g w < d) → wc_T0 n mK U B g ≤ 42000000 := by
  intro g hg
  refine wc_T_bd hn (fun v a hv ha => (wc_s0_b (hI.1 v a hv ha)).2) (fun u v a b huv hv ha hb => ?_) hg
  show (wc_p0 B _).toInt ≤ _
  rw [wc_p0_i]
  exact (wc_hc_b (hI.2 u v a b huv hv ha hb)).2
theorem wc_T0_ok {n d : Nat} {mK U B : Nat → Int32} (hd3 : d ≤ 3) {g : Nat → Nat} (hg : ∀ w, w < n → g w < d) (hk : wc_ok mK g n = true) : wc_T0 n mK U B g = wc_tc U B g n := by
  rw [wc_ok_iff] at hk
  refine wc_sm_c (fun w hw => ?_)
  try dsimp only
  unfold wc_Z
  have e : wc_tI (wc_s0 mK U) (3 * w + g w) = wc_hc (U (3 * w + g w)) := wc_s0_i (by have := hg w hw; omega) (hk w hw)
  rw [e, wc_sm_c (f := fun i => wc_tI (wc_p0 B) ((6 * i + w) * 9 + 3 * g i + g w)) (g := fun i => wc_hc (B ((6 * i + w) * 9 + 3 * g i + g w))) (fun i hi => wc_p0_i B _)]
theorem wc_Gd_0 {n d : Nat} {mK U B s p : Nat → Int32} (hn : n ≤ 6) (hd3 : d ≤ 3) (hI : wc_In n d U B) (hs : ∀ k, k < 18 → s k = wc_s0 mK U k) (hp : ∀ k, k < 324 → p k = wc_p0 B k) : wc_Gd n d (wc_T0 n mK U B) 0 s p := by
  have z0 : (0 : Int32).toInt = 0 := by decide
  refine ⟨by rw [z0]; omega, ?_, ?_, ?_⟩
  · intro v a hv ha
    rw [hs _ (by omega)]; exact (wc_s0_b (hI.1 v a hv ha)).1
  · intro u v a b huv hv ha hb
    rw [hp _ (by omega), wc_p0_i]; exact (wc_hc_b (hI.2 u v a b huv hv ha hb)).1
  · intro g hg
    have e : wc_T (wc_tI s) (wc_tI p) g n = wc_T0 n mK U B g := wc_T_cc (d := d) (fun v a hv ha => by
      show (s _).toInt = (wc_s0 mK U _).toInt
      rw [hs _ (by omega)]) (fun u v a b huv hv ha hb => by
      show (p _).toInt = (wc_p0 B _).toInt
      rw [hp _ (by omega)]) hg
    rw [e, z0]; omega
theorem wc_d3 {k : Nat} (hk : k < 2 ^ 31) : nI k / 3 = nI (k / 3) := pk_div (d := 3) hk (by omega) (by omega)
theorem wc_r3 {k : Nat} (hk : k < 2 ^ 31) : nI k - nI k / 3 * 3 = nI (k % 3) := pk_rem (d := 3) hk (by omega) (by omega)
section
variable {n d : Nat} {fl cu ab cn cg oL oH oV oW : Int32} {tU tB tA mK sG pR eX rE vA fB : Nat → Int32}
theorem wc_open2 {post : SX → Prop} (hn : n ≤ 6) (hpost : ∀ M : Nat → Int32, (∀ w, w < n → M w = tA w) → post (nI n, nI d, fl, cu, ab, cn, cg, oL, oH, oV, oW, tU, tB, tA, M, sG, pR, eX, rE, vA, fB)) :
    ∀ (f j : Nat) (M : Nat → Int32), j ≤ n → n - j < f → (∀ w, w < j → M w = tA w) → wX_openMasks_2 post (nI n) (nI d) fl cu ab cn cg oL oH oV oW f (nI j) tU tB tA M sG pR eX rE vA fB := by
  intro f
  induction f with
  | zero => intro j M h1 h2; omega
  | succ f ih =>
    intro j M h1 h2 h3
    refine pk_le n j (fun h => ?_) (fun h => ?_)
    · obtain rfl : j = n := by omega
      exact hpost M h3
    · refine ⟨vp_in_nI (by omega) (by omega), vp_in_nI (by omega) (by omega), fun y ey x ex => ?_⟩
      rw [nI_clamp (by omega)] at ey
      rw [nI_1] at ex
      subst ey ex
      refine ih (j + 1) _ (by omega) (by omega) ?_
      intro w hw
      by_cases e : w = j
      · subst e; rw [pk_us]
      · rw [pk_un e]; exact h3 w (by omega)
theorem wc_open {post : SX → Prop} (hn : n ≤ 6) (hpost : ∀ M : Nat → Int32, (∀ w, w < n → M w = tA w) → post (nI n, nI d, fl, cu, ab, cn, cg, oL, oH, oV, oW, tU, tB, tA, M, sG, pR, eX, rE, vA, fB)) : wpX_openMasks post (nI n, nI d, fl, cu, ab, cn, cg, oL, oH, oV, oW, tU, tB, tA, mK, sG, pR, eX, rE, vA, fB) :=
  ⟨n + 1, wc_open2 hn hpost (n + 1) 0 mK (by omega) (by omega) (fun w hw => by omega)⟩
theorem wc_prep133 {post : SX → Prop} {J : Int32 → Int32 → Int32 → Int32 → Int32 → Int32 → Int32 → Int32 → Int32 → Int32 → Int32 → Int32 → (Nat → Int32) → (Nat → Int32) → (Nat → Int32) → (Nat → Int32) → (Nat → Int32) → (Nat → Int32) → (Nat → Int32) → (Nat → Int32) → (Nat → Int32) → (Nat → Int32) → Prop} {T0 : (Nat → Nat) → Int} {v : Nat} (hn : n ≤ 6) (hd : 1 < d) (hd3 : d ≤ 3) (hT : ∀ g : Nat → Nat, (∀ w, w < n → g w < d) → T0 g ≤ 42000000) (hv : v < n) (hJ : ∀ (fl' : Int32) (s p : Nat → Int32), wc_Gd n d T0 fl' s p → J (nI v + (-1)) (nI n) (nI d) fl' cu ab cn cg oL oH oV oW tU tB tA mK s p eX rE vA fB) :
    ∀ (f j : Nat) (x2 fl' : Int32) (s p : Nat → Int32), x2 = nI j + (-1) → j ≤ v → j < f → wc_Gd n d T0 fl' s p → wX_prepare_133 post J (nI v) f x2 (nI n) (nI d) fl' cu ab cn cg oL oH oV oW tU tB tA mK s p eX rE vA fB := by
  intro f
  induction f with
  | zero => intro j x2 fl' s p h1 h2 h3; omega
  | succ f ih =>
    intro j x2 fl' s p h1 h2 h3 G
    cases j with
    | zero =>
      subst h1
      refine br_t (by decide) (wc_sink hn hd hd3 hT hv G (fun fl2 s2 G2 => ?_))
      intro y ey
      subst ey
      exact hJ fl2 s2 p G2
    | succ u =>
      rw [pk_m1] at h1
      subst h1
      refine br_f (nI_pos (by omega)) (wc_lower hn hd hd3 hT (by omega) hv G (fun s1 p1 G1 => ?_))
      refine wc_raise hn hd hd3 hT (by omega) hv G1 (fun s2 p2 G2 => ?_)
      refine wc_lower hn hd hd3 hT (by omega) hv G2 (fun s3 p3 G3 => ?_)
      intro y ey
      exact ih u y fl' s3 p3 ey (by omega) (by omega) G3
theorem wc_prep125 {post : SX → Prop} {T0 : (Nat → Nat) → Int} (hn : n ≤ 6) (hd : 1 < d) (hd3 : d ≤ 3) (hT : ∀ g : Nat → Nat, (∀ w, w < n → g w < d) → T0 g ≤ 42000000) (hpost : ∀ (fl' : Int32) (s p : Nat → Int32), wc_Gd n d T0 fl' s p → post (nI n, nI d, fl', cu, ab, cn, cg, oL, oH, oV, oW, tU, tB, tA, mK, s, p, eX, rE, vA, fB)) :
    ∀ (f v : Nat) (fl' : Int32) (s p : Nat → Int32), v < n → v < f → wc_Gd n d T0 fl' s p → wX_prepare_125 post f (nI v) (nI n) (nI d) fl' cu ab cn cg oL oH oV oW tU tB tA mK s p eX rE vA fB := by
  intro f
  induction f with
  | zero => intro v fl' s p h1 h2; omega
  | succ f ih =>
    intro v fl' s p h1 h2 G
    cases v with
    | zero =>
      refine br_t (by decide) (wc_sink (v := 0) hn hd hd3 hT h1 G (fun fl2 s2 G2 => ?_))
      exact hpost fl2 s2 p G2
    | succ v =>
      refine br_f (nI_nle (by omega) (by omega)) (fun y ey => ⟨v + 2, ?_⟩)
      rw [nI_pred] at ey
      refine wc_prep133 hn hd hd3 hT h1 (fun fl2 s2 p2 G2 => ?_) (v + 2) (v + 1) y fl' s p (by rw [ey, pk_m1]) (by omega) (by omega) G
      rw [pk_m1]
      exact ih v fl2 s2 p2 (by omega) (by omega) G2
theorem wc_prep77 {post : SX → Prop} (hK : ∀ p : Nat → Int32, (∀ k, k < 324 → p k = wc_p0 tB k) → ∃ n125, wX_prepare_125 post n125 (nI n - 1) (nI n) (nI d) fl cu ab cn cg oL oH oV oW tU tB tA mK sG p eX rE vA fB) :
    ∀ (f j : Nat) (p : Nat → Int32), j ≤ 324 → 324 - j < f → (∀ k, k < j → p k = wc_p0 tB k) → wX_prepare_77 post (nI n) (nI d) fl cu ab cn cg oL oH oV oW f (nI j) tU tB tA mK sG p eX rE vA fB := by
  intro f
  induction f with
  | zero => intro j p h1 h2; omega
  | succ f ih =>
    intro j p h1 h2 h3
    refine pk_le 324 j (fun h => ?_) (fun h => ?_)
    · obtain rfl : j = 324 := by omega
      intro y ey
      subst ey
      exact hK p h3
    · have hi : vp_in (nI j) 324 := vp_in_nI h (by omega)
      refine ⟨hi, br_c (fun e => ⟨hi, fun y ey x ex => ?_⟩) (fun e => ⟨hi, hi, fun y ey x ex => ?_⟩)⟩
      · rw [nI_clamp (by omega)] at ey e
        rw [nI_1] at ex
        subst ey ex
        refine ih (j + 1) _ (by omega) (by omega) ?_
        intro k hk
        by_cases z : k = j
        · subst z; rw [pk_us]; unfold wc_p0; rw [if_pos e]
        · rw [pk_un z]; exact h3 k (by omega)
      · rw [nI_clamp (by omega)] at ey e
        rw [nI_1] at ex
        subst ey ex
        refine ih (j + 1) _ (by omega) (by omega) ?_
        intro k hk
        by_cases z : k = j
        · subst z; rw [pk_us]; unfold wc_p0; rw [if_neg e]
        · rw [pk_un z]; exact h3 k (by omega)
theorem wc_prep36 {post : SX → Prop} {J : Int32 → (Nat → Int32) → (Nat → Int32) → (Nat → Int32) → (Nat → Int32) → (Nat → Int32) → (Nat → Int32) → (Nat → Int32) → (Nat → Int32) → (Nat → Int32) → (Nat → Int32) → Prop} {j : Nat} {z0 : Int32} (hj : j < 18) (hz : (z0 = 0 ∧ wc_in (mK (j / 3)) (j % 3) = false) ∨ (z0 = 1 ∧ wc_in (mK (j / 3)) (j % 3) = true)) (hJ : J (nI (j + 1)) tU tB tA mK (upd sG j (wc_s0 mK tU j)) pR eX rE vA fB) : wX_prepare_36 post J (nI j) z0 (nI n) (nI d) fl cu ab cn cg oL oH oV oW tU tB tA mK sG pR eX rE vA fB := by
  have hi : vp_in (nI j) 18 := vp_in_nI hj (by omega)
  have cl : (nI j).toNatClampNeg = j := nI_clamp (by omega)
  rcases hz with ⟨rfl, hz⟩ | ⟨rfl, hz⟩
  · refine br_t rfl ⟨hi, fun y ey x ex => ?_⟩
    rw [cl] at ey
    rw [nI_1] at ex
    subst ey ex
    have e : wc_s0 mK tU j = 1000000 := if_neg (fun q => by rw [hz] at q; exact absurd q.1 (by decide))
    rw [e] at hJ; exact hJ
  · refine br_f (by decide) ⟨hi, br_c (fun e => ⟨hi, fun y ey x ex => ?_⟩) (fun e => ⟨hi, hi, fun y ey x ex => ?_⟩)⟩
    · rw [cl] at ey e
      rw [nI_1] at ex
      subst ey ex
      have q : wc_s0 mK tU j = 1000000 := if_neg (fun q => q.2 e)
      rw [q] at hJ; exact hJ
    · rw [cl] at ey e
      rw [nI_1] at ex
      subst ey ex
      have q : wc_s0 mK tU j = tU j := if_pos ⟨hz, e⟩
      rw [q] at hJ; exact hJ
theorem wc_prep7 {post : SX → Prop} (hK : ∀ s : Nat → Int32, (∀ k, k < 18 → s k = wc_s0 mK tU k) → ∃ n77, wX_prepare_77 post (nI n) (nI d) fl cu ab cn cg oL oH oV oW n77 0 tU tB tA mK s pR eX rE vA fB) :
    ∀ (f j : Nat) (s : Nat → Int32), j ≤ 18 → 18 - j < f → (∀ k, k < j → s k = wc_s0 mK tU k) → wX_prepare_7 post (nI n) (nI d) fl cu ab cn cg oL oH oV oW f (nI j) tU tB tA mK s pR eX rE vA fB := by
  intro f
  induction f with
  | zero => intro j s h1 h2; omega
  | succ f ih =>
    intro j s h1 h2 h3
    refine pk_le 18 j (fun h => ?_) (fun h => ?_)
    · obtain rfl : j = 18 := by omega
      exact hK s h3
    · have go : wX_prepare_7 post (nI n) (nI d) fl cu ab cn cg oL oH oV oW f (nI (j + 1)) tU tB tA mK (upd s j (wc_s0 mK tU j)) pR eX rE vA fB := by
        refine ih (j + 1) _ (by omega) (by omega) ?_
        intro k hk
        by_cases z : k = j
        · subst z; rw [pk_us]
        · rw [pk_un z]; exact h3 k (by omega)
      have e : ((mK (nI j / 3).toNatClampNeg >>> ((nI j - nI j / 3 * 3) &&& 31)) &&& 1) = ((mK (j / 3) >>> (nI (j % 3) &&& 31)) &&& 1) := by
        rw [wc_r3 (by omega), wc_d3 (by omega), nI_clamp (by omega)]
      refine ⟨by decide, pk_in (j / 3) 6 (by omega) (wc_d3 (by omega)), by decide, br_c (fun c => ?_) (fun c => ?_)⟩
      · rw [e, ← wc_in_t] at c
        exact wc_prep36 h (Or.inr ⟨rfl, c⟩) go
      · rw [e, ← wc_in_n] at c
        exact wc_prep36 h (Or.inl ⟨rfl, c⟩) go
theorem wc_prepare {post : SX → Prop} (hn2 : 2 ≤ n) (hn : n ≤ 6) (hd : 1 < d) (hd3 : d ≤ 3) (hI : wc_In n d tU tB) (hpost : ∀ (fl' : Int32) (s p : Nat → Int32), wc_Gd n d (wc_T0 n mK tU tB) fl' s p → post (nI n, nI d, fl', cu, ab, cn, cg, oL, oH, oV, oW, tU, tB, tA, mK, s, p, eX, rE, vA, fB)) : wpX_prepare post (nI n, nI d, fl, cu, ab, cn, cg, oL, oH, oV, oW, tU, tB, tA, mK, sG, pR, eX, rE, vA, fB) := by
  refine ⟨19, wc_prep7 (fun s hs => ⟨325, ?_⟩) 19 0 sG (by omega) (by omega) (fun k hk => by omega)⟩
  refine wc_prep77 (fun p hp => ⟨n + 1, ?_⟩) 325 0 pR (by omega) (by omega) (fun k hk => by omega)
  have e : nI n - 1 = nI (n - 1) := by
    obtain ⟨q, rfl⟩ : ∃ q, n = q + 1 := ⟨n - 1, by omega⟩
    rw [nI_pred]; rfl
  rw [e]
  exact wc_prep125 hn hd hd3 (wc_T0_bd hn hI) hpost (n + 1) (n - 1) 0 s p (by omega) (by omega) (wc_Gd_0 hn hd3 hI hs hp)
end
end
section
/-! remaining -/
theorem wc_i18 (k w b : Nat) : (18 : Int32) * nI k + 3 * nI w + nI b = nI (18 * k + 3 * w + b) := by
  rw [show (3 : Int32) = nI 3 from rfl, show (18 : Int32) = nI 18 from rfl, pk_mul, pk_mul, nI_add, nI_add]
theorem wc_i18s (k w b : Nat) : (18 : Int32) * nI k + 18 + 3 * nI w + nI b = nI (18 * k + 18 + 3 * w + b) := by
  rw [show (3 : Int32) = nI 3 from rfl, show (18 : Int32) = nI 18 from rfl, pk_mul, pk_mul, nI_add, nI_add, nI_add]
theorem wc_3M : (3000000 : Int32).toInt = 3000000 := by decide
def wc_nx (e p : Nat → Int32) (k c w b : Nat) : Int := if (e (18 * k + 3 * w + b)).toInt + (p ((6 * k + w) * 9 + 3 * c + b)).toInt ≤ 3000000 then (e (18 * k + 3 * w + b)).toInt + (p ((6 * k + w) * 9 + 3 * c + b)).toInt else 3000000
section
variable {n d : Nat} {fl cu ab cn cg oL oH oV oW : Int32} {tU tB tA mK sG pR eX rE vA fB : Nat → Int32}
theorem wc_rem93 {post : Int32 → SX → Prop} {J6 J21 : Int32 → Int32 → (Nat → Int32) → (Nat → Int32) → (Nat → Int32) → (Nat → Int32) → (Nat → Int32) → (Nat → Int32) → (Nat → Int32) → (Nat → Int32) → (Nat → Int32) → (Nat → Int32) → Prop} {k w j : Nat} {x2 m z : Int32} (hk : k < 6) (hw : w < 6) (hj : j < 3) (hJ : ∀ m' : Int32, (m' = m ∨ m' = z) → m'.toInt ≤ m.toInt → (wc_in (mK w) j = true → m'.toInt ≤ z.toInt) → J21 m' (nI (j + 1)) tU tB tA mK sG pR (upd eX (18 * k + 18 + 3 * w + j) z) rE vA fB) : wX_remaining_93 post J6 J21 (nI k) x2 (nI w) m (nI j) z (nI n) (nI d) fl cu ab cn cg oL oH oV oW tU tB tA mK sG pR eX rE vA fB := by
  refine ⟨pk_in (18 * k + 18 + 3 * w + j) 126 (by omega) (wc_i18s k w j), fun y ey => ⟨vp_in_nI hw (by omega), ?_⟩⟩
  rw [wc_i18s, nI_clamp (by omega)] at ey
  subst ey
  have cl : (nI w).toNatClampNeg = w := nI_clamp (by omega)
  refine br_c (fun c => br_c (fun h x ex => ?_) (fun h x ex => ?_)) (fun c x ex => ?_)
  · rw [nI_1] at ex
    rw [Int32.le_iff_toInt_le] at h
    subst ex
    exact hJ m (Or.inl rfl) (Int.le_refl _) (fun _ => h)
  · rw [nI_1] at ex
    rw [Int32.le_iff_toInt_le] at h
    subst ex
    exact hJ z (Or.inr rfl) (by omega) (fun _ => Int.le_refl _)
  · rw [nI_1] at ex
    rw [cl, ← wc_in_n] at c
    subst ex
    exact hJ m (Or.inl rfl) (Int.le_refl _) (fun q => by rw [c] at q; exact absurd q (by decide))
theorem wc_rem21 {post : Int32 → SX → Prop} {J : Int32 → Int32 → (Nat → Int32) → (Nat → Int32) → (Nat → Int32) → (Nat → Int32) → (Nat → Int32) → (Nat → Int32) → (Nat → Int32) → (Nat → Int32) → (Nat → Int32) → (Nat → Int32) → Prop} {k c w : Nat} {x2 : Int32} {e : Nat → Int32} (hd3 : d ≤ 3) (hk : k < 6) (hw : w < 6) (hc : c < 3) (hv : vA k = nI c)
    (he : ∀ b, b < d → 0 ≤ (eX (18 * k + 3 * w + b)).toInt ∧ (eX (18 * k + 3 * w + b)).toInt ≤ 42000000) (hp : ∀ b, b < d → 0 ≤ (pR ((6 * k + w) * 9 + 3 * c + b)).toInt ∧ (pR ((6 * k + w) * 9 + 3 * c + b)).toInt ≤ 42000000)
    (h0 : ∀ i, i < 18 * k + 18 → e i = eX i)
    (hJ : ∀ (m : Int32) (e' : Nat → Int32), 0 ≤ m.toInt → m.toInt ≤ 1000000 → (∀ b, b < d → wc_in (mK w) b = true → m.toInt ≤ wc_nx eX pR k c w b) → (∀ b, b < d → (e' (18 * k + 18 + 3 * w + b)).toInt = wc_nx eX pR k c w b) → (∀ i, (i < 18 * k + 18 + 3 * w ∨ 18 * k + 18 + 3 * w + d ≤ i) → e' i = e i) → J (x2 + m) (nI (w + 1)) tU tB tA mK sG pR e' rE vA fB) :
    ∀ (f j : Nat) (m : Int32) (e' : Nat → Int32), j ≤ d → d - j < f → 0 ≤ m.toInt → m.toInt ≤ 1000000 → (∀ b, b < j → wc_in (mK w) b = true → m.toInt ≤ wc_nx eX pR k c w b) → (∀ b, b < j → (e' (18 * k + 18 + 3 * w + b)).toInt = wc_nx eX pR k c w b) → (∀ i, (i < 18 * k + 18 + 3 * w ∨ 18 * k + 18 + 3 * w + j ≤ i) → e' i = e i) → wX_remaining_21 post J (nI k) x2 (nI w) (nI n) (nI d) fl cu ab cn cg oL oH oV oW f m (nI j) tU tB tA mK sG pR e' rE vA fB := by
  intro f
  induction f with
  | zero => intro j m e' h1 h2; omega
  | succ f ih =>
    intro j m e' h1 h2 h3 h4 h5 h6 h7
    refine pk_le d j (fun h => ?_) (fun h => ?_)
    · obtain rfl : j = d := by omega
      intro y ey x ex
      rw [nI_1] at ex
      subst ey ex
      exact hJ m e' h3 h4 h5 h6 h7
    · have ev : vA (nI k).toNatClampNeg = nI c := by rw [nI_clamp (by omega), hv]
      have i4 : ((6 : Int32) * nI k + nI w) * 9 + 3 * (vA (nI k).toNatClampNeg) + nI j = nI ((6 * k + w) * 9 + 3 * c + j) := by rw [ev]; exact wc_i4 k w c j
      obtain ⟨e1, e2⟩ := he j h
      obtain ⟨p1, p2⟩ := hp j h
      have eo : e' (18 * k + 3 * w + j) = eX (18 * k + 3 * w + j) := by
        rw [h7 _ (by omega)]; exact h0 _ (by omega)
      have et : (eX (18 * k + 3 * w + j) + pR ((6 * k + w) * 9 + 3 * c + j)).toInt = (eX (18 * k + 3 * w + j)).toInt + (pR ((6 * k + w) * 9 + 3 * c + j)).toInt := Jvm.Kit.i32_add (by omega) (by omega)
      have step : ∀ z : Int32, z.toInt = wc_nx eX pR k c w j → wX_remaining_93 post J (wX_remaining_21 post J (nI k) x2 (nI w) (nI n) (nI d) fl cu ab cn cg oL oH oV oW f) (nI k) x2 (nI w) m (nI j) z (nI n) (nI d) fl cu ab cn cg oL oH oV oW tU tB tA mK sG pR e' rE vA fB := by
        intro z hz
        have z0 : 0 ≤ wc_nx eX pR k c w j := by
          unfold wc_nx
          by_cases q : (eX (18 * k + 3 * w + j)).toInt + (pR ((6 * k + w) * 9 + 3 * c + j)).toInt ≤ 3000000
          · rw [if_pos q]; omega
          · rw [if_neg q]; omega
        refine wc_rem93 hk hw (by omega) (fun m' q1 q2 q3 => ?_)
        refine ih (j + 1) m' _ (by omega) (by omega) ?_ (by omega) ?_ ?_ ?_
        · rcases q1 with rfl | rfl
          · exact h3
          · omega
        · intro b hb hin
          by_cases q : b = j
          · subst q
            have a := q3 hin
            omega
          · have a := h5 b (by omega) hin
            omega
        · intro b hb
          by_cases q : b = j
          · subst q; rw [pk_us]; exact hz
          · rw [pk_un (by omega)]; exact h6 b (by omega)
        · intro i hi
          rw [pk_un (by omega)]; exact h7 i (by omega)
      refine ⟨vp_in_nI (by omega) (by omega), pk_in ((6 * k + w) * 9 + 3 * c + j) 324 (by omega) i4, fun y ey => ⟨pk_in (18 * k + 3 * w + j) 126 (by omega) (wc_i18 k w j), fun x ex => ?_⟩⟩
      rw [i4, nI_clamp (by omega)] at ey
      rw [wc_i18, nI_clamp (by omega), eo] at ex
      subst ey
      subst ex
      refine br_c (fun q => ?_) (fun q => ?_)
      · rw [Int32.le_iff_toInt_le, wc_3M, et] at q
        refine step _ ?_
        rw [et]; unfold wc_nx; rw [if_pos q]
      · rw [Int32.le_iff_toInt_le, wc_3M, et] at q
        refine step _ ?_
        rw [wc_3M]; unfold wc_nx; rw [if_neg q]
theorem wc_rem6 {post : Int32 → SX → Prop} {k c : Nat} (hn : n ≤ 6) (hd3 : d ≤ 3) (hk : k < n) (hc : c < 3) (hv : vA k = nI c)
    (he : ∀ w b, k < w → w < n → b < d → 0 ≤ (eX (18 * k + 3 * w + b)).toInt ∧ (eX (18 * k + 3 * w + b)).toInt ≤ 42000000) (hp : ∀ w b, k < w → w < n → b < d → 0 ≤ (pR ((6 * k + w) * 9 + 3 * c + b)).toInt ∧ (pR ((6 * k + w) * 9 + 3 * c + b)).toInt ≤ 42000000)
    (hpost : ∀ (r : Int32) (e' : Nat → Int32), 0 ≤ r.toInt → r.toInt ≤ 6000000 → (∀ q : Nat → Nat, (∀ w, k < w → w < n → q w < d ∧ wc_in (mK w) (q w) = true) → r.toInt ≤ wc_sm (fun w => wc_nx eX pR k c w (q w)) n - wc_sm (fun w => wc_nx eX pR k c w (q w)) (k + 1)) → (∀ w b, k < w → w < n → b < d → (e' (18 * k + 18 + 3 * w + b)).toInt = wc_nx eX pR k c w b) → (∀ i, i < 18 * k + 18 → e' i = eX i) → post r (nI n, nI d, fl, cu, ab, cn, cg, oL, oH, oV, oW, tU, tB, tA, mK, sG, pR, e', rE, vA, fB)) :
    ∀ (f w : Nat) (r : Int32) (e' : Nat → Int32), k < w → w ≤ n → n - w < f → 0 ≤ r.toInt → r.toInt ≤ 1000000 * (w : Int) → (∀ q : Nat → Nat, (∀ w, k < w → w < n → q w < d ∧ wc_in (mK w) (q w) = true) → r.toInt ≤ wc_sm (fun w => wc_nx eX pR k c w (q w)) w - wc_sm (fun w => wc_nx eX pR k c w (q w)) (k + 1)) → (∀ v b, k < v → v < w → b < d → (e' (18 * k + 18 + 3 * v + b)).toInt = wc_nx eX pR k c v b) → (∀ i, i < 18 * k + 18 → e' i = eX i) → wX_remaining_6 post (nI k) (nI n) (nI d) fl cu ab cn cg oL oH oV oW f r (nI w) tU tB tA mK sG pR e' rE vA fB := by
  intro f
  induction f with
  | zero => intro w r e' h1 h2 h3; omega
  | succ f ih =>
    intro w r e' h1 h2 h3 h4 h5 h6 h7 h8
    refine pk_le n w (fun h => ?_) (fun h => ?_)
    · obtain rfl : w = n := by omega
      exact hpost r e' h4 (by omega) h6 h7 h8
    · refine ⟨d + 1, wc_rem21 (e := e') hd3 (by omega) (by omega) hc hv (fun b hb => he w b h1 h hb) (fun b hb => hp w b h1 h hb) h8 (fun m e2 q1 q2 q3 q4 q5 => ?_) (d + 1) 0 1000000 e' (by omega) (by omega) (by decide) (by decide) (fun b hb => by omega) (fun b hb => by omega) (fun i _ => rfl)⟩
      have er : (r + m).toInt = r.toInt + m.toInt := Jvm.Kit.i32_add (by omega) (by omega)
      refine ih (w + 1) (r + m) e2 (by omega) (by omega) (by omega) (by omega) (by omega) ?_ ?_ ?_
      · intro q hq
        have a := h6 q hq
        have b := hq w h1 h
        have c := q3 (q w) b.1 b.2
        rw [er, wc_sm_s]
        try dsimp only
        omega
      · intro v b hv hvw hb
        by_cases z : v = w
        · subst z; exact q4 b hb
        · rw [q5 _ (by omega)]; exact h7 v b hv (by omega) hb
      · intro i hi
        rw [q5 i (by omega)]; exact h8 i hi
theorem wc_remaining {post : Int32 → SX → Prop} {k c : Nat} (hn : n ≤ 6) (hd3 : d ≤ 3) (hk : k < n) (hc : c < 3) (hv : vA k = nI c)
    (he : ∀ w b, k < w → w < n → b < d → 0 ≤ (eX (18 * k + 3 * w + b)).toInt ∧ (eX (18 * k + 3 * w + b)).toInt ≤ 42000000) (hp : ∀ w b, k < w → w < n → b < d → 0 ≤ (pR ((6 * k + w) * 9 + 3 * c + b)).toInt ∧ (pR ((6 * k + w) * 9 + 3 * c + b)).toInt ≤ 42000000)
    (hpost : ∀ (r : Int32) (e' : Nat → Int32), 0 ≤ r.toInt → r.toInt ≤ 6000000 → (∀ q : Nat → Nat, (∀ w, k < w → w < n → q w < d ∧ wc_in (mK w) (q w) = true) → r.toInt ≤ wc_sm (fun w => wc_nx eX pR k c w (q w)) n - wc_sm (fun w => wc_nx eX pR k c w (q w)) (k + 1)) → (∀ w b, k < w → w < n → b < d → (e' (18 * k + 18 + 3 * w + b)).toInt = wc_nx eX pR k c w b) → (∀ i, i < 18 * k + 18 → e' i = eX i) → post r (nI n, nI d, fl, cu, ab, cn, cg, oL, oH, oV, oW, tU, tB, tA, mK, sG, pR, e', rE, vA, fB)) : wpX_remaining post (nI n, nI d, fl, cu, ab, cn, cg, oL, oH, oV, oW, tU, tB, tA, mK, sG, pR, eX, rE, vA, fB) (nI k) := by
  intro y ey
  rw [nI_1] at ey
  subst ey
  refine ⟨n + 1, wc_rem6 hn hd3 hk hc hv he hp hpost (n + 1) (k + 1) 0 eX (by omega) (by omega) (by omega) (by decide) ?_ ?_ ?_ (fun i _ => rfl)⟩
  · have z0 : (0 : Int32).toInt = 0 := by decide
    rw [z0]; omega
  · intro q hq
    have z0 : (0 : Int32).toInt = 0 := by decide
    rw [z0]; omega
  · intro v b h1 h2; omega
end
end
section
/-! search: the pure parts -/
def wc_g (d : Nat) : Nat → Nat
  | 0 => 0
  | m + 1 => d * (1 + wc_g d m) + 1
def wc_mu (n d : Nat) (f : Nat → Nat) : Nat → Nat → Nat
  | 0, e => (d - e) * (1 + wc_g d (n - 1)) + 1
  | k + 1, e => (d - e) * (1 + wc_g d (n - 2 - k)) + 1 + wc_mu n d f k (f k + 1)
theorem wc_mu_c {n d : Nat} {f f' : Nat → Nat} : ∀ {k e : Nat}, (∀ j, j < k → f j = f' j) → wc_mu n d f k e = wc_mu n d f' k e
  | 0, e, _ => rfl
  | k + 1, e, h => by
    have a := wc_mu_c (n := n) (d := d) (f := f) (f' := f') (k := k) (e := f k + 1) (fun j hj => h j (by omega))
    show (d - e) * (1 + wc_g d (n - 2 - k)) + 1 + wc_mu n d f k (f k + 1) = (d - e) * (1 + wc_g d (n - 2 - k)) + 1 + wc_mu n d f' k (f' k + 1)
    rw [a, h k (by omega)]
theorem wc_mu_e {n d : Nat} {f : Nat → Nat} {k e : Nat} (he : e < d) : wc_mu n d f k e = (1 + wc_g d (n - 1 - k)) + wc_mu n d f k (e + 1) := by
  obtain ⟨r, hr⟩ : ∃ r, d - e = r + 1 := ⟨d - e - 1, by omega⟩
  have hr' : d - (e + 1) = r := by omega
  cases k with
  | zero =>
    show (d - e) * (1 + wc_g d (n - 1)) + 1 = (1 + wc_g d (n - 1 - 0)) + ((d - (e + 1)) * (1 + wc_g d (n - 1)) + 1)
    rw [hr, hr', Nat.succ_mul, Nat.sub_zero]; omega
  | succ k =>
    show (d - e) * (1 + wc_g d (n - 2 - k)) + 1 + wc_mu n d f k (f k + 1) = (1 + wc_g d (n - 1 - (k + 1))) + ((d - (e + 1)) * (1 + wc_g d (n - 2 - k)) + 1 + wc_mu n d f k (f k + 1))
    have q : n - 1 - (k + 1) = n - 2 - k := by omega
    rw [hr, hr', Nat.succ_mul, q]; omega
theorem wc_mu_skip {n d : Nat} {f : Nat → Nat} {k e : Nat} (he : e < d) : wc_mu n d f k (e + 1) + 1 ≤ wc_mu n d f k e := by
  rw [wc_mu_e he]; omega
theorem wc_mu_desc {n d : Nat} {f : Nat → Nat} {k : Nat} (hk : k + 1 < n) (he : f k < d) : wc_mu n d f (k + 1) 0 + 1 ≤ wc_mu n d f k (f k) := by
  rw [wc_mu_e he]
  have q : n - 1 - k = (n - 2 - k) + 1 := by omega
  rw [q]
  show (d - 0) * (1 + wc_g d (n - 2 - k)) + 1 + wc_mu n d f k (f k + 1) + 1 ≤ (1 + (d * (1 + wc_g d (n - 2 - k)) + 1)) + wc_mu n d f k (f k + 1)
  rw [Nat.sub_zero]; omega
theorem wc_mu_pop {n d : Nat} {f : Nat → Nat} {k e : Nat} : wc_mu n d f k (f k + 1) + 1 ≤ wc_mu n d f (k + 1) e := by
  show _ ≤ (d - e) * (1 + wc_g d (n - 2 - k)) + 1 + wc_mu n d f k (f k + 1)
  omega
theorem wc_mu_0 {n d : Nat} (f : Nat → Nat) (hn2 : 2 ≤ n) (hn : n ≤ 6) (hd : 1 < d) (hd3 : d ≤ 3) : wc_mu n d f 0 0 ≤ 1456 := by
  show (d - 0) * (1 + wc_g d (n - 1)) + 1 ≤ 1456
  have h1 : d = 2 ∨ d = 3 := by omega
  have h2 : n = 2 ∨ n = 3 ∨ n = 4 ∨ n = 5 ∨ n = 6 := by omega
  rcases h1 with rfl | rfl <;> rcases h2 with rfl | rfl | rfl | rfl | rfl <;> decide
def wc_fu (f : Nat → Nat) (k e : Nat) : Nat → Nat := fun j => if j = k then e else f j
theorem wc_fu_s {f : Nat → Nat} {k e : Nat} : wc_fu f k e k = e := if_pos rfl
theorem wc_fu_n {f : Nat → Nat} {k e j : Nat} (h : j ≠ k) : wc_fu f k e j = f j := if_neg h
def wc_Cl (z Z : Int) : Prop := 0 ≤ z ∧ z ≤ Z ∧ (z = Z ∨ 1000000 ≤ z)
theorem wc_Cl_nx {e p : Nat → Int32} {k c w b : Nat} {Z : Int} (h : wc_Cl (e (18 * k + 3 * w + b)).toInt Z) (hp : 0 ≤ (p ((6 * k + w) * 9 + 3 * c + b)).toInt) : wc_Cl (wc_nx e p k c w b) (Z + (p ((6 * k + w) * 9 + 3 * c + b)).toInt) ∧ wc_nx e p k c w b ≤ 42000000 := by
  obtain ⟨h1, h2, h3⟩ := h
  unfold wc_nx
  by_cases q : (e (18 * k + 3 * w + b)).toInt + (p ((6 * k + w) * 9 + 3 * c + b)).toInt ≤ 3000000
  · rw [if_pos q]
    refine ⟨⟨by omega, by omega, ?_⟩, by omega⟩
    rcases h3 with h3 | h3
    · left; omega
    · right; omega
  · rw [if_neg q]
    exact ⟨⟨by omega, by omega, Or.inr (by omega)⟩, by omega⟩
theorem wc_Cl_add {z Z y Y : Int} (h : wc_Cl z Z) (g : wc_Cl y Y) : wc_Cl (z + y) (Z + Y) := by
  obtain ⟨h1, h2, h3⟩ := h
  obtain ⟨g1, g2, g3⟩ := g
  refine ⟨by omega, by omega, ?_⟩
  rcases h3 with h3 | h3
  · rcases g3 with g3 | g3
    · left; omega
    · right; omega
  · right; omega
/-- the number's digits under the node k, f, e -/
theorem wc_under {n d k e x : Nat} {f : Nat → Nat} (hd : 0 < d) (hk : k < n) (hf : ∀ j, j < k → f j < d) (he : e < d) (h1 : (wc_nu d f k * d + e) * d ^ (n - 1 - k) ≤ x) (h2 : x < (wc_nu d f k * d + (e + 1)) * d ^ (n - 1 - k)) : ∀ j, j < k + 1 → wc_dg d n x j = wc_fu f k e j := by
  refine wc_dg_nu hd hk (fun j hj => ?_) ?_
  · by_cases z : j = k
    · subst z; rw [wc_fu_s]; exact he
    · rw [wc_fu_n z]; exact hf j (by omega)
  · have q : n - (k + 1) = n - 1 - k := by omega
    rw [q, wc_nu_s, wc_fu_s, wc_nu_c (f' := f) (fun j hj => wc_fu_n (by omega))]
    exact Nat.div_eq_of_lt_le h1 h2
/-- the sum of a leaf below is at least what prune asks -/
theorem wc_prune {n d : Nat} {T0 : (Nat → Nat) → Int} {fl : Int32} {s p e : Nat → Int32} {mK : Nat → Int32} {k c : Nat} {f g : Nat → Nat} {cost r : Int} (hk : k < n) (G : wc_Gd n d T0 fl s p) (hc : c < d) (hg : ∀ w, w < n → g w < d) (hgf : ∀ j, j < k + 1 → g j = wc_fu f k c j) (hok : wc_ok mK g n = true)
    (hE : ∀ w b, k ≤ w → w < n → b < d → wc_Cl (e (18 * k + 3 * w + b)).toInt (wc_Z (wc_tI s) (wc_tI p) f k w b)) (hcost : cost ≤ fl.toInt + wc_T (wc_tI s) (wc_tI p) (wc_fu f k c) (k + 1))
    (hr : ∀ q : Nat → Nat, (∀ w, k < w → w < n → q w < d ∧ wc_in (mK w) (q w) = true) → r ≤ wc_sm (fun w => wc_nx e p k c w (q w)) n - wc_sm (fun w => wc_nx e p k c w (q w)) (k + 1)) : cost + r ≤ T0 g := by
  obtain ⟨G1, G2, G3, G4⟩ := G
  rw [wc_ok_iff] at hok
  have a := hr g (fun w h1 h2 => ⟨hg w h2, hok w h2⟩)
  have b := wc_sm_d (f := fun w => wc_nx e p k c w (g w)) (g := fun w => wc_Z (wc_tI s) (wc_tI p) g w w (g w)) (m := k + 1) (n := n) hk (fun w h1 h2 => by
    try dsimp only
    have hp := G3 k w c (g w) (by omega) h2 hc (hg w h2)
    have x := (wc_Cl_nx (k := k) (c := c) (w := w) (b := g w) (hE w (g w) (by omega) h2 (hg w h2)) hp).1.2.1
    have y : wc_Z (wc_tI s) (wc_tI p) g (k + 1) w (g w) = wc_Z (wc_tI s) (wc_tI p) f k w (g w) + (p ((6 * k + w) * 9 + 3 * c + g w)).toInt := by
      rw [wc_Z_s, wc_Z_c (g' := f) (fun i hi => by rw [hgf i (by omega), wc_fu_n (by omega)]), hgf k (by omega), wc_fu_s]
      rfl
    have z : wc_Z (wc_tI s) (wc_tI p) g (k + 1) w (g w) ≤ wc_Z (wc_tI s) (wc_tI p) g w w (g w) := by
      unfold wc_Z
      have m := wc_sm_d (f := fun _ => 0) (g := fun i => wc_tI p ((6 * i + w) * 9 + 3 * g i + g w)) (m := k + 1) (n := w) h1 (fun i i1 i2 => G3 i w (g i) (g w) i2 h2 (hg i (by omega)) (hg w h2))
      have m0 : ∀ q, wc_sm (fun _ => 0) q = 0 := by
        intro q
        induction q with
        | zero => rfl
        | succ q ih => rw [wc_sm_s, ih]; rfl
      rw [m0, m0] at m
      omega
    omega)
  have t : wc_T (wc_tI s) (wc_tI p) (wc_fu f k c) (k + 1) = wc_T (wc_tI s) (wc_tI p) g (k + 1) := wc_T_c (fun i hi => (hgf i hi).symm)
  have u := G4 g hg
  rw [t] at hcost
  unfold wc_T at hcost u
  omega
/-- skipping a range -/
theorem wc_skip {Q : Nat → Prop} {a : Nat} : ∀ (m : Nat), (∀ x, a ≤ x → x < a + m → Q x → Q (x + 1)) → Q a → Q (a + m)
  | 0, _, h => h
  | m + 1, hs, h => hs (a + m) (by omega) (by omega) (wc_skip m (fun x h1 h2 => hs x h1 (by omega)) h)
theorem wc_pw {d n k : Nat} (hk : k < n) : d * d ^ (n - 1 - (k + 1)) = d ^ (n - 1 - k) ∨ k + 1 = n := by
  rcases Nat.lt_or_ge (k + 1) n with z | z
  · left
    have q : n - 1 - k = (n - 1 - (k + 1)) + 1 := by omega
    rw [q, Nat.pow_succ, Nat.mul_comm]
  · right; omega
end
section
/-! search: the loop -/
theorem wc_mu_1 {n d : Nat} {f : Nat → Nat} {k e : Nat} : 1 ≤ wc_mu n d f k e := by
  cases k with
  | zero =>
    show 1 ≤ (d - e) * (1 + wc_g d (n - 1)) + 1
    omega
  | succ k =>
    show 1 ≤ (d - e) * (1 + wc_g d (n - 2 - k)) + 1 + wc_mu n d f k (f k + 1)
    omega
theorem wc_nm1 {n : Nat} (h : 0 < n) : nI n - 1 = nI (n - 1) := by
  obtain ⟨q, rfl⟩ : ∃ q, n = q + 1 := ⟨n - 1, by omega⟩
  rw [nI_pred]; rfl
theorem wc_fu_lt {d k e : Nat} {f : Nat → Nat} (hf : ∀ j, j < k → f j < d) (he : e < d) : ∀ j, j < k + 1 → wc_fu f k e j < d := by
  intro j hj
  by_cases z : j = k
  · subst z; rw [wc_fu_s]; exact he
  · rw [wc_fu_n z]; exact hf j (by omega)
theorem wc_room {n d k e : Nat} {f : Nat → Nat} (hk : k < n) (hf : ∀ j, j < k → f j < d) (he : e < d) : (wc_nu d f k * d + (e + 1)) * d ^ (n - 1 - k) ≤ d ^ n := by
  have a := wc_nu_lt (d := d) (f := wc_fu f k e) (k := k + 1) (wc_fu_lt hf he)
  rw [wc_nu_s, wc_fu_s, wc_nu_c (f' := f) (fun j hj => wc_fu_n (by omega))] at a
  have b : (wc_nu d f k * d + (e + 1)) * d ^ (n - 1 - k) ≤ d ^ (k + 1) * d ^ (n - 1 - k) := Nat.mul_le_mul_right _ a
  have q : (k + 1) + (n - 1 - k) = n := by omega
  rw [← Nat.pow_add, q] at b
  exact b
theorem wc_Qskip {n d k e : Nat} {f : Nat → Nat} {Q : Nat → Prop} (hd : 0 < d) (hk : k < n) (hf : ∀ j, j < k → f j < d) (he : e < d) (hs : ∀ x, (∀ j, j < k + 1 → wc_dg d n x j = wc_fu f k e j) → x < d ^ n → Q x → Q (x + 1)) (h : Q ((wc_nu d f k * d + e) * d ^ (n - 1 - k))) : Q ((wc_nu d f k * d + (e + 1)) * d ^ (n - 1 - k)) := by
  have q : (wc_nu d f k * d + (e + 1)) * d ^ (n - 1 - k) = (wc_nu d f k * d + e) * d ^ (n - 1 - k) + d ^ (n - 1 - k) := by
    rw [← Nat.add_assoc, Nat.succ_mul]
  have a := wc_room hk hf he
  rw [q]
  refine wc_skip _ (fun x h1 h2 => hs x (wc_under hd hk hf he h1 (by rw [q]; exact h2)) ?_) h
  omega
theorem wc_Qpop {n d k : Nat} {f : Nat → Nat} {Q : Nat → Prop} (hk : k + 1 < n) (h : Q ((wc_nu d f (k + 1) * d + d) * d ^ (n - 1 - (k + 1)))) : Q ((wc_nu d f k * d + (f k + 1)) * d ^ (n - 1 - k)) := by
  have q : (wc_nu d f (k + 1) * d + d) * d ^ (n - 1 - (k + 1)) = (wc_nu d f k * d + (f k + 1)) * d ^ (n - 1 - k) := by
    rw [← Nat.succ_mul, Nat.mul_assoc]
    rcases wc_pw (d := d) (n := n) (k := k) (by omega) with z | z
    · rw [z]; rfl
    · omega
  rw [← q]; exact h
theorem wc_Qdesc {n d k e : Nat} {f : Nat → Nat} {Q : Nat → Prop} (hk : k + 1 < n) (h : Q ((wc_nu d f k * d + e) * d ^ (n - 1 - k))) : Q ((wc_nu d (wc_fu f k e) (k + 1) * d + 0) * d ^ (n - 1 - (k + 1))) := by
  have q : (wc_nu d (wc_fu f k e) (k + 1) * d + 0) * d ^ (n - 1 - (k + 1)) = (wc_nu d f k * d + e) * d ^ (n - 1 - k) := by
    rw [wc_nu_s, wc_fu_s, wc_nu_c (f' := f) (fun j hj => wc_fu_n (by omega)), Nat.add_zero, Nat.mul_assoc]
    rcases wc_pw (d := d) (n := n) (k := k) (by omega) with z | z
    · rw [z]
    · omega
  rw [q]; exact h
def wc_Iv (n d : Nat) (fl : Int32) (sG pR : Nat → Int32) (f : Nat → Nat) (k : Nat) (eX rE : Nat → Int32) : Prop :=
  (∀ j, j ≤ k → (rE j).toInt ≤ 42000000 * ((j : Int) + 1) ∧ wc_Cl (rE j).toInt (fl.toInt + wc_T (wc_tI sG) (wc_tI pR) f j)) ∧
  (∀ j w b, j ≤ k → j ≤ w → w < n → b < d → (eX (18 * j + 3 * w + b)).toInt ≤ 42000000 ∧ wc_Cl (eX (18 * j + 3 * w + b)).toInt (wc_Z (wc_tI sG) (wc_tI pR) f j w b))
theorem wc_Iv_e {n d : Nat} {fl : Int32} {sG pR eX rE e' : Nat → Int32} {f : Nat → Nat} {k : Nat} (hn : n ≤ 6) (hd3 : d ≤ 3) (h : wc_Iv n d fl sG pR f k eX rE) (he : ∀ i, i < 18 * k + 18 → e' i = eX i) : wc_Iv n d fl sG pR f k e' rE := by
  refine ⟨h.1, fun j w b h1 h2 h3 h4 => ?_⟩
  rw [he _ (by omega)]
  exact h.2 j w b h1 h2 h3 h4
theorem wc_Iv_d {n d : Nat} {fl : Int32} {sG pR eX rE : Nat → Int32} {f : Nat → Nat} {k : Nat} (h : wc_Iv n d fl sG pR f (k + 1) eX rE) : wc_Iv n d fl sG pR f k eX rE :=
  ⟨fun j hj => h.1 j (by omega), fun j w b h1 h2 h3 h4 => h.2 j w b (by omega) h2 h3 h4⟩
theorem wc_Iv_cost {n d : Nat} {fl c : Int32} {sG pR eX rE : Nat → Int32} {f : Nat → Nat} {k e : Nat} (hn : n ≤ 6) (hk : k < n) (he : e < d) (h : wc_Iv n d fl sG pR f k eX rE) (hc : c = rE k + eX (18 * k + 3 * k + e)) : c.toInt ≤ 42000000 * (((k + 1 : Nat) : Int) + 1) ∧ wc_Cl c.toInt (fl.toInt + wc_T (wc_tI sG) (wc_tI pR) (wc_fu f k e) (k + 1)) := by
  obtain ⟨a1, a2⟩ := h.1 k (Nat.le_refl k)
  obtain ⟨b1, b2⟩ := h.2 k k e (Nat.le_refl k) (Nat.le_refl k) hk he
  have q1 := a2.1
  have q2 := b2.1
  have es : c.toInt = (rE k).toInt + (eX (18 * k + 3 * k + e)).toInt := by
    rw [hc]; exact Jvm.Kit.i32_add (by omega) (by omega)
  have et : fl.toInt + wc_T (wc_tI sG) (wc_tI pR) (wc_fu f k e) (k + 1) = (fl.toInt + wc_T (wc_tI sG) (wc_tI pR) f k) + wc_Z (wc_tI sG) (wc_tI pR) f k k e := by
    rw [wc_T_s, wc_fu_s, wc_T_c (g' := f) (fun i hi => wc_fu_n (by omega)), wc_Z_c (g' := f) (fun i hi => wc_fu_n (by omega))]
    omega
  rw [es, et]
  exact ⟨by omega, wc_Cl_add a2 b2⟩
theorem wc_Iv_up {n d : Nat} {T0 : (Nat → Nat) → Int} {fl c : Int32} {sG pR eX rE e' : Nat → Int32} {f : Nat → Nat} {k e : Nat} (hn : n ≤ 6) (hd3 : d ≤ 3) (hk : k < n) (he : e < d) (G : wc_Gd n d T0 fl sG pR) (h : wc_Iv n d fl sG pR f k eX rE) (hc : c = rE k + eX (18 * k + 3 * k + e)) (h1 : ∀ w b, k < w → w < n → b < d → (e' (18 * k + 18 + 3 * w + b)).toInt = wc_nx eX pR k e w b) (h2 : ∀ i, i < 18 * k + 18 → e' i = eX i) : wc_Iv n d fl sG pR (wc_fu f k e) (k + 1) e' (upd rE (k + 1) c) := by
  refine ⟨fun j hj => ?_, fun j w b hj hw hwn hb => ?_⟩
  · by_cases z : j = k + 1
    · subst z
      rw [pk_us]
      exact wc_Iv_cost hn hk he h hc
    · rw [pk_un z, wc_T_c (g' := f) (fun i hi => wc_fu_n (by omega))]
      exact h.1 j (by omega)
  · by_cases z : j = k + 1
    · subst z
      have hp := G.2.2.1 k w e b (by omega) hwn he hb
      have q := wc_Cl_nx (p := pR) (c := e) (h.2 k w b (Nat.le_refl k) (by omega) hwn hb).2 hp
      have y : wc_Z (wc_tI sG) (wc_tI pR) (wc_fu f k e) (k + 1) w b = wc_Z (wc_tI sG) (wc_tI pR) f k w b + (pR ((6 * k + w) * 9 + 3 * e + b)).toInt := by
        rw [wc_Z_s, wc_Z_c (g' := f) (fun i hi => wc_fu_n (by omega)), wc_fu_s]
        rfl
      have ix : 18 * (k + 1) + 3 * w + b = 18 * k + 18 + 3 * w + b := by omega
      rw [ix, h1 w b (by omega) hwn hb, y]
      exact ⟨q.2, q.1⟩
    · rw [h2 _ (by omega), wc_Z_c (g' := f) (fun i hi => wc_fu_n (by omega))]
      exact h.2 j w b (by omega) hw hwn hb
section
variable {n d : Nat} {fl cu ab cn cg oL oH oV oW : Int32} {tU tB tA mK sG pR eX rE vA fB : Nat → Int32}
theorem wc_search47 {post : SX → Prop} {T0 : (Nat → Nat) → Int} {Q : Nat → Int32 → Int32 → (Nat → Int32) → Prop} (hn2 : 2 ≤ n) (hn : n ≤ 6) (hd : 1 < d) (hd3 : d ≤ 3) (hT : ∀ g : Nat → Nat, (∀ w, w < n → g w < d) → T0 g ≤ 42000000) (G : wc_Gd n d T0 fl sG pR)
    (H2 : ∀ (x : Nat) (cu cn : Int32) (fB : Nat → Int32), x < d ^ n → (wc_ok mK (wc_dg d n x) n = true → cu.toInt ≤ T0 (wc_dg d n x)) → Q x cu cn fB → Q (x + 1) cu cn fB)
    (H1 : ∀ (x : Nat) (cu cn : Int32) (fB eX rE vA : Nat → Int32) (c : Int32) (po : SX → Prop), x < d ^ n → wc_ok mK (wc_dg d n x) n = true → wc_Cl c.toInt (T0 (wc_dg d n x)) → (∀ w, w < n → vA w = nI (wc_dg d n x w)) → Q x cu cn fB → (∀ (cu' cn' : Int32) (fB' : Nat → Int32), Q (x + 1) cu' cn' fB' → po (nI n, nI d, fl, cu', ab, cn', cg, oL, oH, oV, oW, tU, tB, tA, mK, sG, pR, eX, rE, vA, fB')) → wpX_arrive po (nI n, nI d, fl, cu, ab, cn, cg, oL, oH, oV, oW, tU, tB, tA, mK, sG, pR, eX, rE, vA, fB) c)
    (hpost : ∀ (cu cn : Int32) (eX rE vA fB : Nat → Int32), Q (d ^ n) cu cn fB → post (nI n, nI d, fl, cu, ab, cn, cg, oL, oH, oV, oW, tU, tB, tA, mK, sG, pR, eX, rE, vA, fB)) :
    ∀ (m k e st : Nat) (f : Nat → Nat) (fu : Nat) (cu cn : Int32) (eX rE vA fB : Nat → Int32), k < n → e ≤ d → wc_mu n d f k e ≤ m → m < fu → st + m ≤ 3999 → (∀ j, j < k → f j < d) → (∀ j, j < k → wc_in (mK j) (f j) = true) → (∀ j, j < k → vA j = nI (f j)) → vA k + 1 = nI e → wc_Iv n d fl sG pR f k eX rE → Q ((wc_nu d f k * d + e) * d ^ (n - 1 - k)) cu cn fB → wX_search_47 post fu (nI k) (nI st) (nI n) (nI d) fl cu ab cn cg oL oH oV oW tU tB tA mK sG pR eX rE vA fB := by
  intro m
  induction m with
  | zero =>
    intro k e st f fu cu cn eX rE vA fB _ _ h
    have q := wc_mu_1 (n := n) (d := d) (f := f) (k := k) (e := e)
    omega
  | succ m ih =>
    intro k e st f fu cu cn eX rE vA fB hk he hmu hfu hst hf hfm hva hve hI hQ
    obtain ⟨fu, rfl⟩ : ∃ q, fu = q + 1 := ⟨fu - 1, by omega⟩
    have cl : (nI k).toNatClampNeg = k := nI_clamp (by omega)
    have i7 : vp_in (nI k) 7 := vp_in_nI (by omega) (by omega)
    have i6 : vp_in (nI k) 6 := vp_in_nI (by omega) (by omega)
    refine br_f (nI_ge (a := st) (b := 4000) (by omega) (by omega)) ⟨i7, i7, fun y ey => ⟨i7, ?_⟩⟩
    rw [cl, hve] at ey
    subst ey
    have ek : upd vA k (nI e) (nI k).toNatClampNeg = nI e := by rw [cl, pk_us]
    rw [ek]
    have va' : ∀ j, j < k → upd vA k (nI e) j = nI (f j) := by
      intro j hj
      rw [pk_un (by omega)]; exact hva j hj
    have ve' : upd vA k (nI e) k + 1 = nI (e + 1) := by rw [pk_us, nI_1]
    refine pk_eq e d (fun h => ?_) (fun h => ?_)
    · subst h
      intro y ey
      cases k with
      | zero =>
        refine br_f (by rw [ey]; decide) ?_
        refine hpost _ _ _ _ _ _ ?_
        have q : (wc_nu e f 0 * e + e) * e ^ (n - 1 - 0) = e ^ n := by
          show (0 * e + e) * e ^ (n - 1 - 0) = e ^ n
          rw [Nat.zero_mul, Nat.zero_add, Nat.sub_zero, Nat.mul_comm, ← Nat.pow_succ]
          congr 1
          omega
        rw [q] at hQ; exact hQ
      | succ k =>
        rw [pk_m1] at ey
        subst ey
        refine br_t (nI_pos' (by omega)) (fun x ex => ?_)
        rw [nI_1] at ex
        subst ex
        have a := wc_mu_pop (n := n) (d := e) (f := f) (k := k) (e := e)
        exact ih k (f k + 1) (st + 1) f fu _ _ _ _ _ _ (by omega) (hf k (by omega)) (by omega) (by omega) (by omega) (fun j hj => hf j (by omega)) (fun j hj => hfm j (by omega)) (fun j hj => va' j (by omega)) (by rw [va' k (by omega), nI_1]) (wc_Iv_d hI) (wc_Qpop (Q := fun x => Q x cu cn fB) hk hQ)
    · have hed : e < d := by omega
      have a := wc_mu_skip (n := n) (d := d) (f := f) (k := k) hed
      refine ⟨i6, i7, br_c (fun c => ?_) (fun c => ?_)⟩
      · rw [cl, ← wc_in_t] at c
        refine ⟨i7, i7, pk_in (18 * k + 3 * k + e) 126 (by omega) (wc_i18 k k e), fun x3 ex3 => ?_⟩
        rw [cl, wc_i18, nI_clamp (by omega)] at ex3
        obtain ⟨c1, c2⟩ := wc_Iv_cost hn hk hed hI ex3
        have c0 := c2.1
        refine pk_eq k (n - 1) (fun hkn => ?_) (fun hkn => ?_) rfl (wc_nm1 (by omega))
        · have hx0 : (wc_nu d f k * d + e) * d ^ (n - 1 - k) = wc_nu d f k * d + e := by
            have q : n - 1 - k = 0 := by omega
            rw [q, Nat.pow_zero, Nat.mul_one]
          have hx1 : (wc_nu d f k * d + (e + 1)) * d ^ (n - 1 - k) = wc_nu d f k * d + e + 1 := by
            have q : n - 1 - k = 0 := by omega
            rw [q, Nat.pow_zero, Nat.mul_one]; omega
          have hr := wc_room hk hf hed
          have hdg := wc_under (x := wc_nu d f k * d + e) (by omega) hk hf hed (by omega) (by omega)
          have hk1 : k + 1 = n := by omega
          rw [hk1] at hdg c2
          have hT' : T0 (wc_dg d n (wc_nu d f k * d + e)) = fl.toInt + wc_T (wc_tI sG) (wc_tI pR) (wc_fu f k e) n := by
            rw [← G.2.2.2 _ (fun w _ => wc_dg_lt (by omega) n _ w), wc_T_c hdg]
          refine H1 (wc_nu d f k * d + e) cu cn fB eX rE _ x3 _ (by omega) ?_ ?_ ?_ ?_ (fun cu' cn' fB' hQ' => ?_)
          · rw [wc_ok_iff]
            intro w hw
            rw [hdg w hw]
            by_cases z : w = k
            · subst z; rw [wc_fu_s]; exact c
            · rw [wc_fu_n z]; exact hfm w (by omega)
          · rw [hT']; exact c2
          · intro w hw
            rw [hdg w hw]
            by_cases z : w = k
            · subst z; rw [wc_fu_s, pk_us]
            · rw [wc_fu_n z]; exact va' w (by omega)
          · rw [hx0] at hQ; exact hQ
          · intro x ex
            rw [nI_1] at ex
            subst ex
            exact ih k (e + 1) (st + 1) f fu _ _ _ _ _ _ hk hed (by omega) (by omega) (by omega) hf hfm va' ve' hI (by rw [hx1]; exact hQ')
        · have hkn' : k + 1 < n := by omega
          have hB := wc_Gd_bd (by omega) hT G
          refine wc_remaining (c := e) hn hd3 hk (by omega) pk_us (fun w b h1 h2 h3 => ⟨(hI.2 k w b (Nat.le_refl k) (by omega) h2 h3).2.1, (hI.2 k w b (Nat.le_refl k) (by omega) h2 h3).1⟩) (fun w b h1 h2 h3 => ⟨G.2.2.1 k w e b h1 h2 hed h3, hB.2.2 k w e b h1 h2 hed h3⟩) (fun r e' r0 r1 r2 r3 r4 => ?_)
          have es : (x3 + r).toInt = x3.toInt + r.toInt := Jvm.Kit.i32_add (by omega) (by omega)
          refine br_c (fun p => ?_) (fun p => ?_)
          · rw [Int32.le_iff_toInt_le, es] at p
            intro x ex
            rw [nI_1] at ex
            subst ex
            refine ih k (e + 1) (st + 1) f fu _ _ _ _ _ _ hk hed (by omega) (by omega) (by omega) hf hfm va' ve' (wc_Iv_e hn hd3 hI r4) ?_
            refine wc_Qskip (Q := fun x => Q x cu cn fB) (by omega) hk hf hed (fun x hx hxn q => ?_) hQ
            refine H2 x cu cn fB hxn (fun hok => ?_) q
            have z := wc_prune (f := f) (g := wc_dg d n x) (c := e) (e := eX) (cost := x3.toInt) (r := r.toInt) hk G hed (fun w _ => wc_dg_lt (by omega) n x w) hx hok (fun w b h1 h2 h3 => (hI.2 k w b (Nat.le_refl k) h1 h2 h3).2) c2.2.1 r2
            omega
          · intro y ey
            rw [nI_1] at ey
            subst ey
            have i71 : vp_in (nI (k + 1)) 7 := vp_in_nI (by omega) (by omega)
            have cl1 : (nI (k + 1)).toNatClampNeg = k + 1 := nI_clamp (by omega)
            refine ⟨i71, fun y ey => ⟨i71, fun z ez x ex => ?_⟩⟩
            rw [nI_1] at ex
            rw [cl1] at ey ez
            subst ey ez ex
            have b := wc_mu_desc (n := n) (d := d) (f := wc_fu f k e) (k := k) hkn' (by rw [wc_fu_s]; exact hed)
            rw [wc_fu_s, wc_mu_c (f := wc_fu f k e) (f' := f) (k := k) (e := e) (fun j hj => wc_fu_n (by omega))] at b
            refine ih (k + 1) 0 (st + 1) (wc_fu f k e) fu _ _ _ _ _ _ hkn' (by omega) (by omega) (by omega) (by omega) (wc_fu_lt hf hed) ?_ ?_ ?_ (wc_Iv_up hn hd3 hk hed G hI ex3 r3 r4) (wc_Qdesc (Q := fun x => Q x cu cn fB) hkn' hQ)
            · intro j hj
              by_cases z : j = k
              · subst z; rw [wc_fu_s]; exact c
              · rw [wc_fu_n z]; exact hfm j (by omega)
            · intro j hj
              rw [pk_un (by omega)]
              by_cases z : j = k
              · subst z; rw [wc_fu_s, pk_us]
              · rw [wc_fu_n z]; exact va' j (by omega)
            · rw [pk_us]; decide
      · rw [cl, ← wc_in_n] at c
        intro x ex
        rw [nI_1] at ex
        subst ex
        refine ih k (e + 1) (st + 1) f fu _ _ _ _ _ _ hk hed (by omega) (by omega) (by omega) hf hfm va' ve' hI ?_
        refine wc_Qskip (Q := fun x => Q x cu cn fB) (by omega) hk hf hed (fun x hx hxn q => ?_) hQ
        refine H2 x cu cn fB hxn (fun hok => ?_) q
        rw [wc_ok_iff] at hok
        have z := hok k hk
        rw [hx k (by omega), wc_fu_s, c] at z
        exact absurd z (by decide)
end
end
section
/-! search, arrive, least, count -/
def wc_F (ov : Int32) (f : Nat → Int) (x : Nat) : Int := if ov.toInt < f x then f x else 1000000
theorem wc_F_t {ov : Int32} {f : Nat → Int} {x : Nat} (h : ov.toInt < f x) : wc_F ov f x = f x := if_pos h
theorem wc_F_f {ov : Int32} {f : Nat → Int} {x : Nat} (h : ¬ ov.toInt < f x) : wc_F ov f x = 1000000 := if_neg h
theorem wc_F_big {ov : Int32} {f : Nat → Int} {x : Nat} {c : Int} (h : c ≤ f x) (hc : c ≤ 1000000) : c ≤ wc_F ov f x := by
  by_cases q : ov.toInt < f x
  · rw [wc_F_t q]; exact h
  · rw [wc_F_f q]; exact hc
theorem wc_cv_t {n d : Nat} {mK U B : Nat → Int32} {x : Nat} (h : wc_ok mK (wc_dg d n x) n = true) : wc_cv n d mK U B x = wc_tc U B (wc_dg d n x) n := if_pos h
theorem wc_cv_f {n d : Nat} {mK U B : Nat → Int32} {x : Nat} (h : ¬ wc_ok mK (wc_dg d n x) n = true) : wc_cv n d mK U B x = 1000000 := if_neg h
theorem wc_5L : (500000 : Int32).toInt = 500000 := by decide
section
variable {n d : Nat} {fl cu ab cn cg oL oH oV oW : Int32} {tU tB tA mK sG pR eX rE vA fB : Nat → Int32}
theorem wc_search2 {post : SX → Prop} (hK : ∀ e : Nat → Int32, (∀ k, k < 18 → e k = sG k) → ∃ n47, wX_search_47 post n47 0 0 (nI n) (nI d) fl cu ab cn cg oL oH oV oW tU tB tA mK sG pR e (upd rE 0 fl) (upd vA 0 (-1)) fB) :
    ∀ (f j : Nat) (e : Nat → Int32), j ≤ 18 → 18 - j < f → (∀ k, k < j → e k = sG k) → wX_search_2 post (nI n) (nI d) fl cu ab cn cg oL oH oV oW f (nI j) tU tB tA mK sG pR e rE vA fB := by
  intro f
  induction f with
  | zero => intro j e h1 h2; omega
  | succ f ih =>
    intro j e h1 h2 h3
    refine pk_le 18 j (fun h => ?_) (fun h => ?_)
    · obtain rfl : j = 18 := by omega
      intro y ey x ex
      subst ey ex
      exact hK e h3
    · refine ⟨vp_in_nI h (by omega), vp_in_nI (by omega) (by omega), fun y ey x ex => ?_⟩
      rw [nI_clamp (by omega)] at ey
      rw [nI_1] at ex
      subst ey ex
      refine ih (j + 1) _ (by omega) (by omega) ?_
      intro k hk
      by_cases z : k = j
      · subst z; rw [pk_us]
      · rw [pk_un z]; exact h3 k (by omega)
theorem wc_search {post : SX → Prop} {T0 : (Nat → Nat) → Int} {Q : Nat → Int32 → Int32 → (Nat → Int32) → Prop} (hn2 : 2 ≤ n) (hn : n ≤ 6) (hd : 1 < d) (hd3 : d ≤ 3) (hT : ∀ g : Nat → Nat, (∀ w, w < n → g w < d) → T0 g ≤ 42000000) (G : wc_Gd n d T0 fl sG pR)
    (H2 : ∀ (x : Nat) (cu cn : Int32) (fB : Nat → Int32), x < d ^ n → (wc_ok mK (wc_dg d n x) n = true → cu.toInt ≤ T0 (wc_dg d n x)) → Q x cu cn fB → Q (x + 1) cu cn fB)
    (H1 : ∀ (x : Nat) (cu cn : Int32) (fB eX rE vA : Nat → Int32) (c : Int32) (po : SX → Prop), x < d ^ n → wc_ok mK (wc_dg d n x) n = true → wc_Cl c.toInt (T0 (wc_dg d n x)) → (∀ w, w < n → vA w = nI (wc_dg d n x w)) → Q x cu cn fB → (∀ (cu' cn' : Int32) (fB' : Nat → Int32), Q (x + 1) cu' cn' fB' → po (nI n, nI d, fl, cu', ab, cn', cg, oL, oH, oV, oW, tU, tB, tA, mK, sG, pR, eX, rE, vA, fB')) → wpX_arrive po (nI n, nI d, fl, cu, ab, cn, cg, oL, oH, oV, oW, tU, tB, tA, mK, sG, pR, eX, rE, vA, fB) c)
    (hQ : Q 0 cu cn fB)
    (hpost : ∀ (cu cn : Int32) (eX rE vA fB : Nat → Int32), Q (d ^ n) cu cn fB → post (nI n, nI d, fl, cu, ab, cn, cg, oL, oH, oV, oW, tU, tB, tA, mK, sG, pR, eX, rE, vA, fB)) : wpX_search post (nI n, nI d, fl, cu, ab, cn, cg, oL, oH, oV, oW, tU, tB, tA, mK, sG, pR, eX, rE, vA, fB) := by
  refine ⟨19, wc_search2 (fun e he => ⟨1457, ?_⟩) 19 0 eX (by omega) (by omega) (fun k hk => by omega)⟩
  have hB := wc_Gd_bd (by omega) hT G
  refine wc_search47 hn2 hn hd hd3 hT G H2 H1 hpost 1456 0 0 0 (fun _ => 0) 1457 cu cn e _ _ fB (by omega) (by omega) (wc_mu_0 _ hn2 hn hd hd3) (by omega) (by omega) (fun j hj => by omega) (fun j hj => by omega) (fun j hj => by omega) (by rw [pk_us]; decide) ?_ ?_
  · refine ⟨fun j hj => ?_, fun j w b hj hw hwn hb => ?_⟩
    · obtain rfl : j = 0 := by omega
      rw [pk_us]
      have z : wc_T (wc_tI sG) (wc_tI pR) (fun _ => 0) 0 = 0 := rfl
      have g1 := G.1
      have g2 := hB.1
      rw [z]
      exact ⟨by omega, by omega, by omega, Or.inl (by omega)⟩
    · obtain rfl : j = 0 := by omega
      have q : 18 * 0 + 3 * w + b = 3 * w + b := by omega
      have z : wc_Z (wc_tI sG) (wc_tI pR) (fun _ => 0) 0 w b = (sG (3 * w + b)).toInt := by
        show wc_tI sG (3 * w + b) + 0 = _
        rw [Int.add_zero]; rfl
      have g1 := G.2.1 w b hwn hb
      have g2 := hB.2.1 w b hwn hb
      rw [q, he _ (by omega), z]
      exact ⟨g2, g1, Int.le_refl _, Or.inl rfl⟩
  · have q : (wc_nu d (fun _ => 0) 0 * d + 0) * d ^ (n - 1 - 0) = 0 := by
      show (0 * d + 0) * d ^ (n - 1 - 0) = 0
      rw [Nat.zero_mul, Nat.zero_add, Nat.zero_mul]
    rw [q]; exact hQ
theorem wc_arrive51 {post : SX → Prop} (hn : n ≤ 6) (hpost : ∀ fB' : Nat → Int32, (∀ w, w < n → fB' w = vA w) → post (nI n, nI d, fl, cu, ab, cn, cg, oL, oH, oV, oW, tU, tB, tA, mK, sG, pR, eX, rE, vA, fB')) :
    ∀ (f j : Nat) (b : Nat → Int32), j ≤ n → n - j < f → (∀ w, w < j → b w = vA w) → wX_arrive_51 post (nI n) (nI d) fl cu ab cn cg oL oH oV oW f (nI j) tU tB tA mK sG pR eX rE vA b := by
  intro f
  induction f with
  | zero => intro j b h1 h2; omega
  | succ f ih =>
    intro j b h1 h2 h3
    refine pk_le n j (fun h => ?_) (fun h => ?_)
    · obtain rfl : j = n := by omega
      exact hpost b h3
    · refine ⟨vp_in_nI (by omega) (by omega), vp_in_nI (by omega) (by omega), fun y ey x ex => ?_⟩
      rw [nI_clamp (by omega)] at ey
      rw [nI_1] at ex
      subst ey ex
      refine ih (j + 1) _ (by omega) (by omega) ?_
      intro w hw
      by_cases z : w = j
      · subst z; rw [pk_us]
      · rw [pk_un z]; exact h3 w (by omega)
theorem wc_least {post : Int32 → SX → Prop} {ov : Int32} (hn2 : 2 ≤ n) (hn : n ≤ 6) (hd : 1 < d) (hd3 : d ≤ 3) (hI : wc_In n d tU tB)
    (hpost : ∀ (r fl cu ab cn cg : Int32) (sG pR eX rE vA fB : Nat → Int32), r.toInt = (if wc_mn (wc_F ov (wc_cv n d mK tU tB)) (d ^ n) < 500000 then wc_mn (wc_F ov (wc_cv n d mK tU tB)) (d ^ n) else -1) → (wc_mn (wc_F ov (wc_cv n d mK tU tB)) (d ^ n) < 500000 → ∀ w, w < n → fB w = nI (wc_dg d n (wc_fb (wc_F ov (wc_cv n d mK tU tB)) (d ^ n)) w)) → post r (nI n, nI d, fl, cu, ab, cn, cg, oL, oH, oV, oW, tU, tB, tA, mK, sG, pR, eX, rE, vA, fB)) : wpX_least post (nI n, nI d, fl, cu, ab, cn, cg, oL, oH, oV, oW, tU, tB, tA, mK, sG, pR, eX, rE, vA, fB) ov := by
  refine wc_prepare (fl := fl) hn2 hn hd hd3 hI (fun fl1 s1 p1 G => ?_)
  refine wc_search (T0 := wc_T0 n mK tU tB) (Q := fun x cu _ fB => cu.toInt = wc_mn (wc_F ov (wc_cv n d mK tU tB)) x ∧ (wc_mn (wc_F ov (wc_cv n d mK tU tB)) x < 500000 → ∀ w, w < n → fB w = nI (wc_dg d n (wc_fb (wc_F ov (wc_cv n d mK tU tB)) x) w))) hn2 hn hd hd3 (wc_T0_bd hn hI) G ?_ ?_ ⟨wc_5L, fun h => absurd h (by show ¬ (500000 : Int) < 500000; omega)⟩ ?_
  · intro x cu cn fB hx hok hQ
    have hle := wc_mn_le (wc_F ov (wc_cv n d mK tU tB)) x
    have hnot : ¬ wc_F ov (wc_cv n d mK tU tB) x < wc_mn (wc_F ov (wc_cv n d mK tU tB)) x := by
      have q : cu.toInt ≤ wc_F ov (wc_cv n d mK tU tB) x := by
        refine wc_F_big ?_ (by omega)
        by_cases k : wc_ok mK (wc_dg d n x) n = true
        · rw [wc_cv_t k, ← wc_T0_ok hd3 (fun w _ => wc_dg_lt (by omega) n x w) k]
          exact hok k
        · rw [wc_cv_f k]; omega
      omega
    try dsimp only
    rw [wc_mn_f hnot, wc_fb_f hnot]
    exact hQ
  · intro x cu cn fB eX rE vA c po hx hok hcl hva hQ hpo
    have hle := wc_mn_le (wc_F ov (wc_cv n d mK tU tB)) x
    have hT : wc_T0 n mK tU tB (wc_dg d n x) = wc_cv n d mK tU tB x := by
      rw [wc_cv_t hok]; exact wc_T0_ok hd3 (fun w _ => wc_dg_lt (by omega) n x w) hok
    rw [hT] at hcl
    obtain ⟨l1, l2, l3⟩ := hcl
    have keep : ¬ wc_F ov (wc_cv n d mK tU tB) x < wc_mn (wc_F ov (wc_cv n d mK tU tB)) x → po (nI n, nI d, fl1, cu, ov, cn, 0, oL, oH, oV, oW, tU, tB, tA, mK, s1, p1, eX, rE, vA, fB) := by
      intro hnot
      refine hpo cu cn fB ?_
      try dsimp only
      rw [wc_mn_f hnot, wc_fb_f hnot]
      exact hQ
    refine br_t rfl (br_c (fun h => ?_) (fun h => br_c (fun g => ?_) (fun g => ⟨n + 1, ?_⟩)))
    · rw [Int32.le_iff_toInt_le] at h
      refine keep ?_
      by_cases q : ov.toInt < wc_cv n d mK tU tB x
      · rw [wc_F_t q]; omega
      · rw [wc_F_f q]; omega
    · rw [Int32.le_iff_toInt_le] at g
      refine keep ?_
      have q : cu.toInt ≤ wc_F ov (wc_cv n d mK tU tB) x := wc_F_big (by omega) (by omega)
      omega
    · rw [Int32.le_iff_toInt_le] at h g
      have e : c.toInt = wc_cv n d mK tU tB x := by omega
      have q : wc_F ov (wc_cv n d mK tU tB) x = c.toInt := by rw [wc_F_t (by omega), e]
      have hlt : wc_F ov (wc_cv n d mK tU tB) x < wc_mn (wc_F ov (wc_cv n d mK tU tB)) x := by omega
      refine wc_arrive51 hn (fun fB' hfB => ?_) (n + 1) 0 fB (by omega) (by omega) (fun w hw => by omega)
      refine hpo c cn fB' ?_
      try dsimp only
      rw [wc_mn_t hlt, wc_fb_t hlt]
      exact ⟨q.symm, fun _ w hw => by rw [hfB w hw, hva w hw]⟩
  · intro cu cn eX rE vA fB hQ
    refine br_c (fun h => ?_) (fun h => ?_)
    · rw [Int32.le_iff_toInt_le, wc_5L] at h
      refine hpost _ _ _ _ _ _ _ _ _ _ _ _ ?_ hQ.2
      rw [if_neg (by omega)]; decide
    · rw [Int32.le_iff_toInt_le, wc_5L] at h
      refine hpost _ _ _ _ _ _ _ _ _ _ _ _ ?_ hQ.2
      rw [if_pos (by omega)]; exact hQ.1
theorem wc_count {post : Int32 → SX → Prop} {bo : Int32} (hn2 : 2 ≤ n) (hn : n ≤ 6) (hd : 1 < d) (hd3 : d ≤ 3) (hI : wc_In n d tU tB) (hb0 : 0 ≤ bo.toInt) (hb : bo.toInt < 500000)
    (hpost : ∀ (fl cu ab cn cg : Int32) (sG pR eX rE vA fB : Nat → Int32), post (nI (wc_ct (wc_cv n d mK tU tB) (bo.toInt + 1) (d ^ n))) (nI n, nI d, fl, cu, ab, cn, cg, oL, oH, oV, oW, tU, tB, tA, mK, sG, pR, eX, rE, vA, fB)) : wpX_count post (nI n, nI d, fl, cu, ab, cn, cg, oL, oH, oV, oW, tU, tB, tA, mK, sG, pR, eX, rE, vA, fB) bo := by
  refine wc_prepare (fl := fl) hn2 hn hd hd3 hI (fun fl1 s1 p1 G => ?_)
  intro y ey
  have e1 : y.toInt = bo.toInt + 1 := by
    have q : (1 : Int32).toInt = 1 := by decide
    rw [ey, Jvm.Kit.i32_add (by omega) (by omega), q]
  refine wc_search (T0 := wc_T0 n mK tU tB) (Q := fun x cu cn _ => cu.toInt = bo.toInt + 1 ∧ cn = nI (wc_ct (wc_cv n d mK tU tB) (bo.toInt + 1) x)) hn2 hn hd hd3 (wc_T0_bd hn hI) G ?_ ?_ ⟨e1, rfl⟩ ?_
  · intro x cu cn fB hx hok hQ
    have hnot : ¬ wc_cv n d mK tU tB x < bo.toInt + 1 := by
      by_cases k : wc_ok mK (wc_dg d n x) n = true
      · have q := hok k
        rw [wc_T0_ok hd3 (fun w _ => wc_dg_lt (by omega) n x w) k, ← wc_cv_t k] at q
        omega
      · rw [wc_cv_f k]; omega
    try dsimp only
    rw [wc_ct_f hnot]
    exact hQ
  · intro x cu cn fB eX rE vA c po hx hok hcl hva hQ hpo
    have hT : wc_T0 n mK tU tB (wc_dg d n x) = wc_cv n d mK tU tB x := by
      rw [wc_cv_t hok]; exact wc_T0_ok hd3 (fun w _ => wc_dg_lt (by omega) n x w) hok
    rw [hT] at hcl
    obtain ⟨l1, l2, l3⟩ := hcl
    refine br_f (by decide) (br_c (fun g => ?_) (fun g z ez => ?_))
    · rw [Int32.le_iff_toInt_le] at g
      refine hpo cu cn fB ?_
      try dsimp only
      rw [wc_ct_f (by omega)]
      exact hQ
    · rw [Int32.le_iff_toInt_le] at g
      subst ez
      refine hpo cu _ fB ?_
      try dsimp only
      rw [wc_ct_t (by omega), hQ.2, nI_1]
      exact ⟨hQ.1, rfl⟩
  · intro cu cn eX rE vA fB hQ
    have q := hQ.2
    try dsimp only at q
    subst q
    exact hpost _ _ _ _ _ _ _ _ _ _ _
end
end
section
/-! the reference: value, cost -/
theorem wc_sm_a (f g : Nat → Int) : ∀ n, wc_sm (fun i => f i + g i) n = wc_sm f n + wc_sm g n
  | 0 => rfl
  | n + 1 => by rw [wc_sm_s, wc_sm_s, wc_sm_s, wc_sm_a f g n]; omega
def wc_R (a : Nat → Int) (q : Nat → Nat → Int) (n u : Nat) : Int := a u + wc_sm (fun j => q u (u + 1 + j)) (n - 1 - u)
theorem wc_swap (a : Nat → Int) (q : Nat → Nat → Int) : ∀ n, wc_sm (wc_R a q n) n = wc_sm (fun w => a w + wc_sm (fun i => q i w) w) n
  | 0 => rfl
  | n + 1 => by
    rw [wc_sm_s, wc_sm_s, ← wc_swap a q n]
    have e : wc_sm (wc_R a q (n + 1)) n = wc_sm (fun u => wc_R a q n u + q u n) n := by
      refine wc_sm_c (fun u hu => ?_)
      unfold wc_R
      have z : n + 1 - 1 - u = (n - 1 - u) + 1 := by omega
      have y : u + 1 + (n - 1 - u) = n := by omega
      rw [z, wc_sm_s, y]; omega
    have e2 : wc_R a q (n + 1) n = a n := by
      unfold wc_R
      have z : n + 1 - 1 - n = 0 := by omega
      rw [z, wc_sm_z]; omega
    rw [e, e2, wc_sm_a]; omega
def wc_ga (one : Nat → Int32) (g : Nat → Nat) (u : Nat) : Int := wc_hc (one (3 * u + g u))
def wc_gq (two : Nat → Int32) (g : Nat → Nat) (u v : Nat) : Int := wc_hc (two ((6 * u + v) * 9 + 3 * g u + g v))
theorem wc_tc_R (one two : Nat → Int32) (g : Nat → Nat) (n : Nat) : wc_tc one two g n = wc_sm (wc_R (wc_ga one g) (wc_gq two g) n) n :=
  (wc_swap (wc_ga one g) (wc_gq two g) n).symm
def wc_yc (c : Int) : Int := if c < 500000 then c else -2
theorem wc_i9 (u v a b : Nat) : (9 : Int32) * (6 * nI u + nI v) + 3 * nI a + nI b = nI ((6 * u + v) * 9 + 3 * a + b) := by
  rw [show (3 : Int32) = nI 3 from rfl, show (6 : Int32) = nI 6 from rfl, show (9 : Int32) = nI 9 from rfl, pk_mul, pk_mul, nI_add, pk_mul, nI_add, nI_add]
  congr 1
  omega
theorem wc_m2 : (-2 : Int32).toInt = -2 := by decide
section
variable {n d N : Nat} {one two al : Nat → Int32}
theorem wc_yover {post : Int32 → Prop} {a b : Nat} (ha : a < 2 ^ 31) (h0 : 0 < b) (hb : b < 2 ^ 31) (hp : post (nI (a / b))) : wpY_over post (nI n, nI d, nI N, one, two, al) (nI a) (nI b) := by
  refine br_t (nI_le (a := 1) (by omega) hb) ⟨nI_ne0 h0 hb, ?_⟩
  rw [pk_div ha h0 hb]; exact hp
theorem wc_yrest {post : Int32 → Prop} {a b : Nat} (ha : a < 2 ^ 31) (h0 : 0 < b) (hb : b < 2 ^ 31) (hp : post (nI (a % b))) : wpY_rest post (nI n, nI d, nI N, one, two, al) (nI a) (nI b) := by
  refine br_t (nI_le (a := 1) (by omega) hb) ⟨nI_ne0 h0 hb, ?_⟩
  rw [pk_rem ha h0 hb]; exact hp
theorem wc_yval10 {post : Int32 → Prop} {x v : Nat} (hn : n ≤ 6) (hd : 1 < d) (hd3 : d ≤ 3) (hx : x < 2 ^ 31) (hv : v < n) (hp : post (nI (wc_dg d n x v))) :
    ∀ (f k : Nat), v ≤ k → k < n → k - v < f → wY_value_10 post (nI v) (nI n) (nI d) (nI N) one two al f (nI (x / d ^ (n - 1 - k))) (nI k) := by
  intro f
  induction f with
  | zero => intro k h1 h2 h3; omega
  | succ f ih =>
    intro k h1 h2 h3
    have hx' : x / d ^ (n - 1 - k) < 2 ^ 31 := Nat.lt_of_le_of_lt (Nat.div_le_self _ _) hx
    refine pk_le k v (fun h => ?_) (fun h => ?_)
    · obtain rfl : k = v := by omega
      exact wc_yrest hx' (by omega) (by omega) hp
    · refine wc_yover hx' (by omega) (by omega) (fun y ey => ?_)
      obtain ⟨k, rfl⟩ : ∃ q, k = q + 1 := ⟨k - 1, by omega⟩
      rw [pk_m1] at ey
      subst ey
      have q : n - 1 - k = (n - 1 - (k + 1)) + 1 := by omega
      have r := ih k (by omega) (by omega) (by omega)
      rw [q, Nat.pow_succ, ← Nat.div_div_eq_div_mul] at r
      exact r
theorem wc_yvalue {post : Int32 → Prop} {x v : Nat} (hn : n ≤ 6) (hd : 1 < d) (hd3 : d ≤ 3) (hx : x < 2 ^ 31) (hv : v < n) (hp : post (nI (wc_dg d n x v))) : wpY_value post (nI n, nI d, nI N, one, two, al) (nI x) (nI v) := by
  intro y ey
  rw [wc_nm1 (by omega)] at ey
  subst ey
  refine ⟨n + 1, ?_⟩
  have r := wc_yval10 (N := N) (one := one) (two := two) (al := al) hn hd hd3 hx hv hp (n + 1) (n - 1) (by omega) (by omega) (by omega)
  have q : n - 1 - (n - 1) = 0 := by omega
  rw [q, Nat.pow_zero, Nat.div_one] at r
  exact r
theorem wc_ycost81 {post : Int32 → Prop} {J : Int32 → Int32 → Prop} {x u : Nat} {s0 : Int} (hn : n ≤ 6) (hd : 1 < d) (hd3 : d ≤ 3) (hx : x < 2 ^ 31) (hI : wc_In n d one two) (hu : u < n) (hs : 0 ≤ s0) (hs2 : s0 ≤ 240 * (u : Int) + 40)
    (hbad : (∃ v, u < v ∧ v < n ∧ two ((6 * u + v) * 9 + 3 * wc_dg d n x u + wc_dg d n x v) = 99) → post (-2))
    (hJ : ∀ r : Int32, r.toInt = s0 + wc_sm (fun j => wc_gq two (wc_dg d n x) u (u + 1 + j)) (n - 1 - u) → 0 ≤ r.toInt → r.toInt ≤ 240 * (u : Int) + 240 → J r (nI (u + 1))) :
    ∀ (f j : Nat) (r : Int32), u + 1 + j ≤ n → n - j < f → r.toInt = s0 + wc_sm (fun j => wc_gq two (wc_dg d n x) u (u + 1 + j)) j → 0 ≤ r.toInt → r.toInt ≤ 240 * (u : Int) + 40 + 40 * (j : Int) → wY_cost_81 post J (nI x) (nI u) (nI (wc_dg d n x u)) (nI n) (nI d) (nI N) one two al f r (nI (u + 1 + j)) := by
  intro f
  induction f with
  | zero => intro j r h1 h2; omega
  | succ f ih =>
    intro j r h1 h2 h3 h4 h5
    refine pk_le n (u + 1 + j) (fun h => ?_) (fun h => ?_)
    · have q : n - 1 - u = j := by omega
      intro y ey
      rw [nI_1] at ey
      subst ey
      refine hJ r ?_ h4 (by omega)
      rw [q]; exact h3
    · refine br_f (nI_ge (a := u + 1 + j) (b := 6) (by omega) (by omega)) ?_
      refine wc_yvalue hn hd hd3 hx h ?_
      have g1 := wc_dg_lt (d := d) (by omega) n x u
      have g2 := wc_dg_lt (d := d) (by omega) n x (u + 1 + j)
      refine ⟨pk_in ((6 * u + (u + 1 + j)) * 9 + 3 * wc_dg d n x u + wc_dg d n x (u + 1 + j)) 324 (by omega) (wc_i9 u (u + 1 + j) _ _), fun y ey => ?_⟩
      rw [wc_i9, nI_clamp (by omega)] at ey
      have co := hI.2 u (u + 1 + j) (wc_dg d n x u) (wc_dg d n x (u + 1 + j)) (by omega) h g1 g2
      rw [← ey] at co
      refine br_c (fun e => ?_) (fun e z ez t et => ?_)
      · exact hbad ⟨u + 1 + j, by omega, h, by rw [← ey]; exact e⟩
      · obtain ⟨c1, c2, c3⟩ := wc_hc_n co e
        have er : z.toInt = r.toInt + y.toInt := by
          rw [ez]; exact Jvm.Kit.i32_add (by omega) (by omega)
        have et' : t = nI (u + 1 + (j + 1)) := by rw [et, nI_1]; rfl
        subst et'
        refine ih (j + 1) z (by omega) (by omega) ?_ (by omega) (by omega)
        rw [wc_sm_s, er, h3]
        have q : wc_gq two (wc_dg d n x) u (u + 1 + j) = y.toInt := by
          unfold wc_gq
          rw [← ey]; exact c1
        rw [q]; omega
theorem wc_ycost4 {post : Int32 → Prop} {x : Nat} (hn : n ≤ 6) (hd : 1 < d) (hd3 : d ≤ 3) (hx : x < 2 ^ 31) (hI : wc_In n d one two)
    (hpost : ∀ r : Int32, r.toInt = wc_yc (wc_cv n d al one two x) → post r) :
    ∀ (f u : Nat) (r : Int32), u ≤ n → n - u < f → (∀ w, w < u → wc_in (al w) (wc_dg d n x w) = true) → r.toInt = wc_sm (wc_R (wc_ga one (wc_dg d n x)) (wc_gq two (wc_dg d n x)) n) u → 0 ≤ r.toInt → r.toInt ≤ 240 * (u : Int) → wY_cost_4 post (nI x) (nI n) (nI d) (nI N) one two al f r (nI u) := by
  have gl : ∀ w, wc_dg d n x w < d := fun w => wc_dg_lt (by omega) n x w
  have qn : ∀ u j, u < n → j < n - 1 - u → 0 ≤ wc_gq two (wc_dg d n x) u (u + 1 + j) := fun u j hu hj => (wc_hc_b (hI.2 u (u + 1 + j) _ _ (by omega) (by omega) (gl u) (gl (u + 1 + j)))).1
  have an : ∀ u, u < n → 0 ≤ wc_ga one (wc_dg d n x) u := fun u hu => (wc_hc_b (hI.1 u _ hu (gl u))).1
  have rn : ∀ u, u < n → 0 ≤ wc_R (wc_ga one (wc_dg d n x)) (wc_gq two (wc_dg d n x)) n u := by
    intro u hu
    unfold wc_R
    have a := an u hu
    have b := wc_sm_0 (f := fun j => wc_gq two (wc_dg d n x) u (u + 1 + j)) (n := n - 1 - u) (fun j hj => qn u j hu hj)
    omega
  have big : ∀ u, u < n → 1000000 ≤ wc_R (wc_ga one (wc_dg d n x)) (wc_gq two (wc_dg d n x)) n u → post (-2) := by
    intro u hu h
    refine hpost _ ?_
    have t := wc_sm_t rn hu
    rw [← wc_tc_R] at t
    rw [wc_m2]
    unfold wc_yc
    rw [if_neg]
    by_cases k : wc_ok al (wc_dg d n x) n = true
    · rw [wc_cv_t k]; omega
    · rw [wc_cv_f k]; omega
  intro f
  induction f with
  | zero => intro u r h1 h2; omega
  | succ f ih =>
    intro u r h1 h2 h3 h4 h5 h6
    refine pk_le n u (fun h => ?_) (fun h => ?_)
    · obtain rfl : u = n := by omega
      refine hpost r ?_
      rw [← wc_tc_R] at h4
      rw [wc_cv_t (wc_ok_iff.mpr h3)]
      unfold wc_yc
      rw [if_pos (by omega)]; exact h4
    · refine br_f (nI_ge (a := u) (b := 6) (by omega) (by omega)) ?_
      refine wc_yvalue hn hd hd3 hx h ⟨vp_in_nI (by omega) (by omega), ?_⟩
      have cl : (nI u).toNatClampNeg = u := nI_clamp (by omega)
      have g1 := gl u
      refine br_c (fun c => ?_) (fun c => ?_)
      · rw [cl, ← wc_in_0] at c
        refine hpost _ ?_
        rw [wc_m2, wc_cv_f (fun k => by
          rw [wc_ok_iff] at k
          have z := k u h
          rw [c] at z
          exact absurd z (by decide))]
        decide
      · rw [cl, ← wc_in_0] at c
        have c' : wc_in (al u) (wc_dg d n x u) = true := by
          cases z : wc_in (al u) (wc_dg d n x u) with
          | true => rfl
          | false => exact absurd z c
        have hi : vp_in ((3 : Int32) * nI u + nI (wc_dg d n x u)) 18 := pk_in (3 * u + wc_dg d n x u) 18 (by omega) (wc_i2 u _)
        have ei : ((3 : Int32) * nI u + nI (wc_dg d n x u)).toNatClampNeg = 3 * u + wc_dg d n x u := by rw [wc_i2, nI_clamp (by omega)]
        have co := hI.1 u (wc_dg d n x u) h g1
        refine ⟨hi, br_c (fun e => ?_) (fun e => ⟨hi, fun y ey z ez => ?_⟩)⟩
        · rw [ei] at e
          refine big u h ?_
          unfold wc_R
          have b := wc_sm_0 (f := fun j => wc_gq two (wc_dg d n x) u (u + 1 + j)) (n := n - 1 - u) (fun j hj => qn u j h hj)
          have q : wc_ga one (wc_dg d n x) u = 1000000 := by
            unfold wc_ga
            rw [e]; exact wc_hc_99
          omega
        · rw [ei] at e ey
          rw [nI_1] at ez
          obtain ⟨c1, c2, c3⟩ := wc_hc_n co e
          have er : y.toInt = r.toInt + (one (3 * u + wc_dg d n x u)).toInt := by
            rw [ey]; exact Jvm.Kit.i32_add (by omega) (by omega)
          subst ez
          refine ⟨n + 1, ?_⟩
          refine wc_ycost81 (s0 := y.toInt) hn hd hd3 hx hI h (by omega) (by omega) (fun hb => ?_) (fun r' q1 q2 q3 => ?_) (n + 1) 0 y (by omega) (by omega) (by rw [wc_sm_z]; omega) (by omega) (by omega)
          · obtain ⟨v, hv1, hv2, hv3⟩ := hb
            refine big u h ?_
            unfold wc_R
            have a := an u h
            have b := wc_sm_t (f := fun j => wc_gq two (wc_dg d n x) u (u + 1 + j)) (n := n - 1 - u) (j := v - (u + 1)) (fun j hj => qn u j h hj) (by omega)
            have q : u + 1 + (v - (u + 1)) = v := by omega
            have q2 : wc_gq two (wc_dg d n x) u v = 1000000 := by
              unfold wc_gq
              rw [hv3]; exact wc_hc_99
            try dsimp only at b
            rw [q, q2] at b
            omega
          · refine ih (u + 1) r' (by omega) (by omega) ?_ ?_ q2 (by omega)
            · intro w hw
              by_cases z : w = u
              · subst z; exact c'
              · exact h3 w (by omega)
            · rw [q1, wc_sm_s, er, h4]
              unfold wc_R wc_ga
              omega
theorem wc_ycost {post : Int32 → Prop} {x : Nat} (hn : n ≤ 6) (hd : 1 < d) (hd3 : d ≤ 3) (hx : x < 2 ^ 31) (hI : wc_In n d one two)
    (hpost : ∀ r : Int32, r.toInt = wc_yc (wc_cv n d al one two x) → post r) : wpY_cost post (nI n, nI d, nI N, one, two, al) (nI x) :=
  ⟨n + 1, wc_ycost4 hn hd hd3 hx hI hpost (n + 1) 0 0 (by omega) (by omega) (fun w hw => by omega) (by rw [wc_sm_z]; decide) (by decide) (by decide)⟩
end
end
section
/-! the reference: its loops over all numbers -/
def wc_lv (k m : Int) : Int := if m < 500000 then m else k
theorem wc_z0 : (0 : Int32).toInt = 0 := by decide
theorem wc_lv_keep {f : Nat → Int} {x : Nat} {k : Int} {r : Int32} (h : ¬ f x < wc_mn f x) (hr : r.toInt = wc_lv k (wc_mn f x)) : r.toInt = wc_lv k (wc_mn f (x + 1)) := by
  rw [wc_mn_f h]; exact hr
theorem wc_lv_set {f : Nat → Int} {x : Nat} {k : Int} {r : Int32} (h : f x < wc_mn f x) (hr : r.toInt = f x) : r.toInt = wc_lv k (wc_mn f (x + 1)) := by
  have a := wc_mn_le f x
  rw [wc_mn_t h]
  unfold wc_lv
  rw [if_pos (by omega)]; exact hr
theorem wc_yc_n {r : Int32} {c : Int} (h : r.toInt = wc_yc c) (h0 : 0 ≤ c) (hr : r < 0) : 500000 ≤ c := by
  rw [Int32.lt_iff_toInt_lt, wc_z0, h] at hr
  unfold wc_yc at hr
  by_cases q : c < 500000
  · rw [if_pos q] at hr; omega
  · omega
theorem wc_yc_p {r : Int32} {c : Int} (h : r.toInt = wc_yc c) (hr : ¬ r < 0) : c < 500000 ∧ r.toInt = c := by
  rw [Int32.lt_iff_toInt_lt, wc_z0, h] at hr
  unfold wc_yc at hr h
  by_cases q : c < 500000
  · rw [if_pos q] at h; exact ⟨q, h⟩
  · rw [if_neg q] at hr; omega
theorem wc_lv_n {r : Int32} {k m : Int} (h : r.toInt = wc_lv k m) (h0 : 0 ≤ m) (hr : r < 0) : 500000 ≤ m := by
  rw [Int32.lt_iff_toInt_lt, wc_z0, h] at hr
  unfold wc_lv at hr
  by_cases q : m < 500000
  · rw [if_pos q] at hr; omega
  · omega
theorem wc_lv_p {r : Int32} {k m : Int} (h : r.toInt = wc_lv k m) (hk : k < 0) (hr : ¬ r < 0) : m < 500000 ∧ r.toInt = m := by
  rw [Int32.lt_iff_toInt_lt, wc_z0, h] at hr
  unfold wc_lv at hr h
  by_cases q : m < 500000
  · rw [if_pos q] at h; exact ⟨q, h⟩
  · rw [if_neg q] at hr; omega
theorem wc_lv_0 {r : Int32} {k : Int} {f : Nat → Int} (h : r.toInt = k) : r.toInt = wc_lv k (wc_mn f 0) := by
  show r.toInt = if (500000 : Int) < 500000 then 500000 else k
  rw [if_neg (by omega)]; exact h
def wc_fl (P : Nat → Bool) (f : Nat → Int) (x : Nat) : Int := if P x = true then f x else 1000000
theorem wc_fl_t {P : Nat → Bool} {f : Nat → Int} {x : Nat} (h : P x = true) : wc_fl P f x = f x := if_pos h
theorem wc_fl_f {P : Nat → Bool} {f : Nat → Int} {x : Nat} (h : ¬ P x = true) : wc_fl P f x = 1000000 := if_neg h
theorem wc_fl_big {P : Nat → Bool} {f : Nat → Int} {x : Nat} {c : Int} (h : c ≤ f x) (hc : c ≤ 1000000) : c ≤ wc_fl P f x := by
  by_cases q : P x = true
  · rw [wc_fl_t q]; exact h
  · rw [wc_fl_f q]; exact hc
theorem wc_fl_0 {P : Nat → Bool} {f : Nat → Int} (h : ∀ x, 0 ≤ f x) : ∀ x, 0 ≤ wc_fl P f x := fun x => wc_fl_big (h x) (by omega)
theorem wc_F_0 {ov : Int32} {f : Nat → Int} (h : ∀ x, 0 ≤ f x) : ∀ x, 0 ≤ wc_F ov f x := fun x => wc_F_big (h x) (by omega)
section
variable {n d N : Nat} {one two al : Nat → Int32}
theorem wc_ybest4 {post : Int32 → Prop} (hn : n ≤ 6) (hd : 1 < d) (hd3 : d ≤ 3) (hN : N ≤ 729) (hI : wc_In n d one two)
    (hpost : ∀ r : Int32, r.toInt = wc_lv (-1) (wc_mn (wc_cv n d al one two) N) → post r) :
    ∀ (f x : Nat) (b : Int32), x ≤ N → N - x < f → b.toInt = wc_lv (-1) (wc_mn (wc_cv n d al one two) x) → wY_best_4 post (nI n) (nI d) (nI N) one two al f b (nI x) := by
  intro f
  induction f with
  | zero => intro x b h1 h2; omega
  | succ f ih =>
    intro x b h1 h2 h3
    have c0 := wc_cv_0 (mK := al) hI (by omega) x
    have m0 := wc_mn_0 (wc_cv_0 (mK := al) hI (by omega)) x
    have m1 := wc_mn_le (wc_cv n d al one two) x
    refine pk_le N x (fun h => ?_) (fun h => ?_)
    · obtain rfl : x = N := by omega
      exact hpost b h3
    · refine wc_ycost hn hd hd3 (by omega) hI (fun r hr => ?_)
      refine br_c (fun g y ey => ?_) (fun g => br_c (fun q y ey => ?_) (fun q => br_c (fun l y ey => ?_) (fun l y ey => ?_)))
      all_goals rw [nI_1] at ey; subst ey
      · have a := wc_yc_n hr c0 g
        exact ih (x + 1) b (by omega) (by omega) (wc_lv_keep (by omega) h3)
      · obtain ⟨a1, a2⟩ := wc_yc_p hr g
        have b1 := wc_lv_n h3 m0 q
        exact ih (x + 1) r (by omega) (by omega) (wc_lv_set (by omega) a2)
      · obtain ⟨a1, a2⟩ := wc_yc_p hr g
        obtain ⟨b1, b2⟩ := wc_lv_p h3 (by omega) q
        rw [Int32.le_iff_toInt_le] at l
        exact ih (x + 1) b (by omega) (by omega) (wc_lv_keep (by omega) h3)
      · obtain ⟨a1, a2⟩ := wc_yc_p hr g
        obtain ⟨b1, b2⟩ := wc_lv_p h3 (by omega) q
        rw [Int32.le_iff_toInt_le] at l
        exact ih (x + 1) r (by omega) (by omega) (wc_lv_set (by omega) a2)
theorem wc_ybest {post : Int32 → Prop} (hn : n ≤ 6) (hd : 1 < d) (hd3 : d ≤ 3) (hN : N ≤ 729) (hI : wc_In n d one two)
    (hpost : ∀ r : Int32, r.toInt = wc_lv (-1) (wc_mn (wc_cv n d al one two) N) → post r) : wpY_best post (nI n, nI d, nI N, one, two, al) :=
  ⟨N + 1, wc_ybest4 hn hd hd3 hN hI hpost (N + 1) 0 (-1) (by omega) (by omega) (wc_lv_0 (by decide))⟩
theorem wc_ynext4 {post : Int32 → Prop} {ov : Int32} (hn : n ≤ 6) (hd : 1 < d) (hd3 : d ≤ 3) (hN : N ≤ 729) (hI : wc_In n d one two)
    (hpost : ∀ r : Int32, r.toInt = wc_lv (-1) (wc_mn (wc_F ov (wc_cv n d al one two)) N) → post r) :
    ∀ (f x : Nat) (b : Int32), x ≤ N → N - x < f → b.toInt = wc_lv (-1) (wc_mn (wc_F ov (wc_cv n d al one two)) x) → wY_nextCost_4 post ov (nI n) (nI d) (nI N) one two al f b (nI x) := by
  intro f
  induction f with
  | zero => intro x b h1 h2; omega
  | succ f ih =>
    intro x b h1 h2 h3
    have c0 := wc_cv_0 (mK := al) hI (by omega) x
    have m0 := wc_mn_0 (wc_F_0 (ov := ov) (wc_cv_0 (mK := al) hI (by omega))) x
    have m1 := wc_mn_le (wc_F ov (wc_cv n d al one two)) x
    refine pk_le N x (fun h => ?_) (fun h => ?_)
    · obtain rfl : x = N := by omega
      exact hpost b h3
    · refine wc_ycost hn hd hd3 (by omega) hI (fun r hr => ?_)
      refine br_c (fun g y ey => ?_) (fun g => br_c (fun w y ey => ?_) (fun w => br_c (fun q y ey => ?_) (fun q => br_c (fun l y ey => ?_) (fun l y ey => ?_))))
      all_goals rw [nI_1] at ey; subst ey
      · have a := wc_yc_n hr c0 g
        have e := wc_F_big (ov := ov) a (by omega)
        exact ih (x + 1) b (by omega) (by omega) (wc_lv_keep (by omega) h3)
      · obtain ⟨a1, a2⟩ := wc_yc_p hr g
        rw [Int32.le_iff_toInt_le] at w
        have e := wc_F_f (ov := ov) (f := wc_cv n d al one two) (x := x) (by omega)
        exact ih (x + 1) b (by omega) (by omega) (wc_lv_keep (by omega) h3)
      · obtain ⟨a1, a2⟩ := wc_yc_p hr g
        rw [Int32.le_iff_toInt_le] at w
        have e := wc_F_t (ov := ov) (f := wc_cv n d al one two) (x := x) (by omega)
        have b1 := wc_lv_n h3 m0 q
        exact ih (x + 1) r (by omega) (by omega) (wc_lv_set (by omega) (by omega))
      · obtain ⟨a1, a2⟩ := wc_yc_p hr g
        rw [Int32.le_iff_toInt_le] at w
        have e := wc_F_t (ov := ov) (f := wc_cv n d al one two) (x := x) (by omega)
        obtain ⟨b1, b2⟩ := wc_lv_p h3 (by omega) q
        rw [Int32.le_iff_toInt_le] at l
        exact ih (x + 1) b (by omega) (by omega) (wc_lv_keep (by omega) h3)
      · obtain ⟨a1, a2⟩ := wc_yc_p hr g
        rw [Int32.le_iff_toInt_le] at w
        have e := wc_F_t (ov := ov) (f := wc_cv n d al one two) (x := x) (by omega)
        obtain ⟨b1, b2⟩ := wc_lv_p h3 (by omega) q
        rw [Int32.le_iff_toInt_le] at l
        exact ih (x + 1) r (by omega) (by omega) (wc_lv_set (by omega) (by omega))
theorem wc_ynext {post : Int32 → Prop} {ov : Int32} (hn : n ≤ 6) (hd : 1 < d) (hd3 : d ≤ 3) (hN : N ≤ 729) (hI : wc_In n d one two)
    (hpost : ∀ r : Int32, r.toInt = wc_lv (-1) (wc_mn (wc_F ov (wc_cv n d al one two)) N) → post r) : wpY_nextCost post (nI n, nI d, nI N, one, two, al) ov :=
  ⟨N + 1, wc_ynext4 hn hd hd3 hN hI hpost (N + 1) 0 (-1) (by omega) (by omega) (wc_lv_0 (by decide))⟩
theorem wc_ywith27 {post : Int32 → Prop} {v a : Nat} (hn : n ≤ 6) (hd : 1 < d) (hd3 : d ≤ 3) (hN : N ≤ 729) (hI : wc_In n d one two) (hv : v < n) (ha : a < d)
    (hpost : ∀ r : Int32, r.toInt = wc_lv (-3) (wc_mn (wc_fl (fun x => decide (wc_dg d n x v = a)) (wc_cv n d al one two)) N) → post r) :
    ∀ (f x : Nat) (b : Int32), x ≤ N → N - x < f → b.toInt = wc_lv (-3) (wc_mn (wc_fl (fun x => decide (wc_dg d n x v = a)) (wc_cv n d al one two)) x) → wY_bestWith_27 post (nI v) (nI a) (nI n) (nI d) (nI N) one two al f b (nI x) := by
  intro f
  induction f with
  | zero => intro x b h1 h2; omega
  | succ f ih =>
    intro x b h1 h2 h3
    have c0 := wc_cv_0 (mK := al) hI (by omega) x
    have m0 := wc_mn_0 (wc_fl_0 (P := fun x => decide (wc_dg d n x v = a)) (wc_cv_0 (mK := al) hI (by omega))) x
    have m1 := wc_mn_le (wc_fl (fun x => decide (wc_dg d n x v = a)) (wc_cv n d al one two)) x
    have gl := wc_dg_lt (d := d) (by omega) n x v
    refine pk_le N x (fun h => ?_) (fun h => ?_)
    · obtain rfl : x = N := by omega
      exact hpost b h3
    · refine wc_ycost hn hd hd3 (by omega) hI (fun r hr => ?_)
      refine br_c (fun g y ey => ?_) (fun g => wc_yvalue hn hd hd3 (by omega) hv ?_)
      · rw [nI_1] at ey; subst ey
        have a := wc_yc_n hr c0 g
        exact ih (x + 1) b (by omega) (by omega) (wc_lv_keep (fun z => absurd (Int.lt_of_lt_of_le z m1) (Int.not_lt.mpr (wc_fl_big a (by omega)))) h3)
      · refine pk_eq (wc_dg d n x v) a (fun w => br_c (fun q y ey => ?_) (fun q => br_c (fun l y ey => ?_) (fun l y ey => ?_))) (fun w y ey => ?_)
        all_goals rw [nI_1] at ey; subst ey
        all_goals obtain ⟨a1, a2⟩ := wc_yc_p hr g
        · have e := wc_fl_t (P := fun x => decide (wc_dg d n x v = a)) (f := wc_cv n d al one two) (x := x) (decide_eq_true w)
          have b1 := wc_lv_n h3 m0 q
          exact ih (x + 1) r (by omega) (by omega) (wc_lv_set (by omega) (by omega))
        · have e := wc_fl_t (P := fun x => decide (wc_dg d n x v = a)) (f := wc_cv n d al one two) (x := x) (decide_eq_true w)
          obtain ⟨b1, b2⟩ := wc_lv_p h3 (by omega) q
          rw [Int32.le_iff_toInt_le] at l
          exact ih (x + 1) b (by omega) (by omega) (wc_lv_keep (by omega) h3)
        · have e := wc_fl_t (P := fun x => decide (wc_dg d n x v = a)) (f := wc_cv n d al one two) (x := x) (decide_eq_true w)
          obtain ⟨b1, b2⟩ := wc_lv_p h3 (by omega) q
          rw [Int32.le_iff_toInt_le] at l
          exact ih (x + 1) r (by omega) (by omega) (wc_lv_set (by omega) (by omega))
        · have e := wc_fl_f (P := fun x => decide (wc_dg d n x v = a)) (f := wc_cv n d al one two) (x := x) (fun z => w (of_decide_eq_true z))
          exact ih (x + 1) b (by omega) (by omega) (wc_lv_keep (by omega) h3)
theorem wc_ypair71 {post : Int32 → Prop} {u v a c : Nat} (hn : n ≤ 6) (hd : 1 < d) (hd3 : d ≤ 3) (hN : N ≤ 729) (hI : wc_In n d one two) (hu : u < n) (hv : v < n) (ha : a < d) (hc : c < d)
    (hpost : ∀ r : Int32, r.toInt = wc_lv (-3) (wc_mn (wc_fl (fun x => decide (wc_dg d n x u = a ∧ wc_dg d n x v = c)) (wc_cv n d al one two)) N) → post r) :
    ∀ (f x : Nat) (b : Int32), x ≤ N → N - x < f → b.toInt = wc_lv (-3) (wc_mn (wc_fl (fun x => decide (wc_dg d n x u = a ∧ wc_dg d n x v = c)) (wc_cv n d al one two)) x) → wY_bestWithPair_71 post (nI u) (nI v) (nI a) (nI c) (nI n) (nI d) (nI N) one two al f b (nI x) := by
  intro f
  induction f with
  | zero => intro x b h1 h2; omega
  | succ f ih =>
    intro x b h1 h2 h3
    have c0 := wc_cv_0 (mK := al) hI (by omega) x
    have m0 := wc_mn_0 (wc_fl_0 (P := fun x => decide (wc_dg d n x u = a ∧ wc_dg d n x v = c)) (wc_cv_0 (mK := al) hI (by omega))) x
    have m1 := wc_mn_le (wc_fl (fun x => decide (wc_dg d n x u = a ∧ wc_dg d n x v = c)) (wc_cv n d al one two)) x
    have gu := wc_dg_lt (d := d) (by omega) n x u
    have gl := wc_dg_lt (d := d) (by omega) n x v
    refine pk_le N x (fun h => ?_) (fun h => ?_)
    · obtain rfl : x = N := by omega
      exact hpost b h3
    · refine wc_ycost hn hd hd3 (by omega) hI (fun r hr => ?_)
      refine br_c (fun g y ey => ?_) (fun g => wc_yvalue hn hd hd3 (by omega) hu ?_)
      · rw [nI_1] at ey; subst ey
        have a := wc_yc_n hr c0 g
        exact ih (x + 1) b (by omega) (by omega) (wc_lv_keep (fun z => absurd (Int.lt_of_lt_of_le z m1) (Int.not_lt.mpr (wc_fl_big a (by omega)))) h3)
      · refine pk_eq (wc_dg d n x u) a (fun w => wc_yvalue hn hd hd3 (by omega) hv ?_) (fun w y ey => ?_)
        · refine pk_eq (wc_dg d n x v) c (fun w2 => br_c (fun q y ey => ?_) (fun q => br_c (fun l y ey => ?_) (fun l y ey => ?_))) (fun w2 y ey => ?_)
          all_goals rw [nI_1] at ey; subst ey
          all_goals obtain ⟨a1, a2⟩ := wc_yc_p hr g
          · have e := wc_fl_t (P := fun x => decide (wc_dg d n x u = a ∧ wc_dg d n x v = c)) (f := wc_cv n d al one two) (x := x) (decide_eq_true ⟨w, w2⟩)
            have b1 := wc_lv_n h3 m0 q
            exact ih (x + 1) r (by omega) (by omega) (wc_lv_set (by omega) (by omega))
          · have e := wc_fl_t (P := fun x => decide (wc_dg d n x u = a ∧ wc_dg d n x v = c)) (f := wc_cv n d al one two) (x := x) (decide_eq_true ⟨w, w2⟩)
            obtain ⟨b1, b2⟩ := wc_lv_p h3 (by omega) q
            rw [Int32.le_iff_toInt_le] at l
            exact ih (x + 1) b (by omega) (by omega) (wc_lv_keep (by omega) h3)
          · have e := wc_fl_t (P := fun x => decide (wc_dg d n x u = a ∧ wc_dg d n x v = c)) (f := wc_cv n d al one two) (x := x) (decide_eq_true ⟨w, w2⟩)
            obtain ⟨b1, b2⟩ := wc_lv_p h3 (by omega) q
            rw [Int32.le_iff_toInt_le] at l
            exact ih (x + 1) r (by omega) (by omega) (wc_lv_set (by omega) (by omega))
          · have e := wc_fl_f (P := fun x => decide (wc_dg d n x u = a ∧ wc_dg d n x v = c)) (f := wc_cv n d al one two) (x := x) (fun z => w2 (of_decide_eq_true z).2)
            exact ih (x + 1) b (by omega) (by omega) (wc_lv_keep (by omega) h3)
        · rw [nI_1] at ey; subst ey
          have e := wc_fl_f (P := fun x => decide (wc_dg d n x u = a ∧ wc_dg d n x v = c)) (f := wc_cv n d al one two) (x := x) (fun z => w (of_decide_eq_true z).1)
          exact ih (x + 1) b (by omega) (by omega) (wc_lv_keep (by omega) h3)
end
end
section
/-! the reference: counts, the first best, choices -/
theorem wc_i32_eq {x y : Int32} : x = y ↔ x.toInt = y.toInt := Int32.toInt_inj.symm
def wc_sn (P : Nat → Bool) (a : Nat → Nat) : Nat → Nat
  | 0 => 0
  | x + 1 => if P x = true then wc_sn P a x ||| 2 ^ a x else wc_sn P a x
theorem wc_sn_t {P : Nat → Bool} {a : Nat → Nat} {x : Nat} (h : P x = true) : wc_sn P a (x + 1) = wc_sn P a x ||| 2 ^ a x := if_pos h
theorem wc_sn_f {P : Nat → Bool} {a : Nat → Nat} {x : Nat} (h : ¬ P x = true) : wc_sn P a (x + 1) = wc_sn P a x := if_neg h
theorem wc_or8 : ∀ s, s < 8 → ∀ a, a < 3 → s ||| 2 ^ a < 8 := by decide
theorem wc_orN : ∀ s, s < 8 → ∀ a, a < 3 → nI s ||| ((1 : Int32) <<< (nI a &&& 31)) = nI (s ||| 2 ^ a) := by decide
theorem wc_orB : ∀ s, s < 8 → ∀ a, a < 3 → ∀ b, b < 3 → (s ||| 2 ^ a) / 2 ^ b % 2 = if a = b then 1 else s / 2 ^ b % 2 := by decide
def wc_pc (s : Nat) : Nat := s / 2 ^ 0 % 2 + s / 2 ^ 1 % 2 + s / 2 ^ 2 % 2
theorem wc_pcN : ∀ s, s < 8 → ((nI s &&& 1) + ((nI s >>> ((1 : Int32) &&& 31)) &&& 1)) + ((nI s >>> ((2 : Int32) &&& 31)) &&& 1) = nI (wc_pc s) := by decide
theorem wc_sn_8 {P : Nat → Bool} {a : Nat → Nat} (ha : ∀ x, a x < 3) : ∀ N, wc_sn P a N < 8
  | 0 => by show 0 < 8; omega
  | N + 1 => by
    by_cases h : P N = true
    · rw [wc_sn_t h]; exact wc_or8 _ (wc_sn_8 ha N) _ (ha N)
    · rw [wc_sn_f h]; exact wc_sn_8 ha N
theorem wc_sn_b {P : Nat → Bool} {a : Nat → Nat} (ha : ∀ x, a x < 3) {b : Nat} (hb : b < 3) : ∀ N, wc_sn P a N / 2 ^ b % 2 = 1 ↔ ∃ x, x < N ∧ P x = true ∧ a x = b
  | 0 => by
    constructor
    · intro h
      have z : wc_sn P a 0 / 2 ^ b = 0 := Nat.zero_div _
      omega
    · rintro ⟨x, hx, _⟩; omega
  | N + 1 => by
    have ih := wc_sn_b (P := P) ha hb N
    by_cases h : P N = true
    · rw [wc_sn_t h, wc_orB _ (wc_sn_8 ha N) _ (ha N) b hb]
      by_cases e : a N = b
      · rw [if_pos e]
        exact ⟨fun _ => ⟨N, by omega, h, e⟩, fun _ => rfl⟩
      · rw [if_neg e, ih]
        constructor
        · rintro ⟨x, hx, h1, h2⟩; exact ⟨x, by omega, h1, h2⟩
        · rintro ⟨x, hx, h1, h2⟩
          refine ⟨x, ?_, h1, h2⟩
          rcases Nat.lt_or_ge x N with z | z
          · exact z
          · obtain rfl : x = N := by omega
            exact absurd h2 e
    · rw [wc_sn_f h, ih]
      constructor
      · rintro ⟨x, hx, h1, h2⟩; exact ⟨x, by omega, h1, h2⟩
      · rintro ⟨x, hx, h1, h2⟩
        refine ⟨x, ?_, h1, h2⟩
        rcases Nat.lt_or_ge x N with z | z
        · exact z
        · obtain rfl : x = N := by omega
          exact absurd h1 h
theorem wc_ct_0 {f : Nat → Int} (h0 : ∀ x, 0 ≤ f x) : ∀ N, wc_ct f 0 N = 0
  | 0 => rfl
  | N + 1 => by
    have a := h0 N
    rw [wc_ct_f (by omega)]; exact wc_ct_0 h0 N
section
variable {n d N : Nat} {one two al : Nat → Int32}
theorem wc_ycnt9 {post : Int32 → Prop} {L : Int32} {c : Int} (hn : n ≤ 6) (hd : 1 < d) (hd3 : d ≤ 3) (hN : N ≤ 729) (hI : wc_In n d one two) (hc : c ≤ 500000)
    (hiff : ∀ x, x < N → wc_cv n d al one two x < 500000 → (wc_cv n d al one two x = L.toInt ↔ wc_cv n d al one two x < c))
    (hpost : post (nI (wc_ct (wc_cv n d al one two) c N))) :
    ∀ (f x : Nat), x ≤ N → N - x < f → wY_bestCount_9 post L (nI n) (nI d) (nI N) one two al f (nI (wc_ct (wc_cv n d al one two) c x)) (nI x) := by
  intro f
  induction f with
  | zero => intro x h1 h2; omega
  | succ f ih =>
    intro x h1 h2
    have c0 := wc_cv_0 (mK := al) hI (by omega) x
    refine pk_le N x (fun h => ?_) (fun h => ?_)
    · obtain rfl : x = N := by omega
      exact hpost
    · refine wc_ycost hn hd hd3 (by omega) hI (fun r hr => ?_)
      have r1 := ih (x + 1) (by omega) (by omega)
      refine br_c (fun g y ey => ?_) (fun g => br_c (fun q z ez y ey => ?_) (fun q y ey => ?_))
      all_goals rw [nI_1] at ey; subst ey
      · have a := wc_yc_n hr c0 g
        rw [wc_ct_f (by omega)] at r1; exact r1
      · obtain ⟨a1, a2⟩ := wc_yc_p hr g
        rw [wc_i32_eq, a2, hiff x h a1] at q
        rw [nI_1] at ez
        subst ez
        rw [wc_ct_t q] at r1; exact r1
      · obtain ⟨a1, a2⟩ := wc_yc_p hr g
        rw [wc_i32_eq, a2, hiff x h a1] at q
        rw [wc_ct_f q] at r1; exact r1
theorem wc_yup4 {post : Int32 → Prop} {bo : Int32} {c : Int} (hn : n ≤ 6) (hd : 1 < d) (hd3 : d ≤ 3) (hN : N ≤ 729) (hI : wc_In n d one two) (hc : c ≤ 500000)
    (hiff : ∀ x, x < N → wc_cv n d al one two x < 500000 → (¬ bo.toInt < wc_cv n d al one two x ↔ wc_cv n d al one two x < c))
    (hpost : post (nI (wc_ct (wc_cv n d al one two) c N))) :
    ∀ (f x : Nat), x ≤ N → N - x < f → wY_countUpTo_4 post bo (nI n) (nI d) (nI N) one two al f (nI (wc_ct (wc_cv n d al one two) c x)) (nI x) := by
  intro f
  induction f with
  | zero => intro x h1 h2; omega
  | succ f ih =>
    intro x h1 h2
    have c0 := wc_cv_0 (mK := al) hI (by omega) x
    refine pk_le N x (fun h => ?_) (fun h => ?_)
    · obtain rfl : x = N := by omega
      exact hpost
    · refine wc_ycost hn hd hd3 (by omega) hI (fun r hr => ?_)
      have r1 := ih (x + 1) (by omega) (by omega)
      refine br_c (fun g y ey => ?_) (fun g => br_c (fun q y ey => ?_) (fun q z ez y ey => ?_))
      all_goals rw [nI_1] at ey; subst ey
      · have a := wc_yc_n hr c0 g
        rw [wc_ct_f (by omega)] at r1; exact r1
      · obtain ⟨a1, a2⟩ := wc_yc_p hr g
        rw [Int32.lt_iff_toInt_lt, a2] at q
        have k := hiff x h a1
        rw [wc_ct_f (fun w => (k.mpr w) q)] at r1; exact r1
      · obtain ⟨a1, a2⟩ := wc_yc_p hr g
        rw [Int32.lt_iff_toInt_lt, a2] at q
        have k := hiff x h a1
        rw [nI_1] at ez
        subst ez
        rw [wc_ct_t (k.mp q)] at r1; exact r1
theorem wc_yfirst17 {post : Int32 → Prop} {L : Int32} {v : Nat} (hn : n ≤ 6) (hd : 1 < d) (hd3 : d ≤ 3) (hN : N ≤ 729) (hI : wc_In n d one two) (hv : v < n)
    (hL : L.toInt = wc_lv (-1) (wc_mn (wc_cv n d al one two) N))
    (hp1 : wc_mn (wc_cv n d al one two) N < 500000 → post (nI (wc_dg d n (wc_fb (wc_cv n d al one two) N) v))) (hp2 : ¬ wc_mn (wc_cv n d al one two) N < 500000 → post (-2)) :
    ∀ (f x : Nat), x ≤ N → N - x < f → (wc_mn (wc_cv n d al one two) N < 500000 → x ≤ wc_fb (wc_cv n d al one two) N) → wY_bestValue_17 post (nI v) L (nI n) (nI d) (nI N) one two al f (nI x) := by
  intro f
  induction f with
  | zero => intro x h1 h2; omega
  | succ f ih =>
    intro x h1 h2 h3
    have c0 := wc_cv_0 (mK := al) hI (by omega) x
    have fb := wc_mn_fb (f := wc_cv n d al one two) (N := N)
    refine pk_le N x (fun h => ?_) (fun h => ?_)
    · refine hp2 (fun q => ?_)
      have a := h3 q
      have b := (fb q).1
      omega
    · refine wc_ycost hn hd hd3 (by omega) hI (fun r hr => ?_)
      refine br_c (fun g y ey => ?_) (fun g => br_c (fun q => ?_) (fun q y ey => ?_))
      · rw [nI_1] at ey; subst ey
        have a := wc_yc_n hr c0 g
        refine ih (x + 1) (by omega) (by omega) (fun k => ?_)
        have b := h3 k
        have e := (fb k).2.1
        rcases Nat.lt_or_ge x (wc_fb (wc_cv n d al one two) N) with z | z
        · exact z
        · have e2 : wc_fb (wc_cv n d al one two) N = x := by omega
          rw [e2] at e; omega
      · obtain ⟨a1, a2⟩ := wc_yc_p hr g
        rw [wc_i32_eq, a2, hL] at q
        by_cases k : wc_mn (wc_cv n d al one two) N < 500000
        · unfold wc_lv at q
          rw [if_pos k] at q
          have b := h3 k
          have e := (fb k).2.2 x
          have e2 : wc_fb (wc_cv n d al one two) N = x := by
            rcases Nat.lt_or_ge x (wc_fb (wc_cv n d al one two) N) with z | z
            · have w := e z; omega
            · omega
          have p := hp1 k
          rw [e2] at p
          exact wc_yvalue hn hd hd3 (by omega) hv p
        · unfold wc_lv at q
          rw [if_neg k] at q
          omega
      · rw [nI_1] at ey; subst ey
        obtain ⟨a1, a2⟩ := wc_yc_p hr g
        rw [wc_i32_eq, a2, hL] at q
        refine ih (x + 1) (by omega) (by omega) (fun k => ?_)
        unfold wc_lv at q
        rw [if_pos k] at q
        have b := h3 k
        have e := (fb k).2.1
        rcases Nat.lt_or_ge x (wc_fb (wc_cv n d al one two) N) with z | z
        · exact z
        · have e2 : wc_fb (wc_cv n d al one two) N = x := by omega
          rw [e2] at e; omega
theorem wc_ychoi20 {post : Int32 → Prop} {L : Int32} {v : Nat} (hn : n ≤ 6) (hd : 1 < d) (hd3 : d ≤ 3) (hN : N ≤ 729) (hI : wc_In n d one two) (hv : v < n)
    (hpost : post (nI (wc_pc (wc_sn (fun x => decide (wc_cv n d al one two x < 500000 ∧ wc_cv n d al one two x = L.toInt)) (fun x => wc_dg d n x v) N)))) :
    ∀ (f x : Nat), x ≤ N → N - x < f → wY_choices_20 post (nI v) L (nI n) (nI d) (nI N) one two al f (nI (wc_sn (fun x => decide (wc_cv n d al one two x < 500000 ∧ wc_cv n d al one two x = L.toInt)) (fun x => wc_dg d n x v) x)) (nI x) := by
  have ha : ∀ x, (fun x => wc_dg d n x v) x < 3 := by
    intro x
    have a := wc_dg_lt (d := d) (by omega) n x v
    show wc_dg d n x v < 3
    omega
  intro f
  induction f with
  | zero => intro x h1 h2; omega
  | succ f ih =>
    intro x h1 h2
    have c0 := wc_cv_0 (mK := al) hI (by omega) x
    have s8 := wc_sn_8 (P := fun x => decide (wc_cv n d al one two x < 500000 ∧ wc_cv n d al one two x = L.toInt)) ha x
    refine pk_le N x (fun h => ?_) (fun h => ?_)
    · obtain rfl : x = N := by omega
      rw [wc_pcN _ s8]; exact hpost
    · refine wc_ycost hn hd hd3 (by omega) hI (fun r hr => ?_)
      refine wc_yvalue hn hd hd3 (by omega) hv ?_
      have r1 := ih (x + 1) (by omega) (by omega)
      refine br_c (fun g y ey => ?_) (fun g => br_c (fun q z ez y ey => ?_) (fun q y ey => ?_))
      all_goals rw [nI_1] at ey; subst ey
      · have a := wc_yc_n hr c0 g
        rw [wc_sn_f (fun w => by have w2 := (of_decide_eq_true w).1; omega)] at r1; exact r1
      · obtain ⟨a1, a2⟩ := wc_yc_p hr g
        rw [wc_i32_eq, a2] at q
        rw [wc_orN _ s8 _ (ha x)] at ez
        subst ez
        rw [wc_sn_t (decide_eq_true ⟨a1, q⟩)] at r1; exact r1
      · obtain ⟨a1, a2⟩ := wc_yc_p hr g
        rw [wc_i32_eq, a2] at q
        rw [wc_sn_f (fun w => q (of_decide_eq_true w).2)] at r1; exact r1
end
end
section
/-! the component: costOf -/
theorem wc_pow_bd {n d : Nat} (hn : n ≤ 6) (hd : 1 < d) (hd3 : d ≤ 3) : d ^ n ≤ 729 := by
  have a : d ^ n ≤ d ^ 6 := Nat.pow_le_pow_right (by omega) hn
  have b : d ^ 6 ≤ 3 ^ 6 := Nat.pow_le_pow_left hd3 6
  have c : 3 ^ 6 = 729 := by decide
  omega
section
variable {n d : Nat} {fl cu ab cn cg oL oH oV oW : Int32} {tU tB tA mK sG pR eX rE vA fB : Nat → Int32}
theorem wc_xco151 {post : Int32 → SX → Prop} {J : Int32 → Int32 → Prop} {v : Nat} {g : Nat → Nat} {s0 : Int} (hn : n ≤ 6) (hd3 : d ≤ 3) (hI : wc_In n d tU tB) (hv : v < n) (hg : ∀ w, w < n → g w < d) (hva : ∀ w, w < n → vA w = nI (g w)) (hs0 : 0 ≤ s0) (hs1 : s0 ≤ 7000000 * (v : Int) + 1000000)
    (hJ : ∀ r : Int32, r.toInt = s0 + wc_sm (fun i => wc_hc (tB ((6 * i + v) * 9 + 3 * g i + g v))) v → J r (nI (v + 1))) :
    ∀ (f j : Nat) (r : Int32), j ≤ v → v - j < f → r.toInt = s0 + wc_sm (fun i => wc_hc (tB ((6 * i + v) * 9 + 3 * g i + g v))) j → 0 ≤ r.toInt → r.toInt ≤ 7000000 * (v : Int) + 1000000 + 1000000 * (j : Int) → wX_costOf_151 post J (nI v) (nI n) (nI d) fl cu ab cn cg oL oH oV oW tU tB tA mK sG pR eX rE vA fB f r (nI j) := by
  intro f
  induction f with
  | zero => intro j r h1 h2; omega
  | succ f ih =>
    intro j r h1 h2 h3 h4 h5
    refine pk_le v j (fun h => ?_) (fun h => ?_)
    · obtain rfl : j = v := by omega
      intro y ey
      rw [nI_1] at ey
      subst ey
      exact hJ r h3
    · have g1 := hg j (by omega)
      have g2 := hg v hv
      have ei : ((6 : Int32) * nI j + nI v) * 9 + 3 * (vA (nI j).toNatClampNeg) + vA (nI v).toNatClampNeg = nI ((6 * j + v) * 9 + 3 * g j + g v) := by
        rw [nI_clamp (by omega), nI_clamp (by omega), hva j (by omega), hva v hv]; exact wc_i4 j v (g j) (g v)
      refine ⟨vp_in_nI (by omega) (by omega), vp_in_nI (by omega) (by omega), pk_in ((6 * j + v) * 9 + 3 * g j + g v) 324 (by omega) ei, fun y ey => ?_⟩
      rw [ei, nI_clamp (by omega)] at ey
      have co := hI.2 j v (g j) (g v) h hv g1 g2
      rw [← ey] at co
      refine br_c (fun e z ez t et => ?_) (fun e z ez t et => ?_)
      · rw [nI_1] at et
        subst et
        have er : z.toInt = r.toInt + 1000000 := by
          rw [ez, Jvm.Kit.i32_add (by rw [wc_M6]; omega) (by rw [wc_M6]; omega), wc_M6]
        refine ih (j + 1) z (by omega) (by omega) ?_ (by omega) (by omega)
        rw [wc_sm_s, er, h3, ← ey, e, wc_hc_99]; omega
      · rw [nI_1] at et
        subst et
        obtain ⟨c1, c2, c3⟩ := wc_hc_n co e
        have er : z.toInt = r.toInt + y.toInt := by
          rw [ez]; exact Jvm.Kit.i32_add (by omega) (by omega)
        refine ih (j + 1) z (by omega) (by omega) ?_ (by omega) (by omega)
        rw [wc_sm_s, er, h3, ← ey, c1]; omega
theorem wc_xco83 {post : Int32 → SX → Prop} {x : Nat} (hn : n ≤ 6) (hd : 1 < d) (hd3 : d ≤ 3) (hI : wc_In n d tU tB) (hva : ∀ w, w < n → vA w = nI (wc_dg d n x w))
    (hpost : ∀ r : Int32, r.toInt = wc_yc (wc_cv n d tA tU tB x) → post r (nI n, nI d, fl, cu, ab, cn, cg, oL, oH, oV, oW, tU, tB, tA, mK, sG, pR, eX, rE, vA, fB)) :
    ∀ (f v : Nat) (r : Int32), v ≤ n → n - v < f → (∀ w, w < v → wc_in (tA w) (wc_dg d n x w) = true) → r.toInt = wc_tc tU tB (wc_dg d n x) v → 0 ≤ r.toInt → r.toInt ≤ 7000000 * (v : Int) → wX_costOf_83 post (nI n) (nI d) fl cu ab cn cg oL oH oV oW tU tB tA mK sG pR eX rE vA fB f r (nI v) := by
  have gl : ∀ w, w < n → wc_dg d n x w < d := fun w _ => wc_dg_lt (by omega) n x w
  intro f
  induction f with
  | zero => intro v r h1 h2; omega
  | succ f ih =>
    intro v r h1 h2 h3 h4 h5 h6
    refine pk_le n v (fun h => ?_) (fun h => ?_)
    · obtain rfl : v = n := by omega
      have e := wc_cv_t (U := tU) (B := tB) (wc_ok_iff.mpr h3)
      refine br_c (fun q => ?_) (fun q => ?_)
      · rw [Int32.lt_iff_toInt_lt, wc_5L] at q
        refine hpost r ?_
        unfold wc_yc
        rw [if_pos (by omega)]; omega
      · rw [Int32.lt_iff_toInt_lt, wc_5L] at q
        refine hpost _ ?_
        unfold wc_yc
        rw [if_neg (by omega)]; exact wc_m2
    · have cl : (nI v).toNatClampNeg = v := nI_clamp (by omega)
      have g1 := gl v h
      have i7 : vp_in (nI v) 7 := vp_in_nI (by omega) (by omega)
      have ev : vA (nI v).toNatClampNeg = nI (wc_dg d n x v) := by rw [cl, hva v h]
      have ei : (3 : Int32) * nI v + vA (nI v).toNatClampNeg = nI (3 * v + wc_dg d n x v) := by rw [ev, wc_i2]
      refine ⟨i7, pk_in (3 * v + wc_dg d n x v) 18 (by omega) ei, fun y ey => ?_⟩
      rw [ei, nI_clamp (by omega)] at ey
      have co := hI.1 v (wc_dg d n x v) h g1
      rw [← ey] at co
      refine br_c (fun e => ?_) (fun e => ⟨vp_in_nI (by omega) (by omega), i7, br_c (fun c => ?_) (fun c z ez => ⟨n + 1, ?_⟩)⟩)
      · refine hpost _ ?_
        unfold wc_yc
        rw [if_neg]
        · exact wc_m2
        · by_cases k : wc_ok tA (wc_dg d n x) n = true
          · rw [wc_cv_t k]
            have zn : ∀ w, w < n → 0 ≤ wc_Z (fun i => wc_hc (tU i)) (fun i => wc_hc (tB i)) (wc_dg d n x) w w (wc_dg d n x w) := fun w hw => wc_Zn' (n := n) (d := d) (s := fun i => wc_hc (tU i)) (p := fun i => wc_hc (tB i)) (fun v a hv ha => (wc_hc_b (hI.1 v a hv ha)).1) (fun u v a b huv hv ha hb => (wc_hc_b (hI.2 u v a b huv hv ha hb)).1) gl hw (Nat.le_refl w) (gl w hw)
            have t : wc_Z (fun i => wc_hc (tU i)) (fun i => wc_hc (tB i)) (wc_dg d n x) v v (wc_dg d n x v) ≤ wc_tc tU tB (wc_dg d n x) n := wc_sm_t (f := fun w => wc_Z (fun i => wc_hc (tU i)) (fun i => wc_hc (tB i)) (wc_dg d n x) w w (wc_dg d n x w)) zn h
            have s := wc_sm_0 (f := fun i => wc_hc (tB ((6 * i + v) * 9 + 3 * wc_dg d n x i + wc_dg d n x v))) (n := v) (fun i hi => (wc_hc_b (hI.2 i v _ _ hi h (gl i (by omega)) g1)).1)
            have q : wc_hc (tU (3 * v + wc_dg d n x v)) = 1000000 := by rw [← ey, e]; exact wc_hc_99
            unfold wc_Z at t
            try dsimp only at t
            omega
          · rw [wc_cv_f k]; omega
      · rw [cl, hva v h, ← wc_in_0] at c
        refine hpost _ ?_
        rw [wc_m2, wc_cv_f (fun k => by
          rw [wc_ok_iff] at k
          have z := k v h
          rw [c] at z
          exact absurd z (by decide))]
        decide
      · rw [cl, hva v h, ← wc_in_0] at c
        have c' : wc_in (tA v) (wc_dg d n x v) = true := by
          cases z : wc_in (tA v) (wc_dg d n x v) with
          | true => rfl
          | false => exact absurd z c
        obtain ⟨c1, c2, c3⟩ := wc_hc_n co e
        have er : z.toInt = r.toInt + y.toInt := by
          rw [ez]; exact Jvm.Kit.i32_add (by omega) (by omega)
        refine wc_xco151 (s0 := z.toInt) hn hd3 hI h gl hva (by omega) (by omega) (fun r' q1 => ?_) (n + 1) 0 z (by omega) (by omega) (by rw [wc_sm_z]; omega) (by omega) (by omega)
        have sb := wc_sm_b (f := fun i => wc_hc (tB ((6 * i + v) * 9 + 3 * wc_dg d n x i + wc_dg d n x v))) (c := 1000000) (n := v) (fun i hi => (wc_hc_b (hI.2 i v _ _ hi h (gl i (by omega)) g1)).2)
        have s0 := wc_sm_0 (f := fun i => wc_hc (tB ((6 * i + v) * 9 + 3 * wc_dg d n x i + wc_dg d n x v))) (n := v) (fun i hi => (wc_hc_b (hI.2 i v _ _ hi h (gl i (by omega)) g1)).1)
        refine ih (v + 1) r' (by omega) (by omega) ?_ ?_ (by omega) (by omega)
        · intro w hw
          by_cases z : w = v
          · subst z; exact c'
          · exact h3 w (by omega)
        · unfold wc_tc at h4 ⊢
          rw [wc_T_s, ← h4, q1, er]
          unfold wc_Z
          try dsimp only
          rw [← ey, c1]; omega
theorem wc_xco46 {post : Int32 → SX → Prop} {x : Nat} (hn : n ≤ 6) (hd : 1 < d) (hd3 : d ≤ 3) (hx : x < 2 ^ 31)
    (hK : ∀ vA' : Nat → Int32, (∀ w, w < n → vA' w = nI (wc_dg d n x w)) → ∃ n83, wX_costOf_83 post (nI n) (nI d) fl cu ab cn cg oL oH oV oW tU tB tA mK sG pR eX rE vA' fB n83 0 0) :
    ∀ (f j : Nat) (x4 : Int32) (vA' : Nat → Int32), j ≤ n → j < f → x4 = nI j + (-1) → (∀ w, j ≤ w → w < n → vA' w = nI (wc_dg d n x w)) → wX_costOf_46 post (nI n) (nI d) fl cu ab cn cg oL oH oV oW f (nI (x / d ^ (n - j))) x4 tU tB tA mK sG pR eX rE vA' fB := by
  intro f
  induction f with
  | zero => intro j x4 vA' h1 h2; omega
  | succ f ih =>
    intro j x4 vA' h1 h2 h3 h4
    cases j with
    | zero =>
      subst h3
      exact br_t (by decide) (hK vA' (fun w hw => h4 w (by omega) hw))
    | succ j =>
      rw [pk_m1] at h3
      subst h3
      have hx' : x / d ^ (n - (j + 1)) < 2 ^ 31 := Nat.lt_of_le_of_lt (Nat.div_le_self _ _) hx
      have d0 : ¬ nI d = 0 := nI_ne0 (by omega) (by omega)
      refine br_f (nI_pos (by omega)) ⟨d0, vp_in_nI (by omega) (by omega), fun y ey => ⟨d0, fun z ez t et => ?_⟩⟩
      rw [pk_rem hx' (by omega) (by omega), nI_clamp (by omega)] at ey
      rw [pk_div hx' (by omega) (by omega), Nat.div_div_eq_div_mul, ← Nat.pow_succ] at ez
      have q : (n - (j + 1)).succ = n - j := by omega
      rw [q] at ez
      subst ey ez
      refine ih j t _ (by omega) (by omega) et ?_
      intro w h5 h6
      by_cases e : w = j
      · subst e
        rw [pk_us]
        unfold wc_dg
        have q2 : n - 1 - w = n - (w + 1) := by omega
        rw [q2]
      · rw [pk_un e]; exact h4 w (by omega) h6
theorem wc_xco4 {post : Int32 → SX → Prop} {num : Int32} (hn2 : 2 ≤ n) (hn : n ≤ 6) (hd : 1 < d) (hd3 : d ≤ 3) (hI : wc_In n d tU tB)
    (h1 : (num < 0 ∨ ¬ num < nI (d ^ n)) → post (-1) (nI n, nI d, fl, cu, ab, cn, cg, oL, oH, oV, oW, tU, tB, tA, mK, sG, pR, eX, rE, vA, fB)) (h2 : ∀ x : Nat, x < d ^ n → num = nI x → ∀ (r : Int32) (vA : Nat → Int32), r.toInt = wc_yc (wc_cv n d tA tU tB x) → post r (nI n, nI d, fl, cu, ab, cn, cg, oL, oH, oV, oW, tU, tB, tA, mK, sG, pR, eX, rE, vA, fB)) :
    ∀ (f j : Nat), j ≤ n → n - j < f → wX_costOf_4 post num (nI n) (nI d) fl cu ab cn cg oL oH oV oW tU tB tA mK sG pR eX rE vA fB f (nI (d ^ j)) (nI j) := by
  have pb := wc_pow_bd hn hd hd3
  intro f
  induction f with
  | zero => intro j h1 h2; omega
  | succ f ih =>
    intro j h3 h4
    refine pk_le n j (fun h => ?_) (fun h => ?_)
    · obtain rfl : j = n := by omega
      refine br_c (fun q => h1 (Or.inl q)) (fun q => br_c (fun p => ?_) (fun p => h1 (Or.inr p)))
      obtain ⟨x, hx, rfl⟩ := nI_of q
      rw [nI_ltI hx (by omega)] at p
      intro y ey
      rw [wc_nm1 (by omega)] at ey
      refine ⟨j + 1, ?_⟩
      have r := wc_xco46 (post := post) (n := j) (d := d) (fl := fl) (cu := cu) (ab := ab) (cn := cn) (cg := cg) (oL := oL) (oH := oH) (oV := oV) (oW := oW) (tU := tU) (tB := tB) (tA := tA) (mK := mK) (sG := sG) (pR := pR) (eX := eX) (rE := rE) (fB := fB) hn hd hd3 hx (fun vA' hva => ⟨j + 1, wc_xco83 hn hd hd3 hI hva (fun r hr => h2 x p rfl r vA' hr) (j + 1) 0 0 (by omega) (by omega) (fun w hw => by omega) (by show _ = (0 : Int); decide) (by decide) (by decide)⟩) (j + 1) j y vA (by omega) (by omega) (by
        rw [ey]
        obtain ⟨q, rfl⟩ : ∃ q, j = q + 1 := ⟨j - 1, by omega⟩
        rw [pk_m1]; rfl) (fun w h5 h6 => by omega)
      rw [Nat.sub_self, Nat.pow_zero, Nat.div_one] at r
      exact r
    · intro y ey z ez
      rw [pk_mul, ← Nat.pow_succ] at ey
      rw [nI_1] at ez
      subst ey ez
      exact ih (j + 1) (by omega) (by omega)
theorem wc_xcostOf {post : Int32 → SX → Prop} {num : Int32} (hn2 : 2 ≤ n) (hn : n ≤ 6) (hd : 1 < d) (hd3 : d ≤ 3) (hI : wc_In n d tU tB)
    (h1 : (num < 0 ∨ ¬ num < nI (d ^ n)) → post (-1) (nI n, nI d, fl, cu, ab, cn, cg, oL, oH, oV, oW, tU, tB, tA, mK, sG, pR, eX, rE, vA, fB)) (h2 : ∀ x : Nat, x < d ^ n → num = nI x → ∀ (r : Int32) (vA : Nat → Int32), r.toInt = wc_yc (wc_cv n d tA tU tB x) → post r (nI n, nI d, fl, cu, ab, cn, cg, oL, oH, oV, oW, tU, tB, tA, mK, sG, pR, eX, rE, vA, fB)) : wpX_costOf post (nI n, nI d, fl, cu, ab, cn, cg, oL, oH, oV, oW, tU, tB, tA, mK, sG, pR, eX, rE, vA, fB) num :=
  ⟨n + 1, wc_xco4 hn2 hn hd hd3 hI h1 h2 (n + 1) 0 (by omega) (by omega)⟩
end
end
section
/-! the relation; the checks; constructors; unary, unaryCost, allow -/
def wc_Rel (n d : Nat) (tU tB tA one two al : Nat → Int32) : Prop :=
  (2 ≤ n ∧ n ≤ 6 ∧ 1 < d ∧ d ≤ 3) ∧ wc_In n d one two ∧ (∀ v a, v < n → a < d → tU (3 * v + a) = one (3 * v + a)) ∧
  (∀ u v a b, u < v → v < n → a < d → b < d → tB ((6 * u + v) * 9 + 3 * a + b) = two ((6 * u + v) * 9 + 3 * a + b) ∧ two ((6 * v + u) * 9 + 3 * b + a) = two ((6 * u + v) * 9 + 3 * a + b)) ∧
  (∀ v, v < n → tA v = al v ∧ ∃ m, m < 8 ∧ al v = nI m)
/-- the relation at the head of a turn: equal sizes, equal tables on the cells in use, the reference's pair table symmetric, masks below 8; the component's scratch is free -/
def i_Rel (k : Nat) (u : SX) (v : SY) : Prop := match u, v with
  | (fN, fD, _, _, _, _, _, _, _, _, _, tU, tB, tA, _, _, _, _, _, _, _), (gN, gD, gA, one, two, al) => ∃ n d : Nat, fN = nI n ∧ fD = nI d ∧ gN = nI n ∧ gD = nI d ∧ gA = nI (d ^ n) ∧ wc_Rel n d tU tB tA one two al
theorem i_up {k : Nat} {u : SX} {v : SY} (h : i_Rel k u v) : i_Rel (k + 4) u v := h
theorem wc_el {k : Nat} {u : SX} {v : SY} (I : i_Rel k u v) {P : SX → SY → Prop} (h : ∀ (n d : Nat) (fl cu ab cn cg oL oH oV oW : Int32) (tU tB tA mK sG pR eX rE vA fB one two al : Nat → Int32), wc_Rel n d tU tB tA one two al → P (nI n, nI d, fl, cu, ab, cn, cg, oL, oH, oV, oW, tU, tB, tA, mK, sG, pR, eX, rE, vA, fB) (nI n, nI d, nI (d ^ n), one, two, al)) : P u v := by
  obtain ⟨fN, fD, fl, cu, ab, cn, cg, oL, oH, oV, oW, tU, tB, tA, mK, sG, pR, eX, rE, vA, fB⟩ := u
  obtain ⟨gN, gD, gA, one, two, al⟩ := v
  obtain ⟨n, d, e1, e2, e3, e4, e5, hR⟩ := I
  subst e1 e2 e3 e4 e5
  exact h n d fl cu ab cn cg oL oH oV oW tU tB tA mK sG pR eX rE vA fB one two al hR
section
variable {n d : Nat} {fl cu ab cn cg oL oH oV oW : Int32} {tU tB tA mK sG pR eX rE vA fB : Nat → Int32}
variable {one two al : Nat → Int32}
theorem wc_mk {k : Nat} (h : wc_Rel n d tU tB tA one two al) : i_Rel k (nI n, nI d, fl, cu, ab, cn, cg, oL, oH, oV, oW, tU, tB, tA, mK, sG, pR, eX, rE, vA, fB) (nI n, nI d, nI (d ^ n), one, two, al) := ⟨n, d, rfl, rfl, rfl, rfl, rfl, h⟩
theorem wc_isVar_f {post : Int32 → Prop} {p : Int32} (h : p < 0 ∨ nI n ≤ p) (hp : post 0) : wpX_isVar post (nI n, nI d, fl, cu, ab, cn, cg, oL, oH, oV, oW, tU, tB, tA, mK, sG, pR, eX, rE, vA, fB) p :=
  br_c (fun _ => hp) (fun q => br_c (fun _ => hp) (fun z => (h.elim (fun y => absurd y q) (fun y => absurd y z))))
theorem wc_isVar_t {post : Int32 → Prop} {j : Nat} (hn : n ≤ 6) (h : j < n) (hp : post 1) : wpX_isVar post (nI n, nI d, fl, cu, ab, cn, cg, oL, oH, oV, oW, tU, tB, tA, mK, sG, pR, eX, rE, vA, fB) (nI j) :=
  br_f (nI_pos (by omega)) (br_f (nI_ge h (by omega)) hp)
theorem wc_isValue_f {post : Int32 → Prop} {p : Int32} (h : p < 0 ∨ nI d ≤ p) (hp : post 0) : wpX_isValue post (nI n, nI d, fl, cu, ab, cn, cg, oL, oH, oV, oW, tU, tB, tA, mK, sG, pR, eX, rE, vA, fB) p :=
  br_c (fun _ => hp) (fun q => br_c (fun _ => hp) (fun z => (h.elim (fun y => absurd y q) (fun y => absurd y z))))
theorem wc_isValue_t {post : Int32 → Prop} {j : Nat} (hd3 : d ≤ 3) (h : j < d) (hp : post 1) : wpX_isValue post (nI n, nI d, fl, cu, ab, cn, cg, oL, oH, oV, oW, tU, tB, tA, mK, sG, pR, eX, rE, vA, fB) (nI j) :=
  br_f (nI_pos (by omega)) (br_f (nI_ge h (by omega)) hp)
end
theorem wc_isCost_t {post : Int32 → Prop} {c : Int32} (h : wc_CO c) (hp : post 1) : wpX_isCost post c := by
  have e40 : (40 : Int32).toInt = 40 := by decide
  refine br_c (fun q => ?_) (fun q => br_c (fun _ => hp) (fun z => ?_))
  · refine br_c (fun _ => hp) (fun y => ?_)
    rw [Int32.lt_iff_toInt_lt, wc_z0] at q
    rcases h with h | h
    · omega
    · exact absurd h y
  · refine br_c (fun _ => hp) (fun y => ?_)
    rw [Int32.lt_iff_toInt_lt, wc_z0] at q
    rw [Int32.le_iff_toInt_le, e40] at z
    rcases h with h | h
    · omega
    · exact absurd h y
theorem wc_isCost_f {post : Int32 → Prop} {c : Int32} (h : ¬ wc_CO c) (hp : post 0) : wpX_isCost post c := by
  have e40 : (40 : Int32).toInt = 40 := by decide
  refine br_c (fun q => br_f (fun y => h (Or.inr y)) hp) (fun q => br_c (fun z => ?_) (fun z => br_f (fun y => h (Or.inr y)) hp))
  rw [Int32.lt_iff_toInt_lt, wc_z0] at q
  rw [Int32.le_iff_toInt_le, e40] at z
  exact absurd (Or.inl ⟨by omega, z⟩) h
section
variable {n d N : Nat} {one two al : Nat → Int32}
theorem wc_badVar_t {post : Int32 → Prop} {p : Int32} (h : p < 0 ∨ nI n ≤ p) (hp : post 1) : wpY_badVar post (nI n, nI d, nI N, one, two, al) p :=
  br_c (fun _ => hp) (fun q => br_c (fun _ => hp) (fun z => (h.elim (fun y => absurd y q) (fun y => absurd y z))))
theorem wc_badVar_f {post : Int32 → Prop} {j : Nat} (hn : n ≤ 6) (h : j < n) (hp : post 0) : wpY_badVar post (nI n, nI d, nI N, one, two, al) (nI j) :=
  br_f (nI_pos (by omega)) (br_f (nI_ge h (by omega)) (br_t (nI_lt (b := 6) (by omega) (by omega)) hp))
theorem wc_badValue_t {post : Int32 → Prop} {p : Int32} (h : p < 0 ∨ nI d ≤ p) (hp : post 1) : wpY_badValue post (nI n, nI d, nI N, one, two, al) p :=
  br_c (fun _ => hp) (fun q => br_c (fun _ => hp) (fun z => (h.elim (fun y => absurd y q) (fun y => absurd y z))))
theorem wc_badValue_f {post : Int32 → Prop} {j : Nat} (hd3 : d ≤ 3) (h : j < d) (hp : post 0) : wpY_badValue post (nI n, nI d, nI N, one, two, al) (nI j) :=
  br_f (nI_pos (by omega)) (br_f (nI_ge h (by omega)) (br_t (nI_lt (b := 3) (by omega) (by omega)) hp))
theorem wc_badCost_f {post : Int32 → Prop} {c : Int32} (h : wc_CO c) (hp : post 0) : wpY_badCost post (nI n, nI d, nI N, one, two, al) c := by
  have e40 : (40 : Int32).toInt = 40 := by decide
  refine br_c (fun q => ?_) (fun q => br_c (fun _ => hp) (fun z => ?_))
  · refine br_c (fun _ => hp) (fun y => ?_)
    rw [Int32.lt_iff_toInt_lt, wc_z0] at q
    rcases h with h | h
    · omega
    · exact absurd h y
  · refine br_c (fun _ => hp) (fun y => ?_)
    rw [Int32.lt_iff_toInt_lt, wc_z0] at q
    rw [Int32.le_iff_toInt_le, e40] at z
    rcases h with h | h
    · omega
    · exact absurd h y
theorem wc_badCost_t {post : Int32 → Prop} {c : Int32} (h : ¬ wc_CO c) (hp : post 1) : wpY_badCost post (nI n, nI d, nI N, one, two, al) c := by
  have e40 : (40 : Int32).toInt = 40 := by decide
  refine br_c (fun q => br_f (fun y => h (Or.inr y)) hp) (fun q => br_c (fun z => ?_) (fun z => br_f (fun y => h (Or.inr y)) hp))
  rw [Int32.lt_iff_toInt_lt, wc_z0] at q
  rw [Int32.le_iff_toInt_le, e40] at z
  exact absurd (Or.inl ⟨by omega, z⟩) h
end
theorem wc_one_ne : ¬ (1 : Int32) = 0 := by decide
theorem wc_Rel_U {n d : Nat} {tU tB tA one two al : Nat → Int32} {v a : Nat} {c : Int32} (h : wc_Rel n d tU tB tA one two al) (hc : wc_CO c) : wc_Rel n d (upd tU (3 * v + a) c) tB tA (upd one (3 * v + a) c) two al := by
  obtain ⟨h0, h1, h2, h3, h4⟩ := h
  refine ⟨h0, ⟨fun w x hw hx => ?_, h1.2⟩, fun w x hw hx => ?_, h3, h4⟩
  · by_cases e : 3 * w + x = 3 * v + a
    · rw [e, pk_us]; exact hc
    · rw [pk_un e]; exact h1.1 w x hw hx
  · by_cases e : 3 * w + x = 3 * v + a
    · rw [e, pk_us, pk_us]
    · rw [pk_un e, pk_un e]; exact h2 w x hw hx
theorem i_vc_unary {k : Nat} {u : SX} {v : SY} (I : i_Rel k u v) (hk : k + 4 ≤ 2050) (v1 : Int32) (v2 : Int32) (v3 : Int32) : wpX_unary (fun r u' => wpY_unary (fun r' v' => r' = r ∧ i_Rel (k + 4) u' v') v v1 v2 v3) u v1 v2 v3 := by
  refine wc_el I (P := fun u v => wpX_unary (fun r u' => wpY_unary (fun r' v' => r' = r ∧ i_Rel (k + 4) u' v') v v1 v2 v3) u v1 v2 v3) ?_
  intro n d fl cu ab cn cg oL oH oV oW tU tB tA mK sG pR eX rE vA fB one two al hR
  unfold wpX_unary wpY_unary
  dsimp only
  obtain ⟨⟨hn2, hn, hd, hd3⟩, hI, hU, hB, hA⟩ := id hR
  by_cases h1 : v1 < 0 ∨ nI n ≤ v1
  · exact wc_isVar_f h1 (br_t rfl (wc_badVar_t h1 (br_f wc_one_ne ⟨rfl, wc_mk hR⟩)))
  · obtain ⟨i, hi, rfl⟩ : ∃ j : Nat, j < n ∧ v1 = nI j := ((pk_ix v1 (n := n) (by omega)).resolve_left (fun z => h1 (Or.inl z))).resolve_left (fun z => h1 (Or.inr z))
    refine wc_isVar_t hn hi (br_f wc_one_ne ?_)
    by_cases h2 : v2 < 0 ∨ nI d ≤ v2
    · exact wc_isValue_f h2 (br_t rfl (wc_badVar_f hn hi (br_t rfl (wc_badValue_t h2 (br_f wc_one_ne ⟨rfl, wc_mk hR⟩)))))
    · obtain ⟨a, ha, rfl⟩ : ∃ j : Nat, j < d ∧ v2 = nI j := ((pk_ix v2 (n := d) (by omega)).resolve_left (fun z => h2 (Or.inl z))).resolve_left (fun z => h2 (Or.inr z))
      refine wc_isValue_t hd3 ha (br_f wc_one_ne ?_)
      by_cases h3 : wc_CO v3
      · have hi' : vp_in ((3 : Int32) * nI i + nI a) 18 := pk_in (3 * i + a) 18 (by omega) (wc_i2 i a)
        refine wc_isCost_t h3 (br_f wc_one_ne ⟨hi', fun x ex => ⟨hi', fun y ey => ?_⟩⟩)
        refine wc_badVar_f hn hi (br_t rfl (wc_badValue_f hd3 ha (br_t rfl (wc_badCost_f h3 (br_t rfl ⟨hi', fun x' ex' => ⟨hi', fun y' ey' => ?_⟩⟩)))))
        rw [wc_i2, nI_clamp (by omega)] at ex ey ex' ey'
        subst ex ey ex' ey'
        exact ⟨(hU i a hi ha).symm, wc_mk (wc_Rel_U hR h3)⟩
      · exact wc_isCost_f h3 (br_t rfl (wc_badVar_f hn hi (br_t rfl (wc_badValue_f hd3 ha (br_t rfl (wc_badCost_t h3 (br_f wc_one_ne ⟨rfl, wc_mk hR⟩)))))))
theorem i_vc_unaryCost {k : Nat} {u : SX} {v : SY} (I : i_Rel k u v) (hk : k + 4 ≤ 2050) (v1 : Int32) (v2 : Int32) : wpX_unaryCost (fun r => wpY_unaryCost (fun r' => r' = r ∧ i_Rel (k + 4) u v) v v1 v2) u v1 v2 := by
  refine wc_el I (P := fun u v => wpX_unaryCost (fun r => wpY_unaryCost (fun r' => r' = r ∧ i_Rel (k + 4) u v) v v1 v2) u v1 v2) ?_
  intro n d fl cu ab cn cg oL oH oV oW tU tB tA mK sG pR eX rE vA fB one two al hR
  unfold wpX_unaryCost wpY_unaryCost
  dsimp only
  obtain ⟨⟨hn2, hn, hd, hd3⟩, hI, hU, hB, hA⟩ := id hR
  by_cases h1 : v1 < 0 ∨ nI n ≤ v1
  · exact wc_isVar_f h1 (br_t rfl (wc_badVar_t h1 (br_f wc_one_ne ⟨rfl, wc_mk hR⟩)))
  · obtain ⟨i, hi, rfl⟩ : ∃ j : Nat, j < n ∧ v1 = nI j := ((pk_ix v1 (n := n) (by omega)).resolve_left (fun z => h1 (Or.inl z))).resolve_left (fun z => h1 (Or.inr z))
    refine wc_isVar_t hn hi (br_f wc_one_ne ?_)
    by_cases h2 : v2 < 0 ∨ nI d ≤ v2
    · exact wc_isValue_f h2 (br_t rfl (wc_badVar_f hn hi (br_t rfl (wc_badValue_t h2 (br_f wc_one_ne ⟨rfl, wc_mk hR⟩)))))
    · obtain ⟨a, ha, rfl⟩ : ∃ j : Nat, j < d ∧ v2 = nI j := ((pk_ix v2 (n := d) (by omega)).resolve_left (fun z => h2 (Or.inl z))).resolve_left (fun z => h2 (Or.inr z))
      have hi' : vp_in ((3 : Int32) * nI i + nI a) 18 := pk_in (3 * i + a) 18 (by omega) (wc_i2 i a)
      refine wc_isValue_t hd3 ha (br_f wc_one_ne ⟨hi', ?_⟩)
      refine wc_badVar_f hn hi (br_t rfl (wc_badValue_f hd3 ha (br_t rfl ⟨hi', ?_⟩)))
      rw [wc_i2, nI_clamp (by omega)]
      exact ⟨(hU i a hi ha).symm, wc_mk hR⟩
theorem wc_shl {d : Nat} (hd : 1 < d) (hd3 : d ≤ 3) : (1 : Int32) <<< (nI d &&& 31) = nI (2 ^ d) ∧ ((1 : Int32) <<< (nI d &&& 31)) - 1 = nI (2 ^ d - 1) ∧ 4 ≤ 2 ^ d ∧ 2 ^ d ≤ 8 := by
  have h : d = 2 ∨ d = 3 := by omega
  rcases h with rfl | rfl <;> decide
theorem wc_Rel_A {n d : Nat} {tU tB tA one two al : Nat → Int32} {v m : Nat} (h : wc_Rel n d tU tB tA one two al) (hm : m < 8) : wc_Rel n d tU tB (upd tA v (nI m)) one two (upd al v (nI m)) := by
  obtain ⟨h0, h1, h2, h3, h4⟩ := h
  refine ⟨h0, h1, h2, h3, fun w hw => ?_⟩
  by_cases e : w = v
  · subst e; rw [pk_us, pk_us]; exact ⟨rfl, m, hm, rfl⟩
  · rw [pk_un e, pk_un e]; exact h4 w hw
theorem i_vc_allow {k : Nat} {u : SX} {v : SY} (I : i_Rel k u v) (hk : k + 4 ≤ 2050) (v1 : Int32) (v2 : Int32) : wpX_allow (fun r u' => wpY_allow (fun r' v' => r' = r ∧ i_Rel (k + 4) u' v') v v1 v2) u v1 v2 := by
  refine wc_el I (P := fun u v => wpX_allow (fun r u' => wpY_allow (fun r' v' => r' = r ∧ i_Rel (k + 4) u' v') v v1 v2) u v1 v2) ?_
  intro n d fl cu ab cn cg oL oH oV oW tU tB tA mK sG pR eX rE vA fB one two al hR
  unfold wpX_allow wpY_allow
  dsimp only
  obtain ⟨⟨hn2, hn, hd, hd3⟩, hI, hU, hB, hA⟩ := id hR
  obtain ⟨s1, s2, s3, s4⟩ := wc_shl hd hd3
  have s2' : nI (2 ^ d) - 1 = nI (2 ^ d - 1) := by rw [← s1]; exact s2
  by_cases h1 : v1 < 0 ∨ nI n ≤ v1
  · exact wc_isVar_f h1 (br_t rfl (wc_badVar_t h1 (br_f wc_one_ne ⟨rfl, wc_mk hR⟩)))
  · obtain ⟨i, hi, rfl⟩ : ∃ j : Nat, j < n ∧ v1 = nI j := ((pk_ix v1 (n := n) (by omega)).resolve_left (fun z => h1 (Or.inl z))).resolve_left (fun z => h1 (Or.inr z))
    refine wc_isVar_t hn hi (br_f wc_one_ne ?_)
    by_cases h2 : v2 < 1
    · exact br_t h2 (wc_badVar_f hn hi (br_t rfl (br_t h2 ⟨rfl, wc_mk hR⟩)))
    · have h2' : ¬ v2 < 0 := by
        have e1 : (1 : Int32).toInt = 1 := by decide
        rw [Int32.lt_iff_toInt_lt, e1] at h2
        rw [Int32.lt_iff_toInt_lt, wc_z0]; omega
      obtain ⟨m, hm, rfl⟩ := nI_of h2'
      refine br_f h2 ?_
      rw [s1]
      have hi' : vp_in (nI i) 6 := vp_in_nI (by omega) (by omega)
      refine pk_lt m (2 ^ d) (fun h3 => ⟨hi', fun x ex => ⟨hi', fun y ey => ?_⟩⟩) (fun h3 => ?_)
      · refine wc_badVar_f hn hi (br_t rfl (br_f h2 ?_))
        rw [s2']
        refine br_t (nI_le (by omega) (by omega)) ⟨hi', fun x' ex' => ⟨hi', fun y' ey' => ?_⟩⟩
        rw [nI_clamp (by omega)] at ex ey ex' ey'
        subst ex ey ex' ey'
        exact ⟨(hA i hi).1.symm, wc_mk (wc_Rel_A hR (by omega))⟩
      · refine wc_badVar_f hn hi (br_t rfl (br_f h2 ?_))
        rw [s2']
        exact br_f (nI_ge (by omega) hm) ⟨rfl, wc_mk hR⟩
end
section
/-! pairs: takePair, takeValues, binary, binaryCost -/
theorem wc_nn {n : Nat} (hn2 : 2 ≤ n) (hn : n ≤ 6) : 4 ≤ n * n ∧ n * n ≤ 36 :=
  ⟨Nat.mul_le_mul hn2 hn2, Nat.mul_le_mul hn hn⟩
theorem wc_dd {d : Nat} (hd : 1 < d) (hd3 : d ≤ 3) : 4 ≤ d * d ∧ d * d ≤ 9 :=
  ⟨Nat.mul_le_mul hd hd, Nat.mul_le_mul hd3 hd3⟩
section
variable {n d : Nat} {fl cu ab cn cg oL oH oV oW : Int32} {tU tB tA mK sG pR eX rE vA fB : Nat → Int32}
theorem wc_takePair_b {post : Int32 → SX → Prop} {p : Int32} (h : p < 0 ∨ nI (n * n) ≤ p) (hp : post 0 (nI n, nI d, fl, cu, ab, cn, cg, oL, oH, oV, oW, tU, tB, tA, mK, sG, pR, eX, rE, vA, fB)) : wpX_takePair post (nI n, nI d, fl, cu, ab, cn, cg, oL, oH, oV, oW, tU, tB, tA, mK, sG, pR, eX, rE, vA, fB) p := by
  refine br_c (fun _ => hp) (fun q => ?_)
  rw [pk_mul]
  refine br_f ?_ hp
  rcases h with h | h
  · exact absurd h q
  · exact Int32.not_lt.mpr h
theorem wc_takePair_e {post : Int32 → SX → Prop} {q : Nat} (hn2 : 2 ≤ n) (hn : n ≤ 6) (h : q < n * n) (he : q / n = q % n) (hp : ∀ a b : Int32, post 0 (nI n, nI d, fl, cu, ab, cn, cg, a, b, oV, oW, tU, tB, tA, mK, sG, pR, eX, rE, vA, fB)) : wpX_takePair post (nI n, nI d, fl, cu, ab, cn, cg, oL, oH, oV, oW, tU, tB, tA, mK, sG, pR, eX, rE, vA, fB) (nI q) := by
  have nn := wc_nn hn2 hn
  have n0 : ¬ nI n = 0 := nI_ne0 (by omega) (by omega)
  refine br_f (nI_pos (by omega)) ?_
  rw [pk_mul]
  refine br_t (nI_lt h (by omega)) ⟨n0, fun x ex => ⟨n0, fun y ey => ?_⟩⟩
  rw [pk_div (by omega) (by omega) (by omega)] at ex
  rw [pk_rem (by omega) (by omega) (by omega)] at ey
  subst ex ey
  rw [he]
  refine br_t (Int32.le_refl _) ?_
  refine br_t (Int32.le_refl _) ?_
  exact br_t rfl (hp _ _)
theorem wc_takePair_g {post : Int32 → SX → Prop} {q : Nat} (hn2 : 2 ≤ n) (hn : n ≤ 6) (h : q < n * n) (he : q / n ≠ q % n) (hp : ∀ l m : Nat, l < m → m < n → ((q / n = l ∧ q % n = m) ∨ (q / n = m ∧ q % n = l)) → post 1 (nI n, nI d, fl, cu, ab, cn, cg, nI l, nI m, oV, oW, tU, tB, tA, mK, sG, pR, eX, rE, vA, fB)) : wpX_takePair post (nI n, nI d, fl, cu, ab, cn, cg, oL, oH, oV, oW, tU, tB, tA, mK, sG, pR, eX, rE, vA, fB) (nI q) := by
  have nn := wc_nn hn2 hn
  have n0 : ¬ nI n = 0 := nI_ne0 (by omega) (by omega)
  have q1 : q / n < n := Nat.div_lt_of_lt_mul h
  have q2 : q % n < n := Nat.mod_lt _ (by omega)
  refine br_f (nI_pos (by omega)) ?_
  rw [pk_mul]
  refine br_t (nI_lt h (by omega)) ⟨n0, fun x ex => ⟨n0, fun y ey => ?_⟩⟩
  rw [pk_div (by omega) (by omega) (by omega)] at ex
  rw [pk_rem (by omega) (by omega) (by omega)] at ey
  subst ex ey
  refine pk_le (q % n) (q / n) (fun z => ?_) (fun z => ?_)
  · refine br_t (nI_le z (by omega)) (br_f (fun e => he ((nI_eq (by omega) (by omega)).mp e)) ?_)
    exact hp (q % n) (q / n) (by omega) q1 (Or.inr ⟨rfl, rfl⟩)
  · refine br_f (nI_ge z (by omega)) (br_f (fun e => he ((nI_eq (by omega) (by omega)).mp e)) ?_)
    exact hp (q / n) (q % n) (by omega) q2 (Or.inl ⟨rfl, rfl⟩)
theorem wc_takeValues_b {post : Int32 → SX → Prop} {p w : Int32} (h : w < 0 ∨ nI (d * d) ≤ w) (hp : post 0 (nI n, nI d, fl, cu, ab, cn, cg, oL, oH, oV, oW, tU, tB, tA, mK, sG, pR, eX, rE, vA, fB)) : wpX_takeValues post (nI n, nI d, fl, cu, ab, cn, cg, oL, oH, oV, oW, tU, tB, tA, mK, sG, pR, eX, rE, vA, fB) p w := by
  refine br_c (fun _ => hp) (fun q => ?_)
  rw [pk_mul]
  refine br_f ?_ hp
  rcases h with h | h
  · exact absurd h q
  · exact Int32.not_lt.mpr h
theorem wc_takeValues_g {post : Int32 → SX → Prop} {q w : Nat} (hn2 : 2 ≤ n) (hn : n ≤ 6) (hd : 1 < d) (hd3 : d ≤ 3) (h : q < n * n) (hw : w < d * d) (hp : ∀ a b : Nat, a < d → b < d → ((q / n < q % n ∧ w / d = a ∧ w % d = b) ∨ (q % n ≤ q / n ∧ w / d = b ∧ w % d = a)) → post 1 (nI n, nI d, fl, cu, ab, cn, cg, oL, oH, nI a, nI b, tU, tB, tA, mK, sG, pR, eX, rE, vA, fB)) : wpX_takeValues post (nI n, nI d, fl, cu, ab, cn, cg, oL, oH, oV, oW, tU, tB, tA, mK, sG, pR, eX, rE, vA, fB) (nI q) (nI w) := by
  have nn := wc_nn hn2 hn
  have dd := wc_dd hd hd3
  have n0 : ¬ nI n = 0 := nI_ne0 (by omega) (by omega)
  have d0 : ¬ nI d = 0 := nI_ne0 (by omega) (by omega)
  have q1 : q / n < n := Nat.div_lt_of_lt_mul h
  have q2 : q % n < n := Nat.mod_lt _ (by omega)
  have w1 : w / d < d := Nat.div_lt_of_lt_mul hw
  have w2 : w % d < d := Nat.mod_lt _ (by omega)
  have ed : nI w / nI d = nI (w / d) := pk_div (by omega) (by omega) (by omega)
  have er : nI w - nI w / nI d * nI d = nI (w % d) := pk_rem (by omega) (by omega) (by omega)
  refine br_f (nI_pos (by omega)) ?_
  rw [pk_mul, pk_rem (a := q) (by omega) (by omega) (by omega), pk_div (a := q) (by omega) (by omega) (by omega)]
  refine br_t (nI_lt hw (by omega)) ⟨n0, n0, pk_le (q % n) (q / n) (fun z => ?_) (fun z => ?_)⟩
  · refine br_t rfl ⟨d0, ?_⟩
    rw [er]
    refine br_t rfl ⟨d0, fun y ey => ?_⟩
    rw [ed] at ey
    subst ey
    exact hp (w % d) (w / d) w2 w1 (Or.inr ⟨z, rfl, rfl⟩)
  · refine br_f wc_one_ne ⟨d0, ?_⟩
    rw [ed]
    refine br_f wc_one_ne ⟨d0, fun y ey => ?_⟩
    rw [er] at ey
    subst ey
    exact hp (w / d) (w % d) w1 w2 (Or.inl ⟨z, rfl, rfl⟩)
end
section
variable {n d N : Nat} {one two al : Nat → Int32}
theorem wc_badPair_b {post : Int32 → Prop} {p : Int32} (hn2 : 2 ≤ n) (hn : n ≤ 6) (h : p < 0 ∨ nI (n * n) ≤ p) (hp : post 1) : wpY_badPair post (nI n, nI d, nI N, one, two, al) p := by
  have nn := wc_nn hn2 hn
  refine br_c (fun _ => hp) (fun q => ?_)
  rw [pk_mul, wc_nm1 (by omega)]
  refine br_f ?_ hp
  rcases h with h | h
  · exact absurd h q
  · obtain ⟨j, hj, rfl⟩ := nI_of q
    rw [nI_leI (by omega) hj] at h
    exact nI_ge (by omega) hj
theorem wc_badPair_q {post : Int32 → Prop} {q : Nat} (hn2 : 2 ≤ n) (hn : n ≤ 6) (h : q < n * n) (h1 : q / n = q % n → post 1) (h0 : q / n ≠ q % n → post 0) : wpY_badPair post (nI n, nI d, nI N, one, two, al) (nI q) := by
  have nn := wc_nn hn2 hn
  have q1 : q / n < n := Nat.div_lt_of_lt_mul h
  have q2 : q % n < n := Nat.mod_lt _ (by omega)
  refine br_f (nI_pos (by omega)) ?_
  rw [pk_mul, wc_nm1 (by omega)]
  refine br_t (nI_le (by omega) (by omega)) (wc_yover (by omega) (by omega) (by omega) (wc_yrest (by omega) (by omega) (by omega) ?_))
  exact pk_eq (q / n) (q % n) h1 h0
theorem wc_badValues_b {post : Int32 → Prop} {w : Int32} (hd : 1 < d) (hd3 : d ≤ 3) (h : w < 0 ∨ nI (d * d) ≤ w) (hp : post 1) : wpY_badValues post (nI n, nI d, nI N, one, two, al) w := by
  have dd := wc_dd hd hd3
  refine br_c (fun _ => hp) (fun q => ?_)
  rw [pk_mul, wc_nm1 (by omega)]
  refine br_f ?_ hp
  rcases h with h | h
  · exact absurd h q
  · obtain ⟨j, hj, rfl⟩ := nI_of q
    rw [nI_leI (by omega) hj] at h
    exact nI_ge (by omega) hj
theorem wc_badValues_g {post : Int32 → Prop} {w : Nat} (hd : 1 < d) (hd3 : d ≤ 3) (h : w < d * d) (hp : post 0) : wpY_badValues post (nI n, nI d, nI N, one, two, al) (nI w) := by
  have dd := wc_dd hd hd3
  refine br_f (nI_pos (by omega)) ?_
  rw [pk_mul, wc_nm1 (by omega)]
  exact br_t (nI_le (by omega) (by omega)) hp
theorem wc_placeOf {post : Int32 → Prop} {q w u v a b : Nat} (hn2 : 2 ≤ n) (hn : n ≤ 6) (hd : 1 < d) (hd3 : d ≤ 3) (h : q < n * n) (hw : w < d * d) (e1 : q / n = u) (e2 : q % n = v) (e3 : w / d = a) (e4 : w % d = b) (hp : post (nI ((6 * u + v) * 9 + 3 * a + b))) : wpY_placeOf post (nI n, nI d, nI N, one, two, al) (nI q) (nI w) := by
  have nn := wc_nn hn2 hn
  have dd := wc_dd hd hd3
  unfold wpY_placeOf
  refine wc_yover (by omega) (by omega) (by omega) (wc_yrest (by omega) (by omega) (by omega) (wc_yover (by omega) (by omega) (by omega) (wc_yrest (by omega) (by omega) (by omega) ?_)))
  rw [e1, e2, e3, e4]
  show post _
  rw [wc_i9]; exact hp
theorem wc_mirrored {post : Int32 → Prop} {q w u v a b : Nat} (hn2 : 2 ≤ n) (hn : n ≤ 6) (hd : 1 < d) (hd3 : d ≤ 3) (h : q < n * n) (hw : w < d * d) (e1 : q / n = u) (e2 : q % n = v) (e3 : w / d = a) (e4 : w % d = b) (hp : post (nI ((6 * v + u) * 9 + 3 * b + a))) : wpY_mirrored post (nI n, nI d, nI N, one, two, al) (nI q) (nI w) := by
  have nn := wc_nn hn2 hn
  have dd := wc_dd hd hd3
  unfold wpY_mirrored
  refine wc_yover (by omega) (by omega) (by omega) (wc_yrest (by omega) (by omega) (by omega) (wc_yover (by omega) (by omega) (by omega) (wc_yrest (by omega) (by omega) (by omega) ?_)))
  rw [e1, e2, e3, e4]
  show post _
  rw [wc_i9]; exact hp
end
theorem wc_ixne {u v x y l m a b : Nat} (hv : v < 6) (hm : m < 6) (hx : x < 3) (hy : y < 3) (ha : a < 3) (hb : b < 3) (h : (6 * u + v) * 9 + 3 * x + y = (6 * l + m) * 9 + 3 * a + b) : u = l ∧ v = m ∧ x = a ∧ y = b := by
  have e1 : u = l := by omega
  have e2 : v = m := by omega
  have e3 : x = a := by omega
  exact ⟨e1, e2, e3, by omega⟩
theorem wc_Rel_B {n d : Nat} {tU tB tA one two two' al : Nat → Int32} {l m a b : Nat} {c : Int32} (h : wc_Rel n d tU tB tA one two al) (hc : wc_CO c) (hlm : l < m) (hm : m < n) (ha : a < d) (hb : b < d) (h1 : two' ((6 * l + m) * 9 + 3 * a + b) = c) (h2 : two' ((6 * m + l) * 9 + 3 * b + a) = c) (h3 : ∀ i, i ≠ (6 * l + m) * 9 + 3 * a + b → i ≠ (6 * m + l) * 9 + 3 * b + a → two' i = two i) : wc_Rel n d tU (upd tB ((6 * l + m) * 9 + 3 * a + b) c) tA one two' al := by
  obtain ⟨h0, hI, hU, hB, hA⟩ := h
  obtain ⟨hn2, hn, hd, hd3⟩ := id h0
  have key : ∀ u v x y, u < v → v < n → x < d → y < d → ¬ (u = l ∧ v = m ∧ x = a ∧ y = b) → two' ((6 * u + v) * 9 + 3 * x + y) = two ((6 * u + v) * 9 + 3 * x + y) ∧ two' ((6 * v + u) * 9 + 3 * y + x) = two ((6 * v + u) * 9 + 3 * y + x) ∧ upd tB ((6 * l + m) * 9 + 3 * a + b) c ((6 * u + v) * 9 + 3 * x + y) = tB ((6 * u + v) * 9 + 3 * x + y) := by
    intro u v x y huv hv hx hy hne
    have n1 : (6 * u + v) * 9 + 3 * x + y ≠ (6 * l + m) * 9 + 3 * a + b := fun e => hne (wc_ixne (by omega) (by omega) (by omega) (by omega) (by omega) (by omega) e)
    have n2 : (6 * u + v) * 9 + 3 * x + y ≠ (6 * m + l) * 9 + 3 * b + a := fun e => by
      have z := wc_ixne (by omega) (by omega) (by omega) (by omega) (by omega) (by omega) e
      omega
    have n3 : (6 * v + u) * 9 + 3 * y + x ≠ (6 * l + m) * 9 + 3 * a + b := fun e => by
      have z := wc_ixne (by omega) (by omega) (by omega) (by omega) (by omega) (by omega) e
      omega
    have n4 : (6 * v + u) * 9 + 3 * y + x ≠ (6 * m + l) * 9 + 3 * b + a := fun e => by
      have z := wc_ixne (by omega) (by omega) (by omega) (by omega) (by omega) (by omega) e
      exact hne ⟨z.2.1, z.1, z.2.2.2, z.2.2.1⟩
    exact ⟨h3 _ n1 n2, h3 _ n3 n4, pk_un n1⟩
  refine ⟨h0, ⟨hI.1, fun u v x y huv hv hx hy => ?_⟩, hU, fun u v x y huv hv hx hy => ?_, hA⟩
  · by_cases e : u = l ∧ v = m ∧ x = a ∧ y = b
    · obtain ⟨rfl, rfl, rfl, rfl⟩ := e
      rw [h1]; exact hc
    · rw [(key u v x y huv hv hx hy e).1]; exact hI.2 u v x y huv hv hx hy
  · by_cases e : u = l ∧ v = m ∧ x = a ∧ y = b
    · obtain ⟨rfl, rfl, rfl, rfl⟩ := e
      rw [h1, h2, pk_us]; exact ⟨rfl, rfl⟩
    · obtain ⟨k1, k2, k3⟩ := key u v x y huv hv hx hy e
      rw [k1, k2, k3]; exact hB u v x y huv hv hx hy
theorem wc_pm {U V A B l m a b : Nat} (hlm : l < m) (h1 : (U = l ∧ V = m) ∨ (U = m ∧ V = l)) (h2 : (U < V ∧ A = a ∧ B = b) ∨ (V ≤ U ∧ A = b ∧ B = a)) : (U = l ∧ V = m ∧ A = a ∧ B = b) ∨ (U = m ∧ V = l ∧ A = b ∧ B = a) := by
  omega
end
section
/-! binary, binaryCost -/
theorem i_vc_binary {k : Nat} {u : SX} {v : SY} (I : i_Rel k u v) (hk : k + 4 ≤ 2050) (v1 : Int32) (v2 : Int32) (v3 : Int32) : wpX_binary (fun r u' => wpY_binary (fun r' v' => r' = r ∧ i_Rel (k + 4) u' v') v v1 v2 v3) u v1 v2 v3 := by
  refine wc_el I (P := fun u v => wpX_binary (fun r u' => wpY_binary (fun r' v' => r' = r ∧ i_Rel (k + 4) u' v') v v1 v2 v3) u v1 v2 v3) ?_
  intro n d fl cu ab cn cg oL oH oV oW tU tB tA mK sG pR eX rE vA fB one two al hR
  unfold wpX_binary wpY_binary
  dsimp only
  obtain ⟨⟨hn2, hn, hd, hd3⟩, hI, hU, hB, hA⟩ := id hR
  have nn := wc_nn hn2 hn
  have dd := wc_dd hd hd3
  by_cases h1 : v1 < 0 ∨ nI (n * n) ≤ v1
  · exact wc_takePair_b h1 (br_t rfl (wc_badPair_b hn2 hn h1 (br_f wc_one_ne ⟨rfl, wc_mk hR⟩)))
  · obtain ⟨q, hq, rfl⟩ : ∃ j : Nat, j < n * n ∧ v1 = nI j := ((pk_ix v1 (n := n * n) (by omega)).resolve_left (fun z => h1 (Or.inl z))).resolve_left (fun z => h1 (Or.inr z))
    by_cases he : q / n = q % n
    · refine wc_takePair_e hn2 hn hq he (fun a b => ?_)
      exact br_t rfl (wc_badPair_q hn2 hn hq (fun _ => br_f wc_one_ne ⟨rfl, wc_mk hR⟩) (fun z => absurd he z))
    · refine wc_takePair_g hn2 hn hq he (fun l m hlm hm hc1 => ?_)
      refine br_f wc_one_ne ?_
      by_cases h2 : v2 < 0 ∨ nI (d * d) ≤ v2
      · refine wc_takeValues_b h2 ?_
        exact br_t rfl (wc_badPair_q hn2 hn hq (fun z => absurd z he) (fun _ => br_t rfl (wc_badValues_b hd hd3 h2 (br_f wc_one_ne ⟨rfl, wc_mk hR⟩))))
      · obtain ⟨w, hw, rfl⟩ : ∃ j : Nat, j < d * d ∧ v2 = nI j := ((pk_ix v2 (n := d * d) (by omega)).resolve_left (fun z => h2 (Or.inl z))).resolve_left (fun z => h2 (Or.inr z))
        refine wc_takeValues_g hn2 hn hd hd3 hq hw (fun a b ha hb hc2 => ?_)
        refine br_f wc_one_ne ?_
        by_cases h3 : wc_CO v3
        · refine wc_isCost_t h3 (br_f wc_one_ne ?_)
          show vp_in _ 324 ∧ _
          rw [wc_i4]
          have i1 : vp_in (nI ((6 * l + m) * 9 + 3 * a + b)) 324 := vp_in_nI (by omega) (by omega)
          have i2 : vp_in (nI ((6 * m + l) * 9 + 3 * b + a)) 324 := vp_in_nI (by omega) (by omega)
          have c1 : (nI ((6 * l + m) * 9 + 3 * a + b)).toNatClampNeg = (6 * l + m) * 9 + 3 * a + b := nI_clamp (by omega)
          have c2 : (nI ((6 * m + l) * 9 + 3 * b + a)).toNatClampNeg = (6 * m + l) * 9 + 3 * b + a := nI_clamp (by omega)
          have ne : (6 * l + m) * 9 + 3 * a + b ≠ (6 * m + l) * 9 + 3 * b + a := by omega
          refine ⟨i1, fun x ex => ⟨i1, fun y ey => ?_⟩⟩
          refine wc_badPair_q hn2 hn hq (fun z => absurd z he) (fun _ => br_t rfl (wc_badValues_g hd hd3 hw (br_t rfl (wc_badCost_f h3 (br_t rfl ?_)))))
          rw [c1] at ex ey
          subst ex ey
          obtain ⟨b1, b2⟩ := hB l m a b hlm hm ha hb
          rcases wc_pm hlm hc1 hc2 with ⟨e1, e2, e3, e4⟩ | ⟨e1, e2, e3, e4⟩
          · refine wc_placeOf hn2 hn hd hd3 hq hw e1 e2 e3 e4 (wc_mirrored hn2 hn hd hd3 hq hw e1 e2 e3 e4 ?_)
            refine ⟨i1, fun x ex => ⟨i1, fun y ey => ⟨i2, fun z ez => ?_⟩⟩⟩
            rw [c1] at ex ey
            rw [c2] at ez
            subst ex ey ez
            refine ⟨b1.symm, wc_mk (wc_Rel_B hR h3 hlm hm ha hb ?_ ?_ ?_)⟩
            · rw [pk_un ne, pk_us]
            · rw [pk_us]
            · intro i j1 j2
              rw [pk_un j2, pk_un j1]
          · refine wc_placeOf hn2 hn hd hd3 hq hw e1 e2 e3 e4 (wc_mirrored hn2 hn hd hd3 hq hw e1 e2 e3 e4 ?_)
            refine ⟨i2, fun x ex => ⟨i2, fun y ey => ⟨i1, fun z ez => ?_⟩⟩⟩
            rw [c2] at ex ey
            rw [c1] at ez
            subst ex ey ez
            refine ⟨b2.trans b1.symm, wc_mk (wc_Rel_B hR h3 hlm hm ha hb ?_ ?_ ?_)⟩
            · rw [pk_us]
            · rw [pk_un (fun z => ne z.symm), pk_us]
            · intro i j1 j2
              rw [pk_un j1, pk_un j2]
        · refine wc_isCost_f h3 ?_
          exact br_t rfl (wc_badPair_q hn2 hn hq (fun z => absurd z he) (fun _ => br_t rfl (wc_badValues_g hd hd3 hw (br_t rfl (wc_badCost_t h3 (br_f wc_one_ne ⟨rfl, wc_mk hR⟩))))))
theorem i_vc_binaryCost {k : Nat} {u : SX} {v : SY} (I : i_Rel k u v) (hk : k + 4 ≤ 2050) (v1 : Int32) (v2 : Int32) : wpX_binaryCost (fun r u' => wpY_binaryCost (fun r' => r' = r ∧ i_Rel (k + 4) u' v) v v1 v2) u v1 v2 := by
  refine wc_el I (P := fun u v => wpX_binaryCost (fun r u' => wpY_binaryCost (fun r' => r' = r ∧ i_Rel (k + 4) u' v) v v1 v2) u v1 v2) ?_
  intro n d fl cu ab cn cg oL oH oV oW tU tB tA mK sG pR eX rE vA fB one two al hR
  unfold wpX_binaryCost wpY_binaryCost
  dsimp only
  obtain ⟨⟨hn2, hn, hd, hd3⟩, hI, hU, hB, hA⟩ := id hR
  have nn := wc_nn hn2 hn
  have dd := wc_dd hd hd3
  by_cases h1 : v1 < 0 ∨ nI (n * n) ≤ v1
  · exact wc_takePair_b h1 (br_t rfl (wc_badPair_b hn2 hn h1 (br_f wc_one_ne ⟨rfl, wc_mk hR⟩)))
  · obtain ⟨q, hq, rfl⟩ : ∃ j : Nat, j < n * n ∧ v1 = nI j := ((pk_ix v1 (n := n * n) (by omega)).resolve_left (fun z => h1 (Or.inl z))).resolve_left (fun z => h1 (Or.inr z))
    by_cases he : q / n = q % n
    · refine wc_takePair_e hn2 hn hq he (fun a b => ?_)
      exact br_t rfl (wc_badPair_q hn2 hn hq (fun _ => br_f wc_one_ne ⟨rfl, wc_mk hR⟩) (fun z => absurd he z))
    · refine wc_takePair_g hn2 hn hq he (fun l m hlm hm hc1 => ?_)
      refine br_f wc_one_ne ?_
      by_cases h2 : v2 < 0 ∨ nI (d * d) ≤ v2
      · refine wc_takeValues_b h2 ?_
        exact br_t rfl (wc_badPair_q hn2 hn hq (fun z => absurd z he) (fun _ => br_t rfl (wc_badValues_b hd hd3 h2 (br_f wc_one_ne ⟨rfl, wc_mk hR⟩))))
      · obtain ⟨w, hw, rfl⟩ : ∃ j : Nat, j < d * d ∧ v2 = nI j := ((pk_ix v2 (n := d * d) (by omega)).resolve_left (fun z => h2 (Or.inl z))).resolve_left (fun z => h2 (Or.inr z))
        refine wc_takeValues_g hn2 hn hd hd3 hq hw (fun a b ha hb hc2 => ?_)
        refine br_f wc_one_ne ?_
        show vp_in _ 324 ∧ _
        rw [wc_i4]
        have i1 : vp_in (nI ((6 * l + m) * 9 + 3 * a + b)) 324 := vp_in_nI (by omega) (by omega)
        have i2 : vp_in (nI ((6 * m + l) * 9 + 3 * b + a)) 324 := vp_in_nI (by omega) (by omega)
        have c1 : (nI ((6 * l + m) * 9 + 3 * a + b)).toNatClampNeg = (6 * l + m) * 9 + 3 * a + b := nI_clamp (by omega)
        have c2 : (nI ((6 * m + l) * 9 + 3 * b + a)).toNatClampNeg = (6 * m + l) * 9 + 3 * b + a := nI_clamp (by omega)
        refine ⟨i1, ?_⟩
        rw [c1]
        refine wc_badPair_q hn2 hn hq (fun z => absurd z he) (fun _ => br_t rfl (wc_badValues_g hd hd3 hw (br_t rfl ?_)))
        obtain ⟨b1, b2⟩ := hB l m a b hlm hm ha hb
        rcases wc_pm hlm hc1 hc2 with ⟨e1, e2, e3, e4⟩ | ⟨e1, e2, e3, e4⟩
        · refine wc_placeOf hn2 hn hd hd3 hq hw e1 e2 e3 e4 ⟨i1, ?_⟩
          rw [c1]
          exact ⟨b1.symm, wc_mk hR⟩
        · refine wc_placeOf hn2 hn hd hd3 hq hw e1 e2 e3 e4 ⟨i2, ?_⟩
          rw [c2]
          exact ⟨b2.trans b1.symm, wc_mk hR⟩
end
section
/-! relate -/
def wc_t (k a b : Nat) : Nat := if k = 1 then (if a = b then 1 else 0) else if k = 2 then a * b else (if b ≤ a then a - b else b - a)
theorem wc_t_sym : ∀ k, k < 3 → ∀ a, a < 3 → ∀ b, b < 3 → wc_t k a b = wc_t k b a := by decide
theorem wc_t_4 : ∀ k, k < 3 → ∀ a, a < 3 → ∀ b, b < 3 → wc_t k a b ≤ 4 := by decide
theorem wc_t_CO {w t : Nat} (hw : w ≤ 10) (ht : t ≤ 4) : wc_CO (nI (w * t)) := by
  have h : w * t ≤ 10 * 4 := Nat.mul_le_mul hw ht
  left
  rw [nI_toInt (by omega)]
  omega
section
variable {n d : Nat} {fl cu ab cn cg oL oH oV oW : Int32} {tU tB tA mK sG pR eX rE vA fB : Nat → Int32}
theorem wc_xrel113 {post : Int32 → SX → Prop} {J : Int32 → (Nat → Int32) → (Nat → Int32) → (Nat → Int32) → (Nat → Int32) → (Nat → Int32) → (Nat → Int32) → (Nat → Int32) → (Nat → Int32) → (Nat → Int32) → (Nat → Int32) → Prop} {x2 : Int32} {l m j w a b t : Nat} (hl : l < 6) (hm : m < 6) (ha : a < 3) (hb : b < 3) (hJ : J (nI (j + 1)) tU (upd tB ((6 * l + m) * 9 + 3 * a + b) (nI (w * t))) tA mK sG pR eX rE vA fB) : wX_relate_113 post J x2 (nI w) (nI j) (nI a) (nI b) (nI t) (nI n) (nI d) fl cu ab cn cg (nI l) (nI m) oV oW tU tB tA mK sG pR eX rE vA fB := by
  show vp_in _ 324 ∧ _
  rw [wc_i4]
  refine ⟨vp_in_nI (by omega) (by omega), fun y ey x ex => ?_⟩
  rw [nI_clamp (by omega), pk_mul] at ey
  rw [nI_1] at ex
  subst ey ex
  exact hJ
theorem wc_xrel77 {post : Int32 → SX → Prop} {J : Int32 → (Nat → Int32) → (Nat → Int32) → (Nat → Int32) → (Nat → Int32) → (Nat → Int32) → (Nat → Int32) → (Nat → Int32) → (Nat → Int32) → (Nat → Int32) → (Nat → Int32) → Prop} {k l m j w a b : Nat} {z : Int32} (hk : k < 3) (hl : l < 6) (hm : m < 6) (ha : a < 3) (hb : b < 3) (hz : z = nI (if b ≤ a then a - b else b - a)) (hJ : J (nI (j + 1)) tU (upd tB ((6 * l + m) * 9 + 3 * a + b) (nI (w * wc_t k a b))) tA mK sG pR eX rE vA fB) : wX_relate_77 post J (nI k) (nI w) (nI j) (nI a) (nI b) z (nI n) (nI d) fl cu ab cn cg (nI l) (nI m) oV oW tU tB tA mK sG pR eX rE vA fB := by
  have go : ∀ t : Nat, wc_t k a b = t → wX_relate_113 post J (nI k) (nI w) (nI j) (nI a) (nI b) (nI t) (nI n) (nI d) fl cu ab cn cg (nI l) (nI m) oV oW tU tB tA mK sG pR eX rE vA fB := by
    intro t ht
    refine wc_xrel113 hl hm ha hb ?_
    rw [← ht]; exact hJ
  refine pk_eq k 1 (fun h => pk_eq a b (fun e => ?_) (fun e => ?_)) (fun h => pk_eq k 2 (fun g y ey => ?_) (fun g => ?_))
  · exact go 1 (by unfold wc_t; rw [if_pos h, if_pos e])
  · exact go 0 (by unfold wc_t; rw [if_pos h, if_neg e])
  · rw [pk_mul] at ey
    subst ey
    exact go (a * b) (by unfold wc_t; rw [if_neg h, if_pos g])
  · subst hz
    exact go _ (by unfold wc_t; rw [if_neg h, if_neg g])
theorem wc_xrel38 {post : Int32 → SX → Prop} {k l m w : Nat} (hk : k < 3) (hl : l < 6) (hm : m < 6) (hpost : ∀ B : Nat → Int32, (∀ i, i < 9 → B ((6 * l + m) * 9 + i) = nI (w * wc_t k (i / 3) (i % 3))) → (∀ i, (i < (6 * l + m) * 9 ∨ (6 * l + m) * 9 + 9 ≤ i) → B i = tB i) → post 0 (nI n, nI d, fl, cu, ab, cn, cg, nI l, nI m, oV, oW, tU, B, tA, mK, sG, pR, eX, rE, vA, fB)) :
    ∀ (f j : Nat) (B : Nat → Int32), j ≤ 9 → 9 - j < f → (∀ i, i < j → B ((6 * l + m) * 9 + i) = nI (w * wc_t k (i / 3) (i % 3))) → (∀ i, (i < (6 * l + m) * 9 ∨ (6 * l + m) * 9 + j ≤ i) → B i = tB i) → wX_relate_38 post (nI k) (nI w) (nI n) (nI d) fl cu ab cn cg (nI l) (nI m) oV oW f (nI j) tU B tA mK sG pR eX rE vA fB := by
  intro f
  induction f with
  | zero => intro j B h1 h2; omega
  | succ f ih =>
    intro j B h1 h2 h3 h4
    refine pk_le 9 j (fun h => ?_) (fun h => ?_)
    · obtain rfl : j = 9 := by omega
      exact hpost B h3 h4
    · refine ⟨by decide, fun x ex => ⟨by decide, fun y ey => ?_⟩⟩
      rw [wc_d3 (by omega)] at ex
      rw [wc_r3 (by omega)] at ey
      subst ex ey
      have go : ∀ z : Int32, z = nI (if j % 3 ≤ j / 3 then j / 3 - j % 3 else j % 3 - j / 3) → wX_relate_77 post (wX_relate_38 post (nI k) (nI w) (nI n) (nI d) fl cu ab cn cg (nI l) (nI m) oV oW f) (nI k) (nI w) (nI j) (nI (j / 3)) (nI (j % 3)) z (nI n) (nI d) fl cu ab cn cg (nI l) (nI m) oV oW tU B tA mK sG pR eX rE vA fB := by
        intro z hz
        refine wc_xrel77 hk hl hm (by omega) (by omega) hz ?_
        have e : (6 * l + m) * 9 + 3 * (j / 3) + j % 3 = (6 * l + m) * 9 + j := by omega
        rw [e]
        refine ih (j + 1) _ (by omega) (by omega) ?_ ?_
        · intro i hi
          by_cases q : i = j
          · subst q; rw [pk_us]
          · rw [pk_un (by omega)]; exact h3 i (by omega)
        · intro i hi
          rw [pk_un (by omega)]; exact h4 i (by omega)
      refine pk_le (j % 3) (j / 3) (fun q => ?_) (fun q => ?_)
      · exact go _ (by rw [if_pos q, pk_sub q])
      · exact go _ (by rw [if_neg (by omega), pk_sub (by omega)])
end
section
variable {n d N : Nat} {one two al : Nat → Int32}
theorem wc_yrel111 {post : Int32 → SY → Prop} {J38 J50 : Int32 → (Nat → Int32) → (Nat → Int32) → (Nat → Int32) → Prop} {x2 : Int32} {q U V w a b t : Nat} (hn2 : 2 ≤ n) (hn : n ≤ 6) (hd : 1 < d) (hd3 : d ≤ 3) (h : q < n * n) (e1 : q / n = U) (e2 : q % n = V) (ha : a < d) (hb : b < d) (hJ : J50 (nI (b + 1)) one (upd (upd two ((6 * U + V) * 9 + 3 * a + b) (nI (w * t))) ((6 * V + U) * 9 + 3 * b + a) (nI (w * t))) al) : wY_relate_111 post J38 J50 (nI q) x2 (nI w) (nI a) (nI b) (nI t) (nI n) (nI d) (nI N) one two al := by
  have q1 : U < n := by rw [← e1]; exact Nat.div_lt_of_lt_mul h
  have q2 : V < n := by rw [← e2]; exact Nat.mod_lt _ (by omega)
  have e3 : (d * a + b) / d = a := by rw [Nat.mul_add_div (by omega), Nat.div_eq_of_lt hb]; omega
  have e4 : (d * a + b) % d = b := by rw [Nat.mul_add_mod, Nat.mod_eq_of_lt hb]
  have hw : d * a + b < d * d := by
    have z : d * (a + 1) ≤ d * d := Nat.mul_le_mul_left d ha
    rw [Nat.mul_add] at z
    omega
  unfold wY_relate_111
  rw [pk_mul d a, nI_add]
  refine wc_placeOf hn2 hn hd hd3 h hw e1 e2 e3 e4 (wc_mirrored hn2 hn hd hd3 h hw e1 e2 e3 e4 ?_)
  refine ⟨vp_in_nI (by omega) (by omega), fun y ey => ⟨vp_in_nI (by omega) (by omega), fun z ez x ex => ?_⟩⟩
  rw [nI_clamp (by omega), pk_mul] at ey ez
  rw [nI_1] at ex
  subst ey ez ex
  exact hJ
theorem wc_yrel92 {post : Int32 → SY → Prop} {J38 J50 : Int32 → (Nat → Int32) → (Nat → Int32) → (Nat → Int32) → Prop} {k q U V w a b t : Nat} (hk : k < 3) (hn2 : 2 ≤ n) (hn : n ≤ 6) (hd : 1 < d) (hd3 : d ≤ 3) (h : q < n * n) (e1 : q / n = U) (e2 : q % n = V) (ha : a < d) (hb : b < d) (ht : k ≠ 1 → wc_t k a b = t) (hJ : J50 (nI (b + 1)) one (upd (upd two ((6 * U + V) * 9 + 3 * a + b) (nI (w * wc_t k a b))) ((6 * V + U) * 9 + 3 * b + a) (nI (w * wc_t k a b))) al) : wY_relate_92 post J38 J50 (nI q) (nI k) (nI w) (nI a) (nI b) (nI t) (nI n) (nI d) (nI N) one two al := by
  have go : ∀ t : Nat, wc_t k a b = t → wY_relate_111 post J38 J50 (nI q) (nI k) (nI w) (nI a) (nI b) (nI t) (nI n) (nI d) (nI N) one two al := by
    intro t ht
    refine wc_yrel111 hn2 hn hd hd3 h e1 e2 ha hb ?_
    rw [← ht]; exact hJ
  refine pk_eq k 1 (fun g => pk_eq a b (fun e => ?_) (fun e => ?_)) (fun g => ?_)
  · exact go 1 (by unfold wc_t; rw [if_pos g, if_pos e])
  · exact go 0 (by unfold wc_t; rw [if_pos g, if_neg e])
  · exact go t (ht g)
def wc_Pr (d U V w k : Nat) (two : Nat → Int32) (a b : Nat) (two' : Nat → Int32) : Prop :=
  (∀ x y, x < d → y < d → (x < a ∨ (x = a ∧ y < b)) → two' ((6 * U + V) * 9 + 3 * x + y) = nI (w * wc_t k x y) ∧ two' ((6 * V + U) * 9 + 3 * y + x) = nI (w * wc_t k x y)) ∧ (∀ i, (∀ x y, x < d → y < d → i ≠ (6 * U + V) * 9 + 3 * x + y ∧ i ≠ (6 * V + U) * 9 + 3 * y + x) → two' i = two i)
theorem wc_Pr_s {U V w k a b : Nat} {two' : Nat → Int32} (hd3 : d ≤ 3) (hU : U < 6) (hV : V < 6) (hUV : U ≠ V) (ha : a < d) (hb : b < d) (h : wc_Pr d U V w k two a b two') : wc_Pr d U V w k two a (b + 1) (upd (upd two' ((6 * U + V) * 9 + 3 * a + b) (nI (w * wc_t k a b))) ((6 * V + U) * 9 + 3 * b + a) (nI (w * wc_t k a b))) := by
  have ne : (6 * U + V) * 9 + 3 * a + b ≠ (6 * V + U) * 9 + 3 * b + a := fun e => hUV (wc_ixne hV hU (by omega) (by omega) (by omega) (by omega) e).1
  refine ⟨fun x y hx hy hxy => ?_, fun i hi => ?_⟩
  · by_cases e : x = a ∧ y = b
    · obtain ⟨rfl, rfl⟩ := e
      rw [pk_us, pk_un ne, pk_us]
      exact ⟨rfl, rfl⟩
    · have n1 : (6 * U + V) * 9 + 3 * x + y ≠ (6 * U + V) * 9 + 3 * a + b := fun z => e (wc_ixne hV hV (by omega) (by omega) (by omega) (by omega) z).2.2
      have n2 : (6 * U + V) * 9 + 3 * x + y ≠ (6 * V + U) * 9 + 3 * b + a := fun z => hUV (wc_ixne hV hU (by omega) (by omega) (by omega) (by omega) z).1
      have n3 : (6 * V + U) * 9 + 3 * y + x ≠ (6 * U + V) * 9 + 3 * a + b := fun z => hUV (wc_ixne hU hV (by omega) (by omega) (by omega) (by omega) z).1.symm
      have n4 : (6 * V + U) * 9 + 3 * y + x ≠ (6 * V + U) * 9 + 3 * b + a := fun z => by
        have q := (wc_ixne hU hU (by omega) (by omega) (by omega) (by omega) z).2.2
        exact e ⟨q.2, q.1⟩
      rw [pk_un n2, pk_un n1, pk_un n4, pk_un n3]
      exact h.1 x y hx hy (by omega)
  · have q := hi a b ha hb
    rw [pk_un q.2, pk_un q.1]
    exact h.2 i hi
theorem wc_yrel50 {post : Int32 → SY → Prop} {J38 : Int32 → (Nat → Int32) → (Nat → Int32) → (Nat → Int32) → Prop} {k q U V w a : Nat} (hk : k < 3) (hn2 : 2 ≤ n) (hn : n ≤ 6) (hd : 1 < d) (hd3 : d ≤ 3) (h : q < n * n) (e1 : q / n = U) (e2 : q % n = V) (hUV : U ≠ V) (ha : a < d) (hJ : ∀ two' : Nat → Int32, wc_Pr d U V w k two a d two' → J38 (nI (a + 1)) one two' al) :
    ∀ (f b : Nat) (two' : Nat → Int32), b ≤ d → d - b < f → wc_Pr d U V w k two a b two' → wY_relate_50 post J38 (nI q) (nI k) (nI w) (nI a) (nI n) (nI d) (nI N) f (nI b) one two' al := by
  have q1 : U < n := by rw [← e1]; exact Nat.div_lt_of_lt_mul h
  have q2 : V < n := by rw [← e2]; exact Nat.mod_lt _ (by omega)
  intro f
  induction f with
  | zero => intro b two' h1 h2; omega
  | succ f ih =>
    intro b two' h1 h2 h3
    refine pk_le d b (fun g => ?_) (fun g => ?_)
    · obtain rfl : b = d := by omega
      intro y ey
      rw [nI_1] at ey
      subst ey
      exact hJ two' h3
    · have r := ih (b + 1) _ (by omega) (by omega) (wc_Pr_s hd3 (by omega) (by omega) hUV ha g h3)
      intro y ey
      rw [pk_mul] at ey
      subst ey
      refine pk_eq k 0 (fun z => pk_le b a (fun c => ?_) (fun c => ?_)) (fun z => ?_)
      · rw [pk_sub c]
        exact wc_yrel92 (t := a - b) hk hn2 hn hd hd3 h e1 e2 ha g (fun _ => by subst z; unfold wc_t; rw [if_neg (by omega), if_neg (by omega), if_pos c]) r
      · rw [pk_sub (by omega)]
        exact wc_yrel92 (t := b - a) hk hn2 hn hd hd3 h e1 e2 ha g (fun _ => by subst z; unfold wc_t; rw [if_neg (by omega), if_neg (by omega), if_neg (by omega)]) r
      · exact wc_yrel92 (t := a * b) hk hn2 hn hd hd3 h e1 e2 ha g (fun z1 => by unfold wc_t; rw [if_neg z1, if_pos (by omega)]) r
theorem wc_yrel38 {post : Int32 → SY → Prop} {k q U V w : Nat} (hk : k < 3) (hn2 : 2 ≤ n) (hn : n ≤ 6) (hd : 1 < d) (hd3 : d ≤ 3) (h : q < n * n) (e1 : q / n = U) (e2 : q % n = V) (hUV : U ≠ V) (hpost : ∀ two' : Nat → Int32, wc_Pr d U V w k two d 0 two' → post 0 (nI n, nI d, nI N, one, two', al)) :
    ∀ (f a : Nat) (two' : Nat → Int32), a ≤ d → d - a < f → wc_Pr d U V w k two a 0 two' → wY_relate_38 post (nI q) (nI k) (nI w) (nI n) (nI d) (nI N) f (nI a) one two' al := by
  intro f
  induction f with
  | zero => intro a two' h1 h2; omega
  | succ f ih =>
    intro a two' h1 h2 h3
    refine pk_le d a (fun g => ?_) (fun g => ?_)
    · obtain rfl : a = d := by omega
      exact hpost two' h3
    · refine ⟨d + 1, wc_yrel50 hk hn2 hn hd hd3 h e1 e2 hUV g (fun two2 hP => ?_) (d + 1) 0 two' (by omega) (by omega) h3⟩
      refine ih (a + 1) two2 (by omega) (by omega) ⟨fun x y hx hy hxy => hP.1 x y hx hy (by omega), hP.2⟩
end
theorem wc_Rel_R {n d : Nat} {tU tB B tA one two two' al : Nat → Int32} {l m U V w k : Nat} (hR : wc_Rel n d tU tB tA one two al) (hk : k < 3) (hw : w ≤ 10) (hlm : l < m) (hm : m < n) (hc : (U = l ∧ V = m) ∨ (U = m ∧ V = l)) (hX1 : ∀ i, i < 9 → B ((6 * l + m) * 9 + i) = nI (w * wc_t k (i / 3) (i % 3))) (hX2 : ∀ i, (i < (6 * l + m) * 9 ∨ (6 * l + m) * 9 + 9 ≤ i) → B i = tB i) (hY : wc_Pr d U V w k two d 0 two') : wc_Rel n d tU B tA one two' al := by
  obtain ⟨h0, hI, hU, hB, hA⟩ := hR
  obtain ⟨hn2, hn, hd, hd3⟩ := id h0
  have k1 : ∀ x y, x < d → y < d → B ((6 * l + m) * 9 + 3 * x + y) = nI (w * wc_t k x y) ∧ two' ((6 * l + m) * 9 + 3 * x + y) = nI (w * wc_t k x y) ∧ two' ((6 * m + l) * 9 + 3 * y + x) = nI (w * wc_t k x y) := by
    intro x y hx hy
    have a := hX1 (3 * x + y) (by omega)
    have z1 : (3 * x + y) / 3 = x := by omega
    have z2 : (3 * x + y) % 3 = y := by omega
    rw [z1, z2, ← Nat.add_assoc] at a
    refine ⟨a, ?_⟩
    rcases hc with ⟨rfl, rfl⟩ | ⟨rfl, rfl⟩
    · exact hY.1 x y hx hy (Or.inl hx)
    · have b := hY.1 y x hy hx (Or.inl hy)
      rw [wc_t_sym k hk y (by omega) x (by omega)] at b
      exact ⟨b.2, b.1⟩
  have k2 : ∀ u v x y, u < v → v < n → x < d → y < d → ¬ (u = l ∧ v = m) → B ((6 * u + v) * 9 + 3 * x + y) = tB ((6 * u + v) * 9 + 3 * x + y) ∧ two' ((6 * u + v) * 9 + 3 * x + y) = two ((6 * u + v) * 9 + 3 * x + y) ∧ two' ((6 * v + u) * 9 + 3 * y + x) = two ((6 * v + u) * 9 + 3 * y + x) := by
    intro u v x y huv hv hx hy hne
    refine ⟨hX2 _ ?_, hY.2 _ (fun x' y' hx' hy' => ⟨fun e => ?_, fun e => ?_⟩), hY.2 _ (fun x' y' hx' hy' => ⟨fun e => ?_, fun e => ?_⟩)⟩
    · rcases Nat.lt_or_ge ((6 * u + v) * 9 + 3 * x + y) ((6 * l + m) * 9) with z | z
      · exact Or.inl z
      · rcases Nat.lt_or_ge ((6 * u + v) * 9 + 3 * x + y) ((6 * l + m) * 9 + 9) with z2 | z2
        · have a1 : u = l := by omega
          have a2 : v = m := by omega
          exact absurd ⟨a1, a2⟩ hne
        · exact Or.inr z2
    all_goals
      have z := wc_ixne (by omega) (by omega) (by omega) (by omega) (by omega) (by omega) e
      omega
  refine ⟨h0, ⟨hI.1, fun u v x y huv hv hx hy => ?_⟩, hU, fun u v x y huv hv hx hy => ?_, hA⟩
  · by_cases e : u = l ∧ v = m
    · obtain ⟨rfl, rfl⟩ := e
      rw [(k1 x y hx hy).2.1]
      exact wc_t_CO hw (wc_t_4 k hk x (by omega) y (by omega))
    · rw [(k2 u v x y huv hv hx hy e).2.1]; exact hI.2 u v x y huv hv hx hy
  · by_cases e : u = l ∧ v = m
    · obtain ⟨rfl, rfl⟩ := e
      obtain ⟨a1, a2, a3⟩ := k1 x y hx hy
      rw [a1, a2, a3]; exact ⟨rfl, rfl⟩
    · obtain ⟨a1, a2, a3⟩ := k2 u v x y huv hv hx hy e
      rw [a1, a2, a3]; exact hB u v x y huv hv hx hy
theorem i_vc_relate {k : Nat} {u : SX} {v : SY} (I : i_Rel k u v) (hk : k + 4 ≤ 2050) (v1 : Int32) (v2 : Int32) (v3 : Int32) : wpX_relate (fun r u' => wpY_relate (fun r' v' => r' = r ∧ i_Rel (k + 4) u' v') v v1 v2 v3) u v1 v2 v3 := by
  refine wc_el I (P := fun u v => wpX_relate (fun r u' => wpY_relate (fun r' v' => r' = r ∧ i_Rel (k + 4) u' v') v v1 v2 v3) u v1 v2 v3) ?_
  intro n d fl cu ab cn cg oL oH oV oW tU tB tA mK sG pR eX rE vA fB one two al hR
  unfold wpX_relate wpY_relate
  dsimp only
  obtain ⟨⟨hn2, hn, hd, hd3⟩, hI, hU, hB, hA⟩ := id hR
  have nn := wc_nn hn2 hn
  by_cases h1 : v1 < 0 ∨ nI (n * n) ≤ v1
  · exact wc_takePair_b h1 (br_t rfl (wc_badPair_b hn2 hn h1 (br_f wc_one_ne ⟨rfl, wc_mk hR⟩)))
  · obtain ⟨q, hq, rfl⟩ : ∃ j : Nat, j < n * n ∧ v1 = nI j := ((pk_ix v1 (n := n * n) (by omega)).resolve_left (fun z => h1 (Or.inl z))).resolve_left (fun z => h1 (Or.inr z))
    by_cases he : q / n = q % n
    · refine wc_takePair_e hn2 hn hq he (fun a b => ?_)
      exact br_t rfl (wc_badPair_q hn2 hn hq (fun _ => br_f wc_one_ne ⟨rfl, wc_mk hR⟩) (fun z => absurd he z))
    · refine wc_takePair_g hn2 hn hq he (fun l m hlm hm hc1 => ?_)
      refine br_f wc_one_ne ?_
      by_cases h2 : v2 < 0
      · exact br_t h2 (wc_badPair_q hn2 hn hq (fun z => absurd z he) (fun _ => br_t rfl (br_t h2 ⟨rfl, wc_mk hR⟩)))
      · refine br_f h2 ?_
        by_cases h3 : v2 ≤ 2
        · refine br_t h3 ?_
          by_cases h4 : v3 < 0
          · exact br_t h4 (wc_badPair_q hn2 hn hq (fun z => absurd z he) (fun _ => br_t rfl (br_f h2 (br_t h3 (br_t h4 ⟨rfl, wc_mk hR⟩)))))
          · refine br_f h4 ?_
            by_cases h5 : v3 ≤ 10
            · refine br_t h5 ?_
              obtain ⟨c, hc, rfl⟩ := nI_of2 (M := 2) (n := 2) (by decide) h2 h3
              obtain ⟨w, hw, rfl⟩ := nI_of2 (M := 10) (n := 10) (by decide) h4 h5
              refine ⟨10, wc_xrel38 (k := c) (w := w) (l := l) (m := m) (by omega) (by omega) (by omega) (fun B hX1 hX2 => ?_) 10 0 tB (by omega) (by omega) (fun i hi => by omega) (fun i _ => rfl)⟩
              refine wc_badPair_q hn2 hn hq (fun z => absurd z he) (fun _ => br_t rfl (br_f h2 (br_t h3 (br_f h4 (br_t h5 ?_)))))
              refine ⟨d + 1, wc_yrel38 (k := c) (w := w) (by omega) hn2 hn hd hd3 hq rfl rfl he (fun two' hP => ?_) (d + 1) 0 two (by omega) (by omega) ⟨fun x y hx hy hxy => by omega, fun i _ => rfl⟩⟩
              exact ⟨rfl, wc_mk (wc_Rel_R hR (by omega) hw hlm hm hc1 hX1 hX2 hP)⟩
            · exact br_f h5 (wc_badPair_q hn2 hn hq (fun z => absurd z he) (fun _ => br_t rfl (br_f h2 (br_t h3 (br_f h4 (br_f h5 ⟨rfl, wc_mk hR⟩))))))
        · exact br_f h3 (wc_badPair_q hn2 hn hq (fun z => absurd z he) (fun _ => br_t rfl (br_f h2 (br_f h3 ⟨rfl, wc_mk hR⟩))))
end
section
/-! the constructors -/
section
variable {n d : Nat} {fl cu ab cn cg oL oH oV oW : Int32} {tU tB tA mK sG pR eX rE vA fB : Nat → Int32}
theorem wc_xinit131 {post : SX → Prop} (hd : 1 < d) (hd3 : d ≤ 3) (hpost : ∀ tA : Nat → Int32, (∀ w, w < 6 → tA w = nI (2 ^ d - 1)) → post (nI n, nI d, fl, cu, ab, cn, cg, oL, oH, oV, oW, tU, tB, tA, mK, sG, pR, eX, rE, vA, fB)) :
    ∀ (f j : Nat) (tA : Nat → Int32), j ≤ 6 → 6 - j < f → (∀ w, w < j → tA w = nI (2 ^ d - 1)) → wX_init_131 post (nI n) (nI d) fl cu ab cn cg oL oH oV oW f (nI j) tU tB tA mK sG pR eX rE vA fB := by
  intro f
  induction f with
  | zero => intro j tA h1 h2; omega
  | succ f ih =>
    intro j tA h1 h2 h3
    refine pk_le 6 j (fun h => ?_) (fun h => ?_)
    · obtain rfl : j = 6 := by omega
      exact hpost tA h3
    · refine ⟨vp_in_nI h (by omega), fun y ey x ex => ?_⟩
      rw [nI_clamp (by omega), (wc_shl hd hd3).2.1] at ey
      rw [nI_1] at ex
      subst ey ex
      refine ih (j + 1) _ (by omega) (by omega) ?_
      intro w hw
      by_cases z : w = j
      · subst z; rw [pk_us]
      · rw [pk_un z]; exact h3 w (by omega)
end
theorem wc_yinit84 {n d : Nat} {one two : Nat → Int32} {post : SY → Prop} (hn : n ≤ 6) (hd : 1 < d) (hd3 : d ≤ 3) (hpost : ∀ al : Nat → Int32, (∀ w, w < n → al w = nI (2 ^ d - 1)) → post (nI n, nI d, nI (d ^ n), one, two, al)) :
    ∀ (f j : Nat) (al : Nat → Int32), j ≤ n → n - j < f → (∀ w, w < j → al w = nI (2 ^ d - 1)) → wY_init_84 post (nI n) (nI d) f (nI j) (nI (d ^ j)) one two al := by
  intro f
  induction f with
  | zero => intro j al h1 h2; omega
  | succ f ih =>
    intro j al h1 h2 h3
    refine pk_le n j (fun h => ?_) (fun h => ?_)
    · obtain rfl : j = n := by omega
      exact hpost al h3
    · intro y ey
      rw [pk_mul, ← Nat.pow_succ] at ey
      subst ey
      refine br_f (nI_ge (b := 6) (by omega) (by omega)) ⟨vp_in_nI (by omega) (by omega), fun y ey x ex => ?_⟩
      rw [nI_clamp (by omega), (wc_shl hd hd3).2.1] at ey
      rw [nI_1] at ex
      subst ey ex
      refine ih (j + 1) _ (by omega) (by omega) ?_
      intro w hw
      by_cases z : w = j
      · subst z; rw [pk_us]
      · rw [pk_un z]; exact h3 w (by omega)
theorem wc_init_n (k0 : Int32) : ∃ n : Nat, 2 ≤ n ∧ n ≤ 6 ∧ (∀ (post : SX → Prop) (x2 : Int32), wX_init_115 post x2 (nI n) 0 0 0 0 0 0 0 0 0 0 (fun _ => 0) (fun _ => 0) (fun _ => 0) (fun _ => 0) (fun _ => 0) (fun _ => 0) (fun _ => 0) (fun _ => 0) (fun _ => 0) (fun _ => 0) → wpX_init post k0 x2) ∧ (∀ (post : SY → Prop) (x2 : Int32), wY_init_51 post x2 (nI n) 0 0 0 (fun _ => 0) (fun _ => 0) (fun _ => 0) → wpY_init post k0 x2) := by
  by_cases h2 : 2 ≤ k0
  · by_cases h6 : k0 ≤ 6
    · have h0 : ¬ k0 < 0 := fun z => by
        have e2 : (2 : Int32).toInt = 2 := by decide
        rw [Int32.le_iff_toInt_le, e2] at h2
        rw [Int32.lt_iff_toInt_lt, wc_z0] at z
        omega
      obtain ⟨n, hn, rfl⟩ := nI_of2 (M := 6) (n := 6) (by decide) h0 h6
      have hn2 : 2 ≤ n := (nI_leI (a := 2) (by omega) (by omega)).mp h2
      exact ⟨n, hn2, hn, fun post x2 h => br_t h2 (br_t h6 h), fun post x2 h => br_t h2 (br_t h6 h)⟩
    · exact ⟨6, by omega, by omega, fun post x2 h => br_t h2 (br_f h6 h), fun post x2 h => br_t h2 (br_f h6 h)⟩
  · exact ⟨2, by omega, by omega, fun post x2 h => br_f h2 (br_t (by decide) h), fun post x2 h => br_f h2 h⟩
theorem wc_init_d (k1 : Int32) : ∃ d : Nat, 1 < d ∧ d ≤ 3 ∧ (∀ (n : Nat) (post : SX → Prop), (∃ n131, wX_init_131 post (nI n) (nI d) 0 0 0 0 0 0 0 0 0 n131 0 (fun _ => 0) (fun _ => 0) (fun _ => 0) (fun _ => 0) (fun _ => 0) (fun _ => 0) (fun _ => 0) (fun _ => 0) (fun _ => 0) (fun _ => 0)) → wX_init_115 post k1 (nI n) 0 0 0 0 0 0 0 0 0 0 (fun _ => 0) (fun _ => 0) (fun _ => 0) (fun _ => 0) (fun _ => 0) (fun _ => 0) (fun _ => 0) (fun _ => 0) (fun _ => 0) (fun _ => 0)) ∧ (∀ (n : Nat) (post : SY → Prop), (∃ n84, wY_init_84 post (nI n) (nI d) n84 0 1 (fun _ => 0) (fun _ => 0) (fun _ => 0)) → wY_init_51 post k1 (nI n) 0 0 0 (fun _ => 0) (fun _ => 0) (fun _ => 0)) := by
  have e2 : (2 : Int32).toInt = 2 := by decide
  have e3 : (3 : Int32).toInt = 3 := by decide
  by_cases h3 : 3 ≤ k1
  · have h2 : 2 ≤ k1 := by
      rw [Int32.le_iff_toInt_le, e3] at h3
      rw [Int32.le_iff_toInt_le, e2]; omega
    refine ⟨3, by omega, by omega, fun n post h => br_t h3 h, fun n post h => br_t h2 (br_c (fun z => ?_) (fun z => h))⟩
    have e : k1 = 3 := by
      rw [Int32.le_iff_toInt_le, e3] at h3 z
      rw [wc_i32_eq, e3]; omega
    rw [e]; exact h
  · refine ⟨2, by omega, by omega, fun n post h => br_f h3 h, fun n post h => br_c (fun z => br_t ?_ ?_) (fun z => h)⟩
    · rw [Int32.le_iff_toInt_le, e3] at h3 ⊢
      omega
    · have e : k1 = 2 := by
        rw [Int32.le_iff_toInt_le, e3] at h3
        rw [Int32.le_iff_toInt_le, e2] at z
        rw [wc_i32_eq, e2]; omega
      rw [e]; exact h
theorem wc_CO_0 : wc_CO 0 := Or.inl (by decide)
theorem i_vc0 (k0 : Int32) (k1 : Int32) : wpX_init (fun u => wpY_init (fun v => i_Rel 2 u v) k0 k1) k0 k1 := by
  obtain ⟨n, hn2, hn, hX, hY⟩ := wc_init_n k0
  obtain ⟨d, hd, hd3, hX', hY'⟩ := wc_init_d k1
  have s4 := (wc_shl hd hd3).2.2
  refine hX _ _ (hX' n _ ⟨7, wc_xinit131 hd hd3 (fun tA hA => ?_) 7 0 (fun _ => 0) (by omega) (by omega) (fun w hw => by omega)⟩)
  refine hY _ _ (hY' n _ ⟨n + 1, wc_yinit84 hn hd hd3 (fun al hB => ?_) (n + 1) 0 (fun _ => 0) (by omega) (by omega) (fun w hw => by omega)⟩)
  refine wc_mk ⟨⟨hn2, hn, hd, hd3⟩, ⟨fun _ _ _ _ => wc_CO_0, fun _ _ _ _ _ _ _ _ => wc_CO_0⟩, fun _ _ _ _ => rfl, fun _ _ _ _ _ _ _ _ => ⟨rfl, rfl⟩, fun w hw => ⟨?_, 2 ^ d - 1, by omega, hB w hw⟩⟩
  rw [hA w (by omega), hB w hw]
end
section
/-! the questions -/
theorem wc_In_x {n d : Nat} {tU tB tA one two al : Nat → Int32} (h : wc_Rel n d tU tB tA one two al) : wc_In n d tU tB := by
  obtain ⟨h0, hI, hU, hB, hA⟩ := h
  refine ⟨fun v a hv ha => ?_, fun u v a b huv hv ha hb => ?_⟩
  · rw [hU v a hv ha]; exact hI.1 v a hv ha
  · rw [(hB u v a b huv hv ha hb).1]; exact hI.2 u v a b huv hv ha hb
theorem wc_cv_rel {n d : Nat} {tU tB tA one two al M : Nat → Int32} (h : wc_Rel n d tU tB tA one two al) (hM : ∀ w, w < n → M w = tA w) (x : Nat) : wc_cv n d M tU tB x = wc_cv n d al one two x := by
  obtain ⟨⟨hn2, hn, hd, hd3⟩, hI, hU, hB, hA⟩ := h
  have hg : ∀ w, w < n → wc_dg d n x w < d := fun w _ => wc_dg_lt (by omega) n x w
  have e : wc_ok M (wc_dg d n x) n = true ↔ wc_ok al (wc_dg d n x) n = true := by
    rw [wc_ok_iff, wc_ok_iff]
    constructor
    · intro h w hw
      rw [← (hA w hw).1, ← hM w hw]; exact h w hw
    · intro h w hw
      rw [hM w hw, (hA w hw).1]; exact h w hw
  by_cases k : wc_ok al (wc_dg d n x) n = true
  · rw [wc_cv_t k, wc_cv_t (e.mpr k)]
    refine wc_T_cc (d := d) (fun v a hv ha => ?_) (fun u v a b huv hv ha hb => ?_) hg
    · try dsimp only
      rw [hU v a hv ha]
    · try dsimp only
      rw [(hB u v a b huv hv ha hb).1]
  · rw [wc_cv_f k, wc_cv_f (fun z => k (e.mp z))]
theorem wc_inM : ∀ m, m < 8 → ∀ a, a < 3 → ∀ b, b < 3 → wc_in (nI m &&& ((1 : Int32) <<< (nI a &&& 31))) b = (wc_in (nI m) b && decide (b = a)) := by decide
theorem wc_andM : ∀ m, m < 8 → ∀ a, a < 3 → ∃ j, j < 8 ∧ nI m &&& ((1 : Int32) <<< (nI a &&& 31)) = nI j := by decide
theorem wc_cv_mask {n d : Nat} {M U B : Nat → Int32} {v a m : Nat} (hd : 1 < d) (hd3 : d ≤ 3) (hv : v < n) (ha : a < d) (hm : m < 8) (hM : M v = nI m) (x : Nat) : wc_cv n d (upd M v (M v &&& ((1 : Int32) <<< (nI a &&& 31)))) U B x = wc_fl (fun x => decide (wc_dg d n x v = a)) (wc_cv n d M U B) x := by
  have gl := wc_dg_lt (d := d) (by omega) n x v
  have e : wc_ok (upd M v (M v &&& ((1 : Int32) <<< (nI a &&& 31)))) (wc_dg d n x) n = true ↔ (wc_ok M (wc_dg d n x) n = true ∧ wc_dg d n x v = a) := by
    rw [wc_ok_iff, wc_ok_iff]
    have key : wc_in (M v &&& ((1 : Int32) <<< (nI a &&& 31))) (wc_dg d n x v) = true ↔ (wc_in (M v) (wc_dg d n x v) = true ∧ wc_dg d n x v = a) := by
      rw [hM, wc_inM m hm a (by omega) _ (by omega), Bool.and_eq_true, decide_eq_true_iff]
    constructor
    · intro h
      have k := h v hv
      rw [pk_us, key] at k
      refine ⟨fun w hw => ?_, k.2⟩
      by_cases z : w = v
      · subst z; exact k.1
      · have q := h w hw
        rw [pk_un z] at q; exact q
    · rintro ⟨h, h'⟩ w hw
      by_cases z : w = v
      · subst z; rw [pk_us, key]; exact ⟨h w hw, h'⟩
      · rw [pk_un z]; exact h w hw
  by_cases k : wc_ok M (wc_dg d n x) n = true
  · by_cases g : wc_dg d n x v = a
    · rw [wc_cv_t (e.mpr ⟨k, g⟩), wc_fl_t (decide_eq_true g), wc_cv_t k]
    · rw [wc_cv_f (fun z => g (e.mp z).2), wc_fl_f (fun z => g (of_decide_eq_true z))]
  · rw [wc_cv_f (fun z => k (e.mp z).1)]
    by_cases g : wc_dg d n x v = a
    · rw [wc_fl_t (decide_eq_true g), wc_cv_f k]
    · rw [wc_fl_f (fun z => g (of_decide_eq_true z))]
section
variable {n d : Nat} {fl cu ab cn cg oL oH oV oW : Int32} {tU tB tA mK sG pR eX rE vA fB : Nat → Int32}
theorem wc_least1 {post : Int32 → SX → Prop} {f : Nat → Int} (hn2 : 2 ≤ n) (hn : n ≤ 6) (hd : 1 < d) (hd3 : d ≤ 3) (hI : wc_In n d tU tB) (hf : ∀ x, wc_cv n d mK tU tB x = f x)
    (hpost : ∀ (r fl cu ab cn cg : Int32) (sG pR eX rE vA fB : Nat → Int32), r.toInt = wc_lv (-1) (wc_mn f (d ^ n)) → (wc_mn f (d ^ n) < 500000 → ∀ w, w < n → fB w = nI (wc_dg d n (wc_fb f (d ^ n)) w)) → post r (nI n, nI d, fl, cu, ab, cn, cg, oL, oH, oV, oW, tU, tB, tA, mK, sG, pR, eX, rE, vA, fB)) : wpX_least post (nI n, nI d, fl, cu, ab, cn, cg, oL, oH, oV, oW, tU, tB, tA, mK, sG, pR, eX, rE, vA, fB) (-1) := by
  refine wc_least hn2 hn hd hd3 hI ?_
  have m1 : (-1 : Int32).toInt = -1 := by decide
  have e := wc_mn_c (f := wc_F (-1) (wc_cv n d mK tU tB)) (f' := f) (N := d ^ n) (fun x _ => by
    have c0 := wc_cv_0 (mK := mK) hI (by omega) x
    rw [wc_F_t (by rw [m1]; omega), hf x])
  rw [e.1, e.2]
  exact hpost
end
theorem wc_i32_of {x y : Int32} {a : Int} (h1 : x.toInt = a) (h2 : y.toInt = a) : x = y := wc_i32_eq.mpr (h1.trans h2.symm)
theorem i_vc_best {k : Nat} {u : SX} {v : SY} (I : i_Rel k u v) (hk : k + 4 ≤ 2050) : wpX_best (fun r u' => wpY_best (fun r' => r' = r ∧ i_Rel (k + 4) u' v) v) u := by
  refine wc_el I (P := fun u v => wpX_best (fun r u' => wpY_best (fun r' => r' = r ∧ i_Rel (k + 4) u' v) v) u) ?_
  intro n d fl cu ab cn cg oL oH oV oW tU tB tA mK sG pR eX rE vA fB one two al hR
  obtain ⟨⟨hn2, hn, hd, hd3⟩, hI, hU, hB, hA⟩ := id hR
  unfold wpX_best
  dsimp only
  refine wc_open hn (fun M hM => ?_)
  refine wc_least1 hn2 hn hd hd3 (wc_In_x hR) (wc_cv_rel hR hM) (fun r fl cu ab cn cg sG pR eX rE vA fB hr _ => ?_)
  exact wc_ybest hn hd hd3 (wc_pow_bd hn hd hd3) hI (fun r' hr' => ⟨wc_i32_of hr' hr, wc_mk hR⟩)
theorem i_vc_nextCost {k : Nat} {u : SX} {v : SY} (I : i_Rel k u v) (hk : k + 4 ≤ 2050) (v1 : Int32) : wpX_nextCost (fun r u' => wpY_nextCost (fun r' => r' = r ∧ i_Rel (k + 4) u' v) v v1) u v1 := by
  refine wc_el I (P := fun u v => wpX_nextCost (fun r u' => wpY_nextCost (fun r' => r' = r ∧ i_Rel (k + 4) u' v) v v1) u v1) ?_
  intro n d fl cu ab cn cg oL oH oV oW tU tB tA mK sG pR eX rE vA fB one two al hR
  obtain ⟨⟨hn2, hn, hd, hd3⟩, hI, hU, hB, hA⟩ := id hR
  unfold wpX_nextCost
  dsimp only
  refine wc_open hn (fun M hM => ?_)
  refine wc_least hn2 hn hd hd3 (wc_In_x hR) (fun r fl cu ab cn cg sG pR eX rE vA fB hr _ => ?_)
  have e := wc_mn_c (f := wc_F v1 (wc_cv n d M tU tB)) (f' := wc_F v1 (wc_cv n d al one two)) (N := d ^ n) (fun x _ => by
    unfold wc_F
    rw [wc_cv_rel hR hM x])
  rw [e.1] at hr
  exact wc_ynext hn hd hd3 (wc_pow_bd hn hd hd3) hI (fun r' hr' => ⟨wc_i32_of hr' hr, wc_mk hR⟩)
theorem wc_lv_ge {r : Int32} {f : Nat → Int} {N : Nat} (h0 : ∀ x, 0 ≤ f x) (hr : r.toInt = wc_lv (-1) (wc_mn f N)) : (wc_mn f N < 500000 → 0 ≤ r ∧ r.toInt = wc_mn f N) ∧ (¬ wc_mn f N < 500000 → ¬ 0 ≤ r ∧ r.toInt = -1) := by
  have m0 := wc_mn_0 h0 N
  refine ⟨fun h => ?_, fun h => ?_⟩
  · unfold wc_lv at hr
    rw [if_pos h] at hr
    rw [Int32.le_iff_toInt_le, wc_z0]
    exact ⟨by omega, hr⟩
  · unfold wc_lv at hr
    rw [if_neg h] at hr
    rw [Int32.le_iff_toInt_le, wc_z0]
    exact ⟨by omega, hr⟩
theorem i_vc_bestCount {k : Nat} {u : SX} {v : SY} (I : i_Rel k u v) (hk : k + 4 ≤ 2050) : wpX_bestCount (fun r u' => wpY_bestCount (fun r' => r' = r ∧ i_Rel (k + 4) u' v) v) u := by
  refine wc_el I (P := fun u v => wpX_bestCount (fun r u' => wpY_bestCount (fun r' => r' = r ∧ i_Rel (k + 4) u' v) v) u) ?_
  intro n d fl cu ab cn cg oL oH oV oW tU tB tA mK sG pR eX rE vA fB one two al hR
  obtain ⟨⟨hn2, hn, hd, hd3⟩, hI, hU, hB, hA⟩ := id hR
  have pb := wc_pow_bd hn hd hd3
  have c0 := fun x => wc_cv_0 (mK := al) hI (by omega) x
  unfold wpX_bestCount wpY_bestCount
  dsimp only
  refine wc_open hn (fun M hM => ?_)
  refine wc_least1 hn2 hn hd hd3 (wc_In_x hR) (wc_cv_rel hR hM) (fun r fl cu ab cn cg sG pR eX rE vA fB hr _ => ?_)
  obtain ⟨g1, g2⟩ := wc_lv_ge c0 hr
  by_cases h : wc_mn (wc_cv n d al one two) (d ^ n) < 500000
  · obtain ⟨r0, r1⟩ := g1 h
    have m0 := wc_mn_0 c0 (d ^ n)
    refine br_t r0 ?_
    refine wc_count hn2 hn hd hd3 (wc_In_x hR) (by omega) (by omega) (fun fl cu ab cn cg sG pR eX rE vA fB => ?_)
    refine wc_ybest hn hd hd3 pb hI (fun r' hr' => ⟨d ^ n + 1, ?_⟩)
    obtain ⟨s1, s2⟩ := wc_lv_ge c0 hr'
    refine wc_ycnt9 (c := wc_mn (wc_cv n d al one two) (d ^ n) + 1) hn hd hd3 pb hI (by omega) (fun x hx _ => ?_) ⟨?_, wc_mk hR⟩ (d ^ n + 1) 0 (by omega) (by omega)
    · have q := wc_mn_lb (f := wc_cv n d al one two) hx
      have q2 := (s1 h).2
      omega
    · rw [wc_ct_c (f := wc_cv n d M tU tB) (f' := wc_cv n d al one two) (c := r.toInt + 1) (c' := wc_mn (wc_cv n d al one two) (d ^ n) + 1) (fun x _ => by rw [wc_cv_rel hR hM x, r1])]
  · obtain ⟨r0, r1⟩ := g2 h
    refine br_f r0 ?_
    refine wc_ybest hn hd hd3 pb hI (fun r' hr' => ⟨d ^ n + 1, ?_⟩)
    refine wc_ycnt9 (c := 0) hn hd hd3 pb hI (by omega) (fun x hx hc => ?_) ⟨?_, wc_mk hR⟩ (d ^ n + 1) 0 (by omega) (by omega)
    · have q := wc_mn_lb (f := wc_cv n d al one two) hx
      omega
    · rw [wc_ct_0 c0]; rfl
theorem i_vc_bestValue {k : Nat} {u : SX} {v : SY} (I : i_Rel k u v) (hk : k + 4 ≤ 2050) (v1 : Int32) : wpX_bestValue (fun r u' => wpY_bestValue (fun r' => r' = r ∧ i_Rel (k + 4) u' v) v v1) u v1 := by
  refine wc_el I (P := fun u v => wpX_bestValue (fun r u' => wpY_bestValue (fun r' => r' = r ∧ i_Rel (k + 4) u' v) v v1) u v1) ?_
  intro n d fl cu ab cn cg oL oH oV oW tU tB tA mK sG pR eX rE vA fB one two al hR
  obtain ⟨⟨hn2, hn, hd, hd3⟩, hI, hU, hB, hA⟩ := id hR
  have pb := wc_pow_bd hn hd hd3
  have c0 := fun x => wc_cv_0 (mK := al) hI (by omega) x
  unfold wpX_bestValue wpY_bestValue
  dsimp only
  by_cases h1 : v1 < 0 ∨ nI n ≤ v1
  · exact wc_isVar_f h1 (br_t rfl (wc_badVar_t h1 (br_f wc_one_ne ⟨rfl, wc_mk hR⟩)))
  · obtain ⟨i, hi, rfl⟩ : ∃ j : Nat, j < n ∧ v1 = nI j := ((pk_ix v1 (n := n) (by omega)).resolve_left (fun z => h1 (Or.inl z))).resolve_left (fun z => h1 (Or.inr z))
    refine wc_isVar_t hn hi (br_f wc_one_ne ?_)
    refine wc_open hn (fun M hM => ?_)
    refine wc_least1 hn2 hn hd hd3 (wc_In_x hR) (wc_cv_rel hR hM) (fun r fl cu ab cn cg sG pR eX rE vA fB hr hfb => ?_)
    obtain ⟨g1, g2⟩ := wc_lv_ge c0 hr
    by_cases h : wc_mn (wc_cv n d al one two) (d ^ n) < 500000
    · have e : fB (nI i).toNatClampNeg = nI (wc_dg d n (wc_fb (wc_cv n d al one two) (d ^ n)) i) := by rw [nI_clamp (by omega), hfb h i hi]
      refine br_t (g1 h).1 ⟨vp_in_nI (by omega) (by omega), ?_⟩
      refine wc_badVar_f hn hi (br_t rfl (wc_ybest hn hd hd3 pb hI (fun r' hr' => ⟨d ^ n + 1, ?_⟩)))
      exact wc_yfirst17 hn hd hd3 pb hI hi hr' (fun _ => ⟨e.symm, wc_mk hR⟩) (fun z => absurd h z) (d ^ n + 1) 0 (by omega) (by omega) (fun _ => by omega)
    · refine br_f (g2 h).1 ?_
      refine wc_badVar_f hn hi (br_t rfl (wc_ybest hn hd hd3 pb hI (fun r' hr' => ⟨d ^ n + 1, ?_⟩)))
      exact wc_yfirst17 hn hd hd3 pb hI hi hr' (fun z => absurd z h) (fun _ => ⟨rfl, wc_mk hR⟩) (d ^ n + 1) 0 (by omega) (by omega) (fun _ => by omega)
theorem wc_m3 : (-3 : Int32).toInt = -3 := by decide
theorem i_vc_bestWith {k : Nat} {u : SX} {v : SY} (I : i_Rel k u v) (hk : k + 4 ≤ 2050) (v1 : Int32) (v2 : Int32) : wpX_bestWith (fun r u' => wpY_bestWith (fun r' => r' = r ∧ i_Rel (k + 4) u' v) v v1 v2) u v1 v2 := by
  refine wc_el I (P := fun u v => wpX_bestWith (fun r u' => wpY_bestWith (fun r' => r' = r ∧ i_Rel (k + 4) u' v) v v1 v2) u v1 v2) ?_
  intro n d fl cu ab cn cg oL oH oV oW tU tB tA mK sG pR eX rE vA fB one two al hR
  obtain ⟨⟨hn2, hn, hd, hd3⟩, hI, hU, hB, hA⟩ := id hR
  have pb := wc_pow_bd hn hd hd3
  have c0 := fun x => wc_cv_0 (mK := al) hI (by omega) x
  unfold wpX_bestWith wpY_bestWith
  dsimp only
  by_cases h1 : v1 < 0 ∨ nI n ≤ v1
  · exact wc_isVar_f h1 (br_t rfl (wc_badVar_t h1 (br_f wc_one_ne ⟨rfl, wc_mk hR⟩)))
  · obtain ⟨i, hi, rfl⟩ : ∃ j : Nat, j < n ∧ v1 = nI j := ((pk_ix v1 (n := n) (by omega)).resolve_left (fun z => h1 (Or.inl z))).resolve_left (fun z => h1 (Or.inr z))
    refine wc_isVar_t hn hi (br_f wc_one_ne ?_)
    by_cases h2 : v2 < 0 ∨ nI d ≤ v2
    · exact wc_isValue_f h2 (br_t rfl (wc_badVar_f hn hi (br_t rfl (wc_badValue_t h2 (br_f wc_one_ne ⟨rfl, wc_mk hR⟩)))))
    · obtain ⟨a, ha, rfl⟩ : ∃ j : Nat, j < d ∧ v2 = nI j := ((pk_ix v2 (n := d) (by omega)).resolve_left (fun z => h2 (Or.inl z))).resolve_left (fun z => h2 (Or.inr z))
      refine wc_isValue_t hd3 ha (br_f wc_one_ne ?_)
      refine wc_open hn (fun M hM => ?_)
      have hi6 : vp_in (nI i) 6 := vp_in_nI (by omega) (by omega)
      refine ⟨hi6, hi6, fun y ey => ?_⟩
      rw [nI_clamp (by omega)] at ey
      subst ey
      obtain ⟨m, hm, em⟩ := (hA i hi).2
      have eM : M i = nI m := by rw [hM i hi, (hA i hi).1, em]
      refine wc_least1 (f := wc_fl (fun x => decide (wc_dg d n x i = a)) (wc_cv n d al one two)) hn2 hn hd hd3 (wc_In_x hR) (fun x => by
        rw [wc_cv_mask hd hd3 hi ha hm eM x]
        unfold wc_fl
        rw [wc_cv_rel hR hM x]) (fun r fl cu ab cn cg sG pR eX rE vA fB hr _ => ?_)
      obtain ⟨g1, g2⟩ := wc_lv_ge (wc_fl_0 c0) hr
      by_cases h : wc_mn (wc_fl (fun x => decide (wc_dg d n x i = a)) (wc_cv n d al one two)) (d ^ n) < 500000
      · refine br_t (g1 h).1 ?_
        refine wc_badVar_f hn hi (br_t rfl (wc_badValue_f hd3 ha (br_t rfl ⟨d ^ n + 1, ?_⟩)))
        refine wc_ywith27 hn hd hd3 pb hI hi ha (fun r' hr' => ⟨?_, wc_mk hR⟩) (d ^ n + 1) 0 (-3) (by omega) (by omega) (wc_lv_0 wc_m3)
        unfold wc_lv at hr'
        rw [if_pos h] at hr'
        exact wc_i32_of hr' (g1 h).2
      · refine br_f (g2 h).1 ?_
        refine wc_badVar_f hn hi (br_t rfl (wc_badValue_f hd3 ha (br_t rfl ⟨d ^ n + 1, ?_⟩)))
        refine wc_ywith27 hn hd hd3 pb hI hi ha (fun r' hr' => ⟨?_, wc_mk hR⟩) (d ^ n + 1) 0 (-3) (by omega) (by omega) (wc_lv_0 wc_m3)
        unfold wc_lv at hr'
        rw [if_neg h] at hr'
        exact wc_i32_of hr' wc_m3
theorem i_vc_costOf {k : Nat} {u : SX} {v : SY} (I : i_Rel k u v) (hk : k + 4 ≤ 2050) (v1 : Int32) : wpX_costOf (fun r u' => wpY_costOf (fun r' => r' = r ∧ i_Rel (k + 4) u' v) v v1) u v1 := by
  refine wc_el I (P := fun u v => wpX_costOf (fun r u' => wpY_costOf (fun r' => r' = r ∧ i_Rel (k + 4) u' v) v v1) u v1) ?_
  intro n d fl cu ab cn cg oL oH oV oW tU tB tA mK sG pR eX rE vA fB one two al hR
  obtain ⟨⟨hn2, hn, hd, hd3⟩, hI, hU, hB, hA⟩ := id hR
  have pb := wc_pow_bd hn hd hd3
  have p0 : 0 < d ^ n := Nat.pow_pos (by omega)
  refine wc_xcostOf hn2 hn hd hd3 (wc_In_x hR) (fun h => ?_) (fun x hx ex r vA hr => ?_)
  · by_cases h0 : v1 < 0
    · exact br_t h0 ⟨rfl, wc_mk hR⟩
    · refine br_f h0 ?_
      rw [wc_nm1 p0]
      obtain ⟨j, hj, rfl⟩ := nI_of h0
      have h' : ¬ nI j < nI (d ^ n) := h.resolve_left h0
      rw [nI_ltI hj (by omega)] at h'
      exact br_f (nI_ge (by omega) hj) ⟨rfl, wc_mk hR⟩
  · subst ex
    refine br_f (nI_pos (by omega)) ?_
    rw [wc_nm1 p0]
    refine br_t (nI_le (by omega) (by omega)) ?_
    refine wc_ycost hn hd hd3 (by omega) hI (fun r' hr' => ⟨?_, wc_mk hR⟩)
    rw [wc_cv_rel hR (fun w _ => rfl) x] at hr
    exact wc_i32_of hr' hr
end
section
/-! countUpTo, bestWithPair, choices -/
theorem i_vc_countUpTo {k : Nat} {u : SX} {v : SY} (I : i_Rel k u v) (hk : k + 4 ≤ 2050) (v1 : Int32) : wpX_countUpTo (fun r u' => wpY_countUpTo (fun r' => r' = r ∧ i_Rel (k + 4) u' v) v v1) u v1 := by
  refine wc_el I (P := fun u v => wpX_countUpTo (fun r u' => wpY_countUpTo (fun r' => r' = r ∧ i_Rel (k + 4) u' v) v v1) u v1) ?_
  intro n d fl cu ab cn cg oL oH oV oW tU tB tA mK sG pR eX rE vA fB one two al hR
  obtain ⟨⟨hn2, hn, hd, hd3⟩, hI, hU, hB, hA⟩ := id hR
  have pb := wc_pow_bd hn hd hd3
  have c0 := fun x => wc_cv_0 (mK := al) hI (by omega) x
  have e9 : (499999 : Int32).toInt = 499999 := by decide
  unfold wpX_countUpTo wpY_countUpTo
  dsimp only
  by_cases h : 0 ≤ v1
  · refine br_t h ?_
    rw [Int32.le_iff_toInt_le, wc_z0] at h
    refine wc_open hn (fun M hM => ?_)
    refine br_c (fun g => ?_) (fun g => ?_)
    · rw [Int32.le_iff_toInt_le, wc_5L] at g
      refine wc_count (bo := 499999) hn2 hn hd hd3 (wc_In_x hR) (by decide) (by decide) (fun fl cu ab cn cg sG pR eX rE vA fB => ⟨d ^ n + 1, ?_⟩)
      refine wc_yup4 (c := 500000) hn hd hd3 pb hI (by omega) (fun x hx hc => by omega) ⟨?_, wc_mk hR⟩ (d ^ n + 1) 0 (by omega) (by omega)
      rw [wc_ct_c (f := wc_cv n d M tU tB) (f' := wc_cv n d al one two) (c := (499999 : Int32).toInt + 1) (c' := 500000) (fun x _ => by rw [wc_cv_rel hR hM x, e9]; omega)]
    · rw [Int32.le_iff_toInt_le, wc_5L] at g
      refine wc_count (bo := v1) hn2 hn hd hd3 (wc_In_x hR) h (by omega) (fun fl cu ab cn cg sG pR eX rE vA fB => ⟨d ^ n + 1, ?_⟩)
      refine wc_yup4 (c := v1.toInt + 1) hn hd hd3 pb hI (by omega) (fun x hx hc => by omega) ⟨?_, wc_mk hR⟩ (d ^ n + 1) 0 (by omega) (by omega)
      rw [wc_ct_c (f := wc_cv n d M tU tB) (f' := wc_cv n d al one two) (c := v1.toInt + 1) (c' := v1.toInt + 1) (fun x _ => by rw [wc_cv_rel hR hM x])]
  · refine br_f h ?_
    rw [Int32.le_iff_toInt_le, wc_z0] at h
    refine ⟨d ^ n + 1, ?_⟩
    refine wc_yup4 (c := 0) hn hd hd3 pb hI (by omega) (fun x hx hc => by have q := c0 x; omega) ⟨?_, wc_mk hR⟩ (d ^ n + 1) 0 (by omega) (by omega)
    rw [wc_ct_0 c0]; rfl
theorem i_vc_bestWithPair {k : Nat} {u : SX} {v : SY} (I : i_Rel k u v) (hk : k + 4 ≤ 2050) (v1 : Int32) (v2 : Int32) : wpX_bestWithPair (fun r u' => wpY_bestWithPair (fun r' => r' = r ∧ i_Rel (k + 4) u' v) v v1 v2) u v1 v2 := by
  refine wc_el I (P := fun u v => wpX_bestWithPair (fun r u' => wpY_bestWithPair (fun r' => r' = r ∧ i_Rel (k + 4) u' v) v v1 v2) u v1 v2) ?_
  intro n d fl cu ab cn cg oL oH oV oW tU tB tA mK sG pR eX rE vA fB one two al hR
  unfold wpX_bestWithPair wpY_bestWithPair
  dsimp only
  obtain ⟨⟨hn2, hn, hd, hd3⟩, hI, hU, hB, hA⟩ := id hR
  have nn := wc_nn hn2 hn
  have dd := wc_dd hd hd3
  have pb := wc_pow_bd hn hd hd3
  have c0 := fun x => wc_cv_0 (mK := al) hI (by omega) x
  by_cases h1 : v1 < 0 ∨ nI (n * n) ≤ v1
  · exact wc_takePair_b h1 (br_t rfl (wc_badPair_b hn2 hn h1 (br_f wc_one_ne ⟨rfl, wc_mk hR⟩)))
  · obtain ⟨q, hq, rfl⟩ : ∃ j : Nat, j < n * n ∧ v1 = nI j := ((pk_ix v1 (n := n * n) (by omega)).resolve_left (fun z => h1 (Or.inl z))).resolve_left (fun z => h1 (Or.inr z))
    have q1 : q / n < n := Nat.div_lt_of_lt_mul hq
    have q2 : q % n < n := Nat.mod_lt _ (by omega)
    by_cases he : q / n = q % n
    · refine wc_takePair_e hn2 hn hq he (fun a b => ?_)
      exact br_t rfl (wc_badPair_q hn2 hn hq (fun _ => br_f wc_one_ne ⟨rfl, wc_mk hR⟩) (fun z => absurd he z))
    · refine wc_takePair_g hn2 hn hq he (fun l m hlm hm hc1 => ?_)
      refine br_f wc_one_ne ?_
      by_cases h2 : v2 < 0 ∨ nI (d * d) ≤ v2
      · refine wc_takeValues_b h2 ?_
        exact br_t rfl (wc_badPair_q hn2 hn hq (fun z => absurd z he) (fun _ => br_t rfl (wc_badValues_b hd hd3 h2 (br_f wc_one_ne ⟨rfl, wc_mk hR⟩))))
      · obtain ⟨w, hw, rfl⟩ : ∃ j : Nat, j < d * d ∧ v2 = nI j := ((pk_ix v2 (n := d * d) (by omega)).resolve_left (fun z => h2 (Or.inl z))).resolve_left (fun z => h2 (Or.inr z))
        have w1 : w / d < d := Nat.div_lt_of_lt_mul hw
        have w2 : w % d < d := Nat.mod_lt _ (by omega)
        refine wc_takeValues_g hn2 hn hd hd3 hq hw (fun a b ha hb hc2 => ?_)
        refine br_f wc_one_ne ?_
        refine wc_open (tA := tA) hn (fun M hM => ?_)
        have il : vp_in (nI l) 6 := vp_in_nI (by omega) (by omega)
        have im : vp_in (nI m) 6 := vp_in_nI (by omega) (by omega)
        refine ⟨il, il, fun y ey => ⟨im, im, fun z ez => ?_⟩⟩
        obtain ⟨ml, hml, eml⟩ := (hA l (by omega)).2
        obtain ⟨mm, hmm, emm⟩ := (hA m hm).2
        have eMl : M l = nI ml := by rw [hM l (by omega), (hA l (by omega)).1, eml]
        have eMm : M m = nI mm := by rw [hM m hm, (hA m hm).1, emm]
        have ey' : y = upd M l (M l &&& ((1 : Int32) <<< (nI a &&& 31))) := by
          refine ey.trans ?_
          show upd M (nI l).toNatClampNeg (M (nI l).toNatClampNeg &&& ((1 : Int32) <<< (nI a &&& 31))) = _
          rw [nI_clamp (by omega)]
        have ez' : z = upd y m (y m &&& ((1 : Int32) <<< (nI b &&& 31))) := by
          refine ez.trans ?_
          show upd y (nI m).toNatClampNeg (y (nI m).toNatClampNeg &&& ((1 : Int32) <<< (nI b &&& 31))) = _
          rw [nI_clamp (by omega)]
        have eym : y m = nI mm := by rw [ey', pk_un (by omega), eMm]
        have pm := wc_pm hlm hc1 hc2
        have hf : ∀ x, wc_cv n d z tU tB x = wc_fl (fun x => decide (wc_dg d n x (q / n) = w / d ∧ wc_dg d n x (q % n) = w % d)) (wc_cv n d al one two) x := by
          intro x
          rw [ez', wc_cv_mask hd hd3 hm hb hmm eym x]
          have e1 : wc_cv n d y tU tB x = wc_fl (fun x => decide (wc_dg d n x l = a)) (wc_cv n d al one two) x := by
            rw [ey', wc_cv_mask hd hd3 (by omega) ha hml eMl x]
            unfold wc_fl
            rw [wc_cv_rel hR hM x]
          have e2 : (wc_dg d n x (q / n) = w / d ∧ wc_dg d n x (q % n) = w % d) ↔ (wc_dg d n x l = a ∧ wc_dg d n x m = b) := by
            rcases pm with ⟨p1, p2, p3, p4⟩ | ⟨p1, p2, p3, p4⟩
            · rw [p1, p2, p3, p4]
            · rw [p1, p2, p3, p4]; exact And.comm
          by_cases g : wc_dg d n x m = b
          · rw [wc_fl_t (decide_eq_true g), e1]
            by_cases g2 : wc_dg d n x l = a
            · rw [wc_fl_t (decide_eq_true g2), wc_fl_t (decide_eq_true (e2.mpr ⟨g2, g⟩))]
            · rw [wc_fl_f (fun z => g2 (of_decide_eq_true z)), wc_fl_f (fun z => g2 (e2.mp (of_decide_eq_true z)).1)]
          · rw [wc_fl_f (fun z => g (of_decide_eq_true z)), wc_fl_f (fun z => g (e2.mp (of_decide_eq_true z)).2)]
        refine wc_least1 (f := wc_fl (fun x => decide (wc_dg d n x (q / n) = w / d ∧ wc_dg d n x (q % n) = w % d)) (wc_cv n d al one two)) (tU := tU) (tB := tB) (mK := z) hn2 hn hd hd3 (wc_In_x hR) hf (fun r fl cu ab cn cg sG pR eX rE vA fB hr _ => ?_)
        obtain ⟨g1, g2⟩ := wc_lv_ge (wc_fl_0 c0) hr
        by_cases h : wc_mn (wc_fl (fun x => decide (wc_dg d n x (q / n) = w / d ∧ wc_dg d n x (q % n) = w % d)) (wc_cv n d al one two)) (d ^ n) < 500000
        · refine br_t (g1 h).1 ?_
          refine wc_badPair_q hn2 hn hq (fun z => absurd z he) (fun _ => br_t rfl (wc_badValues_g hd hd3 hw (br_t rfl ?_)))
          refine wc_yover (by omega) (by omega) (by omega) (wc_yrest (by omega) (by omega) (by omega) (wc_yover (by omega) (by omega) (by omega) (wc_yrest (by omega) (by omega) (by omega) ⟨d ^ n + 1, ?_⟩)))
          refine wc_ypair71 hn hd hd3 pb hI q1 q2 w1 w2 (fun r' hr' => ⟨?_, wc_mk hR⟩) (d ^ n + 1) 0 (-3) (by omega) (by omega) (wc_lv_0 wc_m3)
          unfold wc_lv at hr'
          rw [if_pos h] at hr'
          exact wc_i32_of hr' (g1 h).2
        · refine br_f (g2 h).1 ?_
          refine wc_badPair_q hn2 hn hq (fun z => absurd z he) (fun _ => br_t rfl (wc_badValues_g hd hd3 hw (br_t rfl ?_)))
          refine wc_yover (by omega) (by omega) (by omega) (wc_yrest (by omega) (by omega) (by omega) (wc_yover (by omega) (by omega) (by omega) (wc_yrest (by omega) (by omega) (by omega) ⟨d ^ n + 1, ?_⟩)))
          refine wc_ypair71 hn hd hd3 pb hI q1 q2 w1 w2 (fun r' hr' => ⟨?_, wc_mk hR⟩) (d ^ n + 1) 0 (-3) (by omega) (by omega) (wc_lv_0 wc_m3)
          unfold wc_lv at hr'
          rw [if_neg h] at hr'
          exact wc_i32_of hr' wc_m3
end
section
/-! choices -/
def wc_kc (b : Nat → Bool) : Nat → Nat
  | 0 => 0
  | a + 1 => if b a = true then wc_kc b a + 1 else wc_kc b a
theorem wc_kc_t {b : Nat → Bool} {a : Nat} (h : b a = true) : wc_kc b (a + 1) = wc_kc b a + 1 := if_pos h
theorem wc_kc_f {b : Nat → Bool} {a : Nat} (h : ¬ b a = true) : wc_kc b (a + 1) = wc_kc b a := if_neg h
theorem wc_ch_iff {f : Nat → Int} {P : Nat → Bool} {N : Nat} (h : wc_mn f N < 500000) : wc_mn (wc_fl P f) N = wc_mn f N ↔ ∃ x, x < N ∧ (f x < 500000 ∧ f x = wc_mn f N) ∧ P x = true := by
  constructor
  · intro e
    obtain ⟨a1, a2, _⟩ := wc_mn_fb (f := wc_fl P f) (N := N) (by omega)
    by_cases g : P (wc_fb (wc_fl P f) N) = true
    · rw [wc_fl_t g] at a2
      exact ⟨_, a1, ⟨by omega, by omega⟩, g⟩
    · rw [wc_fl_f g] at a2
      omega
  · rintro ⟨x, hx, ⟨h1, h2⟩, hP⟩
    have a := wc_mn_lb (f := wc_fl P f) hx
    rw [wc_fl_t hP] at a
    by_cases g : wc_mn (wc_fl P f) N < 500000
    · obtain ⟨a1, a2, _⟩ := wc_mn_fb g
      have b := wc_fl_big (P := P) (wc_mn_lb (f := f) a1) (by omega)
      omega
    · omega
theorem wc_ch_pc {d s : Nat} {b : Nat → Bool} (hd : 1 < d) (hd3 : d ≤ 3) (h1 : ∀ a, a < d → (s / 2 ^ a % 2 = 1 ↔ b a = true)) (h2 : ∀ a, d ≤ a → a < 3 → ¬ s / 2 ^ a % 2 = 1) : wc_kc b d = wc_pc s := by
  have bit : ∀ a, a < d → s / 2 ^ a % 2 = if b a = true then 1 else 0 := by
    intro a ha
    have q := h1 a ha
    by_cases g : b a = true
    · rw [if_pos g]; exact q.mpr g
    · rw [if_neg g]
      have z : ¬ s / 2 ^ a % 2 = 1 := fun y => g (q.mp y)
      omega
  have kc : ∀ a, wc_kc b (a + 1) = wc_kc b a + if b a = true then 1 else 0 := by
    intro a
    by_cases g : b a = true
    · rw [wc_kc_t g, if_pos g]
    · rw [wc_kc_f g, if_neg g, Nat.add_zero]
  have k0 : wc_kc b 0 = 0 := rfl
  have k1 := kc 0
  have k2 := kc 1
  have k3 := kc 2
  rw [← bit 0 (by omega)] at k1
  rw [← bit 1 (by omega)] at k2
  unfold wc_pc
  have h : d = 2 ∨ d = 3 := by omega
  rcases h with rfl | rfl
  · have z := h2 2 (by omega) (by omega)
    have e : wc_kc b 2 = wc_kc b (1 + 1) := rfl
    have e1 : wc_kc b 1 = wc_kc b (0 + 1) := rfl
    omega
  · rw [← bit 2 (by omega)] at k3
    have e3 : wc_kc b 3 = wc_kc b (2 + 1) := rfl
    have e : wc_kc b 2 = wc_kc b (1 + 1) := rfl
    have e1 : wc_kc b 1 = wc_kc b (0 + 1) := rfl
    omega
section
variable {n d : Nat} {fl cu ab cn cg oL oH oV oW : Int32} {tU tB tA mK sG pR eX rE vA fB : Nat → Int32}
variable {one two al : Nat → Int32}
theorem wc_xchoi25 {post : Int32 → SX → Prop} {v : Nat} {L : Int32} (hR : wc_Rel n d tU tB tA one two al) (hv : v < n) (hm : wc_mn (wc_cv n d al one two) (d ^ n) < 500000) (hL : L.toInt = wc_mn (wc_cv n d al one two) (d ^ n))
    (hpost : ∀ (fl cu ab cn cg : Int32) (mK sG pR eX rE vA fB : Nat → Int32), post (nI (wc_kc (fun a => decide (wc_mn (wc_fl (fun x => decide (wc_dg d n x v = a)) (wc_cv n d al one two)) (d ^ n) = wc_mn (wc_cv n d al one two) (d ^ n))) d)) (nI n, nI d, fl, cu, ab, cn, cg, oL, oH, oV, oW, tU, tB, tA, mK, sG, pR, eX, rE, vA, fB)) :
    ∀ (f a : Nat) (fl cu ab cn cg : Int32) (mK sG pR eX rE vA fB : Nat → Int32), a ≤ d → d - a < f → wX_choices_25 post (nI v) L f (nI (wc_kc (fun a => decide (wc_mn (wc_fl (fun x => decide (wc_dg d n x v = a)) (wc_cv n d al one two)) (d ^ n) = wc_mn (wc_cv n d al one two) (d ^ n))) a)) (nI a) (nI n) (nI d) fl cu ab cn cg oL oH oV oW tU tB tA mK sG pR eX rE vA fB := by
  obtain ⟨⟨hn2, hn, hd, hd3⟩, hI, hU, hB, hA⟩ := id hR
  have c0 := fun x => wc_cv_0 (mK := al) hI (by omega) x
  have m0 := wc_mn_0 c0 (d ^ n)
  intro f
  induction f with
  | zero => intro a fl cu ab cn cg mK sG pR eX rE vA fB h1 h2; omega
  | succ f ih =>
    intro a fl cu ab cn cg mK sG pR eX rE vA fB h1 h2
    refine pk_le d a (fun h => ?_) (fun h => br_f ?_ ?_)
    · obtain rfl : a = d := by omega
      exact hpost _ _ _ _ _ _ _ _ _ _ _ _
    · rw [Int32.lt_iff_toInt_lt, wc_z0]; omega
    · refine wc_open hn (fun M hM => ?_)
      have hi6 : vp_in (nI v) 6 := vp_in_nI (by omega) (by omega)
      refine ⟨hi6, hi6, fun y ey => ?_⟩
      rw [nI_clamp (by omega)] at ey
      subst ey
      obtain ⟨m, hm8, em⟩ := (hA v hv).2
      have eM : M v = nI m := by rw [hM v hv, (hA v hv).1, em]
      refine wc_least1 (f := wc_fl (fun x => decide (wc_dg d n x v = a)) (wc_cv n d al one two)) hn2 hn hd hd3 (wc_In_x hR) (fun x => by
        rw [wc_cv_mask hd hd3 hv h hm8 eM x]
        unfold wc_fl
        rw [wc_cv_rel hR hM x]) (fun r fl cu ab cn cg sG pR eX rE vA fB hr _ => ?_)
      have q : r = L ↔ wc_mn (wc_fl (fun x => decide (wc_dg d n x v = a)) (wc_cv n d al one two)) (d ^ n) = wc_mn (wc_cv n d al one two) (d ^ n) := by
        rw [wc_i32_eq, hr, hL]
        unfold wc_lv
        by_cases g : wc_mn (wc_fl (fun x => decide (wc_dg d n x v = a)) (wc_cv n d al one two)) (d ^ n) < 500000
        · rw [if_pos g]
        · rw [if_neg g]; omega
      have r1 := ih (a + 1) fl cu ab cn cg (upd M v (M v &&& ((1 : Int32) <<< (nI a &&& 31)))) sG pR eX rE vA fB (by omega) (by omega)
      refine br_c (fun g z ez t et => ?_) (fun g t et => ?_)
      · rw [nI_1] at ez et
        subst ez et
        rw [wc_kc_t (decide_eq_true (q.mp g))] at r1
        exact r1
      · rw [nI_1] at et
        subst et
        rw [wc_kc_f (fun z => g (q.mpr (of_decide_eq_true z)))] at r1
        exact r1
end
theorem i_vc_choices {k : Nat} {u : SX} {v : SY} (I : i_Rel k u v) (hk : k + 4 ≤ 2050) (v1 : Int32) : wpX_choices (fun r u' => wpY_choices (fun r' => r' = r ∧ i_Rel (k + 4) u' v) v v1) u v1 := by
  refine wc_el I (P := fun u v => wpX_choices (fun r u' => wpY_choices (fun r' => r' = r ∧ i_Rel (k + 4) u' v) v v1) u v1) ?_
  intro n d fl cu ab cn cg oL oH oV oW tU tB tA mK sG pR eX rE vA fB one two al hR
  obtain ⟨⟨hn2, hn, hd, hd3⟩, hI, hU, hB, hA⟩ := id hR
  have pb := wc_pow_bd hn hd hd3
  have c0 := fun x => wc_cv_0 (mK := al) hI (by omega) x
  unfold wpX_choices wpY_choices
  dsimp only
  by_cases h1 : v1 < 0 ∨ nI n ≤ v1
  · exact wc_isVar_f h1 (br_t rfl (wc_badVar_t h1 (br_f wc_one_ne ⟨rfl, wc_mk hR⟩)))
  · obtain ⟨i, hi, rfl⟩ : ∃ j : Nat, j < n ∧ v1 = nI j := ((pk_ix v1 (n := n) (by omega)).resolve_left (fun z => h1 (Or.inl z))).resolve_left (fun z => h1 (Or.inr z))
    have ha : ∀ x, (fun x => wc_dg d n x i) x < 3 := by
      intro x
      have a := wc_dg_lt (d := d) (by omega) n x i
      show wc_dg d n x i < 3
      omega
    refine wc_isVar_t hn hi (br_f wc_one_ne ?_)
    refine wc_open hn (fun M hM => ?_)
    refine wc_least1 hn2 hn hd hd3 (wc_In_x hR) (wc_cv_rel hR hM) (fun r fl cu ab cn cg sG pR eX rE vA fB hr hfb => ?_)
    obtain ⟨g1, g2⟩ := wc_lv_ge c0 hr
    by_cases h : wc_mn (wc_cv n d al one two) (d ^ n) < 500000
    · refine ⟨d + 1, wc_xchoi25 hR hi h (g1 h).2 (fun fl cu ab cn cg mK sG pR eX rE vA fB => ?_) (d + 1) 0 fl cu ab cn cg M sG pR eX rE vA fB (by omega) (by omega)⟩
      refine wc_badVar_f hn hi (br_t rfl (wc_ybest hn hd hd3 pb hI (fun r' hr' => ⟨d ^ n + 1, ?_⟩)))
      have hL := ((wc_lv_ge c0 hr').1 h).2
      refine wc_ychoi20 hn hd hd3 pb hI hi ⟨?_, wc_mk hR⟩ (d ^ n + 1) 0 (by omega) (by omega)
      refine congrArg nI (wc_ch_pc hd hd3 (fun a had => ?_) (fun a had ha3 => ?_)).symm
      · rw [wc_sn_b ha (by omega), decide_eq_true_iff, wc_ch_iff h]
        constructor
        · rintro ⟨x, x1, x2, x3⟩
          have x4 := of_decide_eq_true x2
          exact ⟨x, x1, ⟨x4.1, by rw [x4.2]; exact hL⟩, decide_eq_true x3⟩
        · rintro ⟨x, x1, x2, x3⟩
          exact ⟨x, x1, decide_eq_true ⟨x2.1, by rw [hL]; exact x2.2⟩, of_decide_eq_true x3⟩
      · rw [wc_sn_b ha ha3]
        rintro ⟨x, x1, x2, x3⟩
        have z := wc_dg_lt (d := d) (by omega) n x i
        have x3' : wc_dg d n x i = a := x3
        omega
    · refine ⟨1, ?_⟩
      refine br_f (nI_ge (a := 0) (by omega) (by omega)) (br_t ?_ ?_)
      · have q := (g2 h).2
        rw [Int32.lt_iff_toInt_lt, wc_z0]; omega
      · refine wc_badVar_f hn hi (br_t rfl (wc_ybest hn hd hd3 pb hI (fun r' hr' => ⟨d ^ n + 1, ?_⟩)))
        refine wc_ychoi20 hn hd hd3 pb hI hi ⟨?_, wc_mk hR⟩ (d ^ n + 1) 0 (by omega) (by omega)
        have none : ∀ b, b < 3 → ¬ wc_sn (fun x => decide (wc_cv n d al one two x < 500000 ∧ wc_cv n d al one two x = r'.toInt)) (fun x => wc_dg d n x i) (d ^ n) / 2 ^ b % 2 = 1 := by
          intro b hb
          rw [wc_sn_b ha hb]
          rintro ⟨x, x1, x2, x3⟩
          have x4 := (of_decide_eq_true x2).1
          have z := wc_mn_lb (f := wc_cv n d al one two) x1
          omega
        have b0 := none 0 (by omega)
        have b1 := none 1 (by omega)
        have b2 := none 2 (by omega)
        have e : wc_pc (wc_sn (fun x => decide (wc_cv n d al one two x < 500000 ∧ wc_cv n d al one two x = r'.toInt)) (fun x => wc_dg d n x i) (d ^ n)) = 0 := by
          unfold wc_pc
          omega
        rw [e]; rfl
end
