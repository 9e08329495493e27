section
theorem pk_us {f : Nat → Int32} {k : Nat} {x : Int32} : upd f k x k = x := if_pos rfl
theorem pk_un {f : Nat → Int32} {k j : Nat} {x : Int32} (h : j ≠ k) : upd f k x j = f j := if_neg h
theorem pk_sub {a b : Nat} (h : b ≤ a) : nI a - nI b = nI (a - b) := by
  obtain ⟨c, rfl⟩ : ∃ c, a = c + b := ⟨a - b, by omega⟩
  rw [← nI_add, Int32.add_sub_cancel, Nat.add_sub_cancel]
theorem pk_m1 (n : Nat) : nI (n + 1) + (-1) = nI n := by
  rw [← nI_1, Int32.add_assoc, show (1 : Int32) + (-1) = 0 from rfl, Int32.add_zero]
theorem pk_mul (a b : Nat) : nI a * nI b = nI (a * b) := (Int32.ofNat_mul a b).symm
theorem pk_div {a d : Nat} (ha : a < 2 ^ 31) (h0 : 0 < d) (hd : d < 2 ^ 31) : nI a / nI d = nI (a / d) := by
  apply Int32.toInt_inj.mp
  rw [lg_idiv_nonneg (by rw [nI_toInt ha]; omega) (by rw [nI_toInt hd]; omega), nI_toInt ha, nI_toInt hd, nI_toInt (Nat.lt_of_le_of_lt (Nat.div_le_self a d) ha)]
  first | rfl | exact (Int.natCast_ediv _ _).symm
theorem pk_rem {a d : Nat} (ha : a < 2 ^ 31) (h0 : 0 < d) (hd : d < 2 ^ 31) : nI a - nI a / nI d * nI d = nI (a % d) := by
  rw [pk_div ha h0 hd, pk_mul, pk_sub (Nat.div_mul_le_self a d)]
  exact congrArg nI (by have := Nat.div_add_mod' a d; omega)
theorem pk_sub_toInt {a b : Nat} (ha : a < 2 ^ 30) (hb : b < 2 ^ 30) : (nI a - nI b).toInt = (a : Int) - b := by
  rw [Int32.toInt_sub, nI_toInt (by omega), nI_toInt (by omega)]
  exact Int.bmod_eq_of_le (by omega) (by omega)
theorem pk_sneg {a b : Nat} (hb : b < 2 ^ 30) (h : a < b) : nI a - nI b < 0 := by
  rw [Int32.lt_iff_toInt_lt, pk_sub_toInt (by omega) hb, show (0 : Int32).toInt = 0 from by decide]
  omega
theorem pk_ix (x : Int32) {n : Nat} (hn : n < 2 ^ 31) : x < 0 ∨ nI n ≤ x ∨ ∃ j : Nat, j < n ∧ x = nI j := by
  by_cases h : x < 0
  · exact Or.inl h
  · obtain ⟨j, hj, rfl⟩ := nI_of h
    by_cases h2 : j < n
    · exact Or.inr (Or.inr ⟨j, h2, rfl⟩)
    · exact Or.inr (Or.inl (nI_le (by omega) hj))
theorem pk_le {x y : Int32} {A B : Prop} (a b : Nat) (f : a ≤ b → A) (g : b < a → B) (hx : x = nI a := by rfl) (hy : y = nI b := by rfl) (ha : a < 2 ^ 31 := by omega) (hb : b < 2 ^ 31 := by omega) : (x ≤ y → A) ∧ (¬ x ≤ y → B) := by
  subst hx hy
  rw [nI_leI ha hb]
  exact ⟨f, fun z => g (by omega)⟩
theorem pk_lt {x y : Int32} {A B : Prop} (a b : Nat) (f : a < b → A) (g : b ≤ a → B) (hx : x = nI a := by rfl) (hy : y = nI b := by rfl) (ha : a < 2 ^ 31 := by omega) (hb : b < 2 ^ 31 := by omega) : (x < y → A) ∧ (¬ x < y → B) := by
  subst hx hy
  rw [nI_ltI ha hb]
  exact ⟨f, fun z => g (by omega)⟩
theorem pk_eq {x y : Int32} {A B : Prop} (a b : Nat) (f : a = b → A) (g : a ≠ b → B) (hx : x = nI a := by rfl) (hy : y = nI b := by rfl) (ha : a < 2 ^ 31 := by omega) (hb : b < 2 ^ 31 := by omega) : (x = y → A) ∧ (¬ x = y → B) := by
  subst hx hy
  rw [nI_eq ha hb]
  exact ⟨f, g⟩
theorem pk_in {x : Int32} (n N : Nat) (h : n < N) (hx : x = nI n := by rfl) (hN : N < 2 ^ 31 := by omega) : vp_in x N := by
  subst hx
  exact vp_in_nI h hN
theorem pk_cl {x : Int32} (n : Nat) (hx : x = nI n := by rfl) (h : n < 2 ^ 31 := by omega) : x.toNatClampNeg = n := by
  subst hx
  exact nI_clamp h
end
section
/-! pure functions: arrays of naturals, sums, kinds, starts of regions -/
def ob_f (f : Nat → Nat) : Nat → Int32 := fun j => nI (f j)
def ob_u (f : Nat → Nat) (k x : Nat) : Nat → Nat := fun j => if j = k then x else f j
theorem ob_us {f : Nat → Nat} {k x : Nat} : ob_u f k x k = x := if_pos rfl
theorem ob_un {f : Nat → Nat} {k j x : Nat} (h : j ≠ k) : ob_u f k x j = f j := if_neg h
theorem ob_ux {f : Nat → Nat} {k : Nat} : ob_u f k (f k) = f := by
  funext j
  by_cases h : j = k
  · rw [h, ob_us]
  · rw [ob_un h]
theorem ob_r {f : Nat → Nat} {k : Nat} (h : k < 2 ^ 31) : ob_f f (nI k).toNatClampNeg = nI (f k) := by
  rw [nI_clamp h]; rfl
theorem ob_w {f : Nat → Nat} {k x : Nat} (h : k < 2 ^ 31) : upd (ob_f f) (nI k).toNatClampNeg (nI x) = ob_f (ob_u f k x) := by
  rw [nI_clamp h]
  funext j
  by_cases e : j = k
  · subst e
    show upd (ob_f f) j (nI x) j = nI (ob_u f j x j)
    rw [pk_us, ob_us]
  · show upd (ob_f f) k (nI x) j = nI (ob_u f k x j)
    rw [pk_un e, ob_un e]; rfl
theorem ob_f0 : (fun _ => 0 : Nat → Int32) = ob_f (fun _ => 0) := rfl

/-- the kind of a size -/
def ob_cls (n : Nat) : Nat := if n ≤ 1 then 0 else if n ≤ 2 then 1 else if n ≤ 4 then 2 else if n ≤ 8 then 3 else 4
theorem ob_cls5 (n : Nat) : ob_cls n < 5 := by
  unfold ob_cls
  repeat' split
  all_goals omega

/-- sums -/
def ob_sm (f : Nat → Nat) : Nat → Nat
  | 0 => 0
  | n + 1 => ob_sm f n + f n
theorem ob_sm0 (f : Nat → Nat) : ob_sm f 0 = 0 := rfl
theorem ob_sm1 (f : Nat → Nat) (n : Nat) : ob_sm f (n + 1) = ob_sm f n + f n := rfl
theorem ob_sm_le {f g : Nat → Nat} : ∀ {n : Nat}, (∀ i, i < n → f i ≤ g i) → ob_sm f n ≤ ob_sm g n := by
  intro n
  induction n with
  | zero => intro _; exact Nat.le_refl 0
  | succ n ih =>
    intro h
    have a := ih (fun i hi => h i (by omega))
    have b := h n (by omega)
    rw [ob_sm1, ob_sm1]; omega
theorem ob_sm_eq {f g : Nat → Nat} : ∀ {n : Nat}, (∀ i, i < n → f i = g i) → ob_sm f n = ob_sm g n := by
  intro n
  induction n with
  | zero => intro _; rfl
  | succ n ih =>
    intro h
    have a := ih (fun i hi => h i (by omega))
    have b := h n (by omega)
    rw [ob_sm1, ob_sm1]; omega
theorem ob_sm_z {f : Nat → Nat} : ∀ {n : Nat}, (∀ i, i < n → f i = 0) → ob_sm f n = 0 := by
  intro n
  induction n with
  | zero => intro _; rfl
  | succ n ih =>
    intro h
    have a := ih (fun i hi => h i (by omega))
    have b := h n (by omega)
    rw [ob_sm1]; omega
theorem ob_sm_add (f g : Nat → Nat) : ∀ n : Nat, ob_sm (fun i => f i + g i) n = ob_sm f n + ob_sm g n := by
  intro n
  induction n with
  | zero => rfl
  | succ n ih => rw [ob_sm1, ob_sm1, ob_sm1, ih]; omega
theorem ob_sm_mono (f : Nat → Nat) {m n : Nat} (h : m ≤ n) : ob_sm f m ≤ ob_sm f n := by
  induction n with
  | zero => have e : m = 0 := by omega
            rw [e]; exact Nat.le_refl _
  | succ n ih =>
    by_cases e : m = n + 1
    · rw [e]; exact Nat.le_refl _
    · have := ih (by omega)
      rw [ob_sm1]; omega
theorem ob_sm_tail {f : Nat → Nat} {m n : Nat} (h : m ≤ n) (hz : ∀ i, m ≤ i → i < n → f i = 0) : ob_sm f n = ob_sm f m := by
  induction n with
  | zero => have e : m = 0 := by omega
            rw [e]
  | succ n ih =>
    by_cases e : m = n + 1
    · rw [e]
    · have a := ih (by omega) (fun i hi hn => hz i hi (by omega))
      have b := hz n (by omega) (by omega)
      rw [ob_sm1]; omega
/-- one place changed -/
theorem ob_sm_at {f g : Nat → Nat} {h : Nat} : ∀ {n : Nat}, h < n → (∀ i, i < n → i ≠ h → g i = f i) → ob_sm g n + f h = ob_sm f n + g h := by
  intro n
  induction n with
  | zero => intro hh _; exact absurd hh (by omega)
  | succ n ih =>
    intro hh hs
    rw [ob_sm1, ob_sm1]
    by_cases e : h = n
    · have a : ob_sm g n = ob_sm f n := ob_sm_eq (fun i hi => hs i (by omega) (by omega))
      subst e
      omega
    · have a := ih (by omega) (fun i hi hne => hs i (by omega) hne)
      have b := hs n (by omega) (by omega)
      omega
theorem ob_sm_one {f : Nat → Nat} {h n : Nat} (hh : h < n) : f h ≤ ob_sm f n := by
  have a := ob_sm_mono f (m := h + 1) (n := n) (by omega)
  rw [ob_sm1] at a
  omega
theorem ob_sm_swap (f : Nat → Nat → Nat) (m : Nat) : ∀ n : Nat, ob_sm (fun i => ob_sm (f i) m) n = ob_sm (fun j => ob_sm (fun i => f i j) n) m := by
  intro n
  induction n with
  | zero => exact (ob_sm_z (fun i _ => rfl)).symm
  | succ n ih =>
    rw [ob_sm1, ih]
    have e : (fun j => ob_sm (fun i => f i j) (n + 1)) = (fun j => ob_sm (fun i => f i j) n + f n j) := rfl
    rw [e, ob_sm_add]
theorem ob_sm_cnt {f : Nat → Nat} : ∀ {n : Nat}, (∀ i, i < n → f i ≤ 1) → ob_sm f n ≤ n := by
  intro n
  induction n with
  | zero => intro _; exact Nat.le_refl 0
  | succ n ih =>
    intro h
    have a := ih (fun i hi => h i (by omega))
    have b := h n (by omega)
    rw [ob_sm1]; omega
/-- at most one kind of five takes it -/
theorem ob_pick (c s : Nat) (p : Nat → Prop) [DecidablePred p] : ∀ n : Nat, (c < n → ob_sm (fun k => if c = k ∧ p k then s else 0) n ≤ s) ∧ (n ≤ c → ob_sm (fun k => if c = k ∧ p k then s else 0) n = 0) := by
  intro n
  induction n with
  | zero => exact ⟨fun z => absurd z (by omega), fun _ => rfl⟩
  | succ n ih =>
    rw [ob_sm1]
    constructor
    · intro hc
      by_cases e : c = n
      · have a := ih.2 (by omega)
        rw [a]
        by_cases q : c = n ∧ p n
        · rw [if_pos q]; omega
        · rw [if_neg q]; omega
      · have a := ih.1 (by omega)
        rw [if_neg (fun z => e z.1)]; omega
    · intro hc
      have a := ih.2 (by omega)
      rw [a, if_neg (fun z => absurd z.1 (by omega))]
/-- sum of f from a on, d places -/
def ob_rs (f : Nat → Nat) : Nat → Nat → Nat
  | _, 0 => 0
  | a, d + 1 => f a + ob_rs f (a + 1) d

/-- the length of buffer k -/
def ob_b (P : Nat → Nat) (D k : Nat) : Nat := P k / D
theorem ob_dv {P : Nat → Nat} {D k : Nat} (h : P k < 2 ^ 31) (hD : 2 ≤ D) (hD4 : D ≤ 4) : nI (P k) / nI D = nI (ob_b P D k) := pk_div h (by omega) (by omega)
/-- the start of region k -/
def ob_st (P : Nat → Nat) (D : Nat) : Nat → Nat
  | 0 => 0
  | k + 1 => ob_st P D k + (P k + ob_b P D k)
theorem ob_st1 (P : Nat → Nat) (D k : Nat) : ob_st P D (k + 1) = ob_st P D k + (P k + ob_b P D k) := rfl
theorem ob_st_mono (P : Nat → Nat) (D : Nat) {m n : Nat} (h : m ≤ n) : ob_st P D m ≤ ob_st P D n := by
  induction n with
  | zero => have e : m = 0 := by omega
            rw [e]; exact Nat.le_refl _
  | succ n ih =>
    by_cases e : m = n + 1
    · rw [e]; exact Nat.le_refl _
    · have := ih (by omega)
      rw [ob_st1]; omega
theorem ob_st_eq {P P' : Nat → Nat} {D : Nat} : ∀ {n : Nat}, (∀ i, i < n → P' i = P i) → ob_st P' D n = ob_st P D n := by
  intro n
  induction n with
  | zero => intro _; rfl
  | succ n ih =>
    intro h
    have a := ih (fun i hi => h i (by omega))
    have b := h n (by omega)
    rw [ob_st1, ob_st1, a, b]
    show _ + (_ + P' n / D) = _ + (_ + P n / D)
    rw [b]
theorem ob_st_sm (P : Nat → Nat) (D : Nat) : ∀ n : Nat, ob_st P D n = ob_sm P n + ob_sm (ob_b P D) n := by
  intro n
  induction n with
  | zero => rfl
  | succ n ih => rw [ob_st1, ob_sm1, ob_sm1, ih]; omega
theorem ob_st_in (P : Nat → Nat) (D : Nat) {k n : Nat} (h : k < n) : ob_st P D k + P k + ob_b P D k ≤ ob_st P D n := by
  have a := ob_st_mono P D (m := k + 1) (n := n) (by omega)
  rw [ob_st1] at a
  omega

/-- a stretch of an array filled -/
def ob_fl (f : Nat → Nat) (t n x : Nat) : Nat → Nat := fun a => if t ≤ a ∧ a < t + n then x else f a
def ob_wr (f : Nat → Int32) (t n : Nat) (g : Nat → Int32) : Nat → Int32 := fun a => if t ≤ a ∧ a < t + n then g (a - t) else f a
theorem ob_fl_i {f : Nat → Nat} {t n x a : Nat} (h1 : t ≤ a) (h2 : a < t + n) : ob_fl f t n x a = x := if_pos ⟨h1, h2⟩
theorem ob_fl_o {f : Nat → Nat} {t n x a : Nat} (h : a < t ∨ t + n ≤ a) : ob_fl f t n x a = f a := if_neg (fun z => by omega)
theorem ob_wr_i {f : Nat → Int32} {t n a : Nat} {g : Nat → Int32} (h1 : t ≤ a) (h2 : a < t + n) : ob_wr f t n g a = g (a - t) := if_pos ⟨h1, h2⟩
theorem ob_wr_o {f : Nat → Int32} {t n a : Nat} {g : Nat → Int32} (h : a < t ∨ t + n ≤ a) : ob_wr f t n g a = f a := if_neg (fun z => by omega)
theorem ob_fl0 {f : Nat → Nat} {t x : Nat} : ob_fl f t 0 x = f := by
  funext a; exact ob_fl_o (by omega)
theorem ob_wr0 {f : Nat → Int32} {t : Nat} {g : Nat → Int32} : ob_wr f t 0 g = f := by
  funext a; exact ob_wr_o (by omega)
theorem ob_fl1 {f : Nat → Nat} {t n x : Nat} : ob_u (ob_fl f t n x) (t + n) x = ob_fl f t (n + 1) x := by
  funext a
  by_cases e : a = t + n
  · subst e; rw [ob_us, ob_fl_i (by omega) (by omega)]
  · rw [ob_un e]
    by_cases h : t ≤ a ∧ a < t + n
    · rw [ob_fl_i h.1 h.2, ob_fl_i h.1 (by omega)]
    · rw [ob_fl_o (by omega), ob_fl_o (by omega)]
theorem ob_wr1 {f : Nat → Int32} {t n : Nat} {g : Nat → Int32} : upd (ob_wr f t n g) (t + n) (g n) = ob_wr f t (n + 1) g := by
  funext a
  by_cases e : a = t + n
  · subst e; rw [pk_us, ob_wr_i (by omega) (by omega), show t + n - t = n by omega]
  · rw [pk_un e]
    by_cases h : t ≤ a ∧ a < t + n
    · rw [ob_wr_i h.1 h.2, ob_wr_i h.1 (by omega)]
    · rw [ob_wr_o (by omega), ob_wr_o (by omega)]
end
section
/-! the layout: payloads, buffers, items, objects; its bound; what put, free and flush do to it -/
/-- volume of kind k that lies in the payload of region k -/
def ob_A (H D : Nat) (P sz pl : Nat → Nat) (k : Nat) : Nat :=
  ob_sm (fun h => if ob_cls (sz h) = k ∧ pl h < ob_st P D k + P k then sz h else 0) H
/-- where object h lies -/
def ob_loc (B D : Nat) (P U M sz pl : Nat → Nat) (h : Nat) : Prop :=
  (ob_st P D (ob_cls (sz h)) ≤ pl h ∧ pl h + sz h ≤ ob_st P D (ob_cls (sz h)) + P (ob_cls (sz h))) ∨
  ∃ k, ob_cls (sz h) ≤ k ∧ k < B ∧ M k ≤ ob_cls (sz h) ∧ ob_st P D k + P k ≤ pl h ∧ pl h + sz h ≤ ob_st P D k + P k + U k
/-- some word of a stretch holds x -/
def ob_wit (it : Nat → Nat) (f u x : Nat) : Prop := ∃ a, f ≤ a ∧ a < f + u ∧ it a = x
/-- buffer j and its items -/
def ob_buf (D : Nat) (P U M it : Nat → Nat) (j : Nat) : Prop :=
  U j ≤ ob_b P D j ∧ M j ≤ 5 ∧
  (∀ a, ob_st P D j + P j ≤ a → a < ob_st P D j + P j + U j → M j + 1 ≤ it a ∧ it a ≤ 5) ∧
  (∀ a, ob_st P D j + P j + U j ≤ a → a < ob_st P D j + P j + ob_b P D j → it a = 0) ∧
  (U j = 0 → M j = 5) ∧
  (0 < U j → ob_wit it (ob_st P D j + P j) (U j) (M j + 1))
/-- numbers: holes are paid for by items (g j k: volume of kind k's markers in buffer j) -/
def ob_N (B H D : Nat) (P U M sz pl : Nat → Nat) (g : Nat → Nat → Nat) : Prop :=
  (∀ k, k < B → P k ≤ ob_A H D P sz pl k + ob_sm (fun j => g j k) B) ∧
  (∀ j, j < B → ob_sm (g j) B ≤ U j) ∧
  (∀ j k, j < B → k < M j → g j k = 0) ∧
  (∀ j, j < B → U j ≤ ob_b P D j)
/-- the layout of regions and kinds below B -/
def ob_L (B H D : Nat) (P U M it sz pl : Nat → Nat) (g : Nat → Nat → Nat) : Prop :=
  ob_N B H D P U M sz pl g ∧
  (∀ j, j < B → ob_buf D P U M it j) ∧
  (∀ h, h < H → 0 < sz h → ob_cls (sz h) < B → ob_loc B D P U M sz pl h) ∧
  (∀ h h', h < H → h' < H → h ≠ h' → 0 < sz h → 0 < sz h' → ob_cls (sz h) < B → ob_cls (sz h') < B → pl h + sz h ≤ pl h' ∨ pl h' + sz h' ≤ pl h)

theorem ob_A_sum (H D : Nat) (P sz pl : Nat → Nat) : ob_sm (ob_A H D P sz pl) 5 ≤ ob_sm sz H := by
  have e := ob_sm_swap (fun k h => if ob_cls (sz h) = k ∧ pl h < ob_st P D k + P k then sz h else 0) H 5
  have e2 : ob_sm (ob_A H D P sz pl) 5 = ob_sm (fun k => ob_sm ((fun k h => if ob_cls (sz h) = k ∧ pl h < ob_st P D k + P k then sz h else 0) k) H) 5 := rfl
  rw [e2, e]
  exact ob_sm_le (fun h _ => (ob_pick (ob_cls (sz h)) (sz h) (fun k => pl h < ob_st P D k + P k) 5).1 (ob_cls5 _))
/-- the counting bound -/
theorem ob_bound {H D : Nat} {P U M sz pl : Nat → Nat} {g : Nat → Nat → Nat} (hD : 2 ≤ D) (hN : ob_N 5 H D P U M sz pl g) (hV : ob_sm sz H ≤ 64) : ob_st P D 5 ≤ 192 := by
  obtain ⟨h1, h2, _, h4⟩ := hN
  have a1 := ob_sm_le (f := P) (g := fun k => ob_A H D P sz pl k + ob_sm (fun j => g j k) 5) (n := 5) h1
  rw [ob_sm_add] at a1
  have a2 := ob_A_sum H D P sz pl
  have a3 := ob_sm_swap g 5 5
  have a4 := ob_sm_le (f := fun i => ob_sm (g i) 5) (g := U) (n := 5) h2
  have a5 := ob_sm_le (f := U) (g := ob_b P D) (n := 5) h4
  have a6 : ob_sm (fun j => ob_b P D j + ob_b P D j) 5 ≤ ob_sm P 5 := ob_sm_le (fun i _ => by
    have q : ob_b P D i * 2 ≤ ob_b P D i * D := Nat.mul_le_mul_left _ hD
    have r : ob_b P D i * D ≤ P i := Nat.div_mul_le_self (P i) D
    show ob_b P D i + ob_b P D i ≤ P i
    omega)
  rw [ob_sm_add] at a6
  rw [ob_st_sm]
  have a2' : ob_sm (fun k => ob_A H D P sz pl k) 5 ≤ ob_sm sz H := a2
  omega
theorem ob_locend {H D : Nat} {P U M it sz pl : Nat → Nat} {g : Nat → Nat → Nat} (hL : ob_L 5 H D P U M it sz pl g) {h : Nat} (hh : h < H) (hz : 0 < sz h) : pl h + sz h ≤ ob_st P D 5 := by
  have c5 := ob_cls5 (sz h)
  rcases hL.2.2.1 h hh hz c5 with l | ⟨k, _, hk, _, _, l⟩
  · have a := ob_st_in P D (k := ob_cls (sz h)) (n := 5) c5
    omega
  · have a := ob_st_in P D (k := k) (n := 5) hk
    have u := hL.1.2.2.2 k hk
    omega
/-- below the boundary all lies below its region's start -/
theorem ob_locB {B H D : Nat} {P U M it sz pl : Nat → Nat} {g : Nat → Nat → Nat} (hL : ob_L B H D P U M it sz pl g) {h : Nat} (hh : h < H) (hz : 0 < sz h) (hc : ob_cls (sz h) < B) : pl h + sz h ≤ ob_st P D B := by
  rcases hL.2.2.1 h hh hz hc with l | ⟨k, _, hk, _, _, l⟩
  · have a := ob_st_in P D (k := ob_cls (sz h)) (n := B) hc
    omega
  · have a := ob_st_in P D (k := k) (n := B) hk
    have u := hL.1.2.2.2 k hk
    omega
/-- what stays below the boundary when one object of a kind at or above it comes or goes -/
theorem ob_cut {B H D h n : Nat} {P U M it sz pl : Nat → Nat} {g : Nat → Nat → Nat} (hL : ob_L 5 H D P U M it sz pl g) (hB : B ≤ 5)
    (hb : ∀ k, B ≤ k → k < 5 → B ≤ M k) (h1 : sz h = 0 ∨ B ≤ ob_cls (sz h)) (h2 : n = 0 ∨ B ≤ ob_cls n) : ob_L B H D P U M it (ob_u sz h n) pl g := by
  obtain ⟨⟨n1, n2, n3, n4⟩, hbuf, hloc, hdis⟩ := hL
  refine ⟨⟨fun k hk => ?_, fun j hj => ?_, fun j k hj hk => n3 j k (by omega) hk, fun j hj => n4 j (by omega)⟩, fun j hj => hbuf j (by omega), fun i hi hz hc => ?_, fun i i' hi hi' hne hz hz' hc hc' => ?_⟩
  · have a := n1 k (by omega)
    have e : ob_sm (fun j => g j k) 5 = ob_sm (fun j => g j k) B := ob_sm_tail hB (fun i hi hi5 => n3 i k hi5 (by have := hb i hi hi5; omega))
    have e2 : ob_A H D P (ob_u sz h n) pl k = ob_A H D P sz pl k := by
      unfold ob_A
      refine ob_sm_eq (fun i _ => ?_)
      by_cases q : i = h
      · subst q
        rw [ob_us]
        have z1 : (if ob_cls n = k ∧ pl i < ob_st P D k + P k then n else 0) = 0 := by
          rcases h2 with z | z
          · rw [z]; split <;> rfl
          · exact if_neg (fun w => by have := w.1; omega)
        have z2 : (if ob_cls (sz i) = k ∧ pl i < ob_st P D k + P k then sz i else 0) = 0 := by
          rcases h1 with z | z
          · rw [z]; split <;> rfl
          · exact if_neg (fun w => by have := w.1; omega)
        rw [z1, z2]
      · rw [ob_un q]
    rw [e2]; omega
  · have a := n2 j (by omega)
    have e := ob_sm_mono (g j) hB
    omega
  · have q : i ≠ h := by
      intro q
      rw [q, ob_us] at hz hc
      rcases h2 with z | z <;> omega
    rw [ob_un q] at hz hc
    have l := hloc i hi hz (by omega)
    unfold ob_loc at l ⊢
    rw [ob_un q]
    rcases l with l | ⟨k, l1, l2, l3, l4⟩
    · exact Or.inl l
    · refine Or.inr ⟨k, l1, ?_, l3, l4⟩
      by_cases w : k < B
      · exact w
      · have := hb k (by omega) l2
        omega
  · have q : ∀ i, 0 < ob_u sz h n i → ob_cls (ob_u sz h n i) < B → i ≠ h := by
      intro i hz hc q
      rw [q, ob_us] at hz hc
      rcases h2 with z | z <;> omega
    have q1 := q i hz hc
    have q2 := q i' hz' hc'
    rw [ob_un q1] at hz hc
    rw [ob_un q2] at hz' hc'
    rw [ob_un q1, ob_un q2]
    exact hdis i i' hi hi' hne hz hz' (by omega) (by omega)
end
section
/-! the pure flush -/
def ob_vs (sz : Nat → Nat) (k n : Nat) : Nat := ob_sm (fun h => if ob_cls (sz h) = k then sz h else 0) n
/-- payloads after regions B .. k-1 were set anew -/
def ob_PP (B H k : Nat) (P sz : Nat → Nat) : Nat → Nat := fun j => if B ≤ j ∧ j < k then ob_vs sz j H else P j
def ob_rs2 (B k x : Nat) (f : Nat → Nat) : Nat → Nat := fun j => if B ≤ j ∧ j < k then x else f j
/-- the new address of object h -/
def ob_nl (B H D : Nat) (P sz : Nat → Nat) (h : Nat) : Nat := ob_st (ob_PP B H 5 P sz) D (ob_cls (sz h)) + ob_vs sz (ob_cls (sz h)) h
/-- the objects met when kinds B .. k-1 and, of kind k, handles below h are done -/
def ob_met (B H : Nat) (sz : Nat → Nat) (k h i : Nat) : Prop := i < H ∧ 0 < sz i ∧ B ≤ ob_cls (sz i) ∧ (ob_cls (sz i) < k ∨ (ob_cls (sz i) = k ∧ i < h))
def ob_pt (B H D : Nat) (P sz f : Nat → Nat) (k h : Nat) : Nat → Nat := fun i =>
  if i < H ∧ 0 < sz i ∧ B ≤ ob_cls (sz i) ∧ (ob_cls (sz i) < k ∨ (ob_cls (sz i) = k ∧ i < h)) then ob_nl B H D P sz i else f i
/-- how many objects are met -/
def ob_ct (B H : Nat) (sz : Nat → Nat) (k h : Nat) : Nat := ob_sm (fun i =>
  if i < H ∧ 0 < sz i ∧ B ≤ ob_cls (sz i) ∧ (ob_cls (sz i) < k ∨ (ob_cls (sz i) = k ∧ i < h)) then 1 else 0) 16
/-- the volume moved by kinds B .. k-1 -/
def ob_mv (B H : Nat) (sz : Nat → Nat) (k : Nat) : Nat := ob_sm (fun j => if B ≤ j then ob_vs sz j H else 0) k
theorem ob_pt_y {B H D : Nat} {P sz f : Nat → Nat} {k h i : Nat} (m : ob_met B H sz k h i) : ob_pt B H D P sz f k h i = ob_nl B H D P sz i := by
  unfold ob_pt; exact if_pos m
theorem ob_pt_n {B H D : Nat} {P sz f : Nat → Nat} {k h i : Nat} (m : ¬ ob_met B H sz k h i) : ob_pt B H D P sz f k h i = f i := by
  unfold ob_pt; exact if_neg m
theorem ob_PP_n {B H k j : Nat} {P sz : Nat → Nat} (h : j < B ∨ k ≤ j) : ob_PP B H k P sz j = P j := if_neg (fun z => by omega)
theorem ob_PP_y {B H k j : Nat} {P sz : Nat → Nat} (h1 : B ≤ j) (h2 : j < k) : ob_PP B H k P sz j = ob_vs sz j H := if_pos ⟨h1, h2⟩
theorem ob_bb_n {B H k j D : Nat} {P sz : Nat → Nat} (h : j < B ∨ k ≤ j) : ob_b (ob_PP B H k P sz) D j = ob_b P D j := by
  unfold ob_b
  rw [ob_PP_n h]
theorem ob_rs2_n {B k j x : Nat} {f : Nat → Nat} (h : j < B ∨ k ≤ j) : ob_rs2 B k x f j = f j := if_neg (fun z => by omega)
theorem ob_rs2_y {B k j x : Nat} {f : Nat → Nat} (h1 : B ≤ j) (h2 : j < k) : ob_rs2 B k x f j = x := if_pos ⟨h1, h2⟩
theorem ob_vs_s {sz : Nat → Nat} {h n : Nat} (hh : h < n) : ob_vs sz (ob_cls (sz h)) h + sz h ≤ ob_vs sz (ob_cls (sz h)) n := by
  have a := ob_sm_mono (fun i => if ob_cls (sz i) = ob_cls (sz h) then sz i else 0) (m := h + 1) (n := n) (by omega)
  rw [ob_sm1, if_pos rfl] at a
  exact a
theorem ob_vs_le {sz : Nat → Nat} {k n H : Nat} (h : n ≤ H) : ob_vs sz k n ≤ ob_sm sz H := by
  have a : ob_vs sz k n ≤ ob_sm sz n := ob_sm_le (fun i _ => by
    show (if ob_cls (sz i) = k then sz i else 0) ≤ sz i
    split <;> omega)
  have b := ob_sm_mono sz h
  omega
theorem ob_stB {B H D k m : Nat} {P sz : Nat → Nat} (h : m ≤ B) : ob_st (ob_PP B H k P sz) D m = ob_st P D m :=
  ob_st_eq (fun i hi => ob_PP_n (Or.inl (by omega)))

theorem ob_flushN {B H D : Nat} {P U M sz pl : Nat → Nat} {g : Nat → Nat → Nat} (hN : ob_N B H D P U M sz pl g) (hB : B ≤ 5) :
    ob_N 5 H D (ob_PP B H 5 P sz) (ob_rs2 B 5 0 U) (ob_rs2 B 5 5 M) sz (ob_pt B H D P sz pl 5 0) (fun j k => if j < B ∧ k < B then g j k else 0) := by
  obtain ⟨n1, n2, n3, n4⟩ := hN
  refine ⟨fun k hk => ?_, fun j hj => ?_, fun j k hj hk => ?_, fun j hj => ?_⟩
  · by_cases hkB : k < B
    · have a := n1 k hkB
      rw [ob_PP_n (Or.inl hkB)]
      have e1 : ob_A H D (ob_PP B H 5 P sz) sz (ob_pt B H D P sz pl 5 0) k = ob_A H D P sz pl k := by
        unfold ob_A
        rw [ob_stB (by omega), ob_PP_n (Or.inl hkB)]
        refine ob_sm_eq (fun i _ => ?_)
        by_cases q : ob_cls (sz i) = k
        · rw [ob_pt_n (fun m => by have := m.2.2.1; omega)]
        · rw [if_neg (fun z => q z.1), if_neg (fun z => q z.1)]
      have e2 : ob_sm (fun j => g j k) B ≤ ob_sm (fun j => if j < B ∧ k < B then g j k else 0) 5 := by
        have e3 : ob_sm (fun j => g j k) B = ob_sm (fun j => if j < B ∧ k < B then g j k else 0) B := ob_sm_eq (fun i hi => (if_pos ⟨hi, hkB⟩).symm)
        rw [e3]
        exact ob_sm_mono _ hB
      rw [e1]
      show P k ≤ ob_A H D P sz pl k + ob_sm (fun j => if j < B ∧ k < B then g j k else 0) 5
      omega
    · rw [ob_PP_y (by omega) hk]
      have e : ob_vs sz k H ≤ ob_A H D (ob_PP B H 5 P sz) sz (ob_pt B H D P sz pl 5 0) k := by
        refine ob_sm_le (fun i hi => ?_)
        by_cases q : ob_cls (sz i) = k
        · by_cases z : 0 < sz i
          · have m : ob_met B H sz 5 0 i := ⟨hi, z, by omega, Or.inl (by omega)⟩
            have w : ob_cls (sz i) = k ∧ ob_pt B H D P sz pl 5 0 i < ob_st (ob_PP B H 5 P sz) D k + ob_PP B H 5 P sz k := by
              refine ⟨q, ?_⟩
              rw [ob_pt_y m, ob_PP_y (by omega) hk]
              unfold ob_nl
              rw [q]
              have v := ob_vs_s (sz := sz) (h := i) (n := H) hi
              rw [q] at v
              omega
            show (if ob_cls (sz i) = k then sz i else 0) ≤ (if _ then sz i else 0)
            rw [if_pos q, if_pos w]
            exact Nat.le_refl _
          · have z0 : sz i = 0 := by omega
            show (if ob_cls (sz i) = k then sz i else 0) ≤ _
            rw [if_pos q, z0]
            exact Nat.zero_le _
        · show (if ob_cls (sz i) = k then sz i else 0) ≤ _
          rw [if_neg q]
          exact Nat.zero_le _
      omega
  · by_cases hjB : j < B
    · rw [ob_rs2_n (Or.inl hjB)]
      have a := n2 j hjB
      have e : ob_sm (fun k => if j < B ∧ k < B then g j k else 0) 5 = ob_sm (g j) B := by
        rw [ob_sm_tail hB (fun i hi _ => if_neg (fun z => by omega))]
        exact ob_sm_eq (fun i hi => if_pos ⟨hjB, hi⟩)
      show ob_sm (fun k => if j < B ∧ k < B then g j k else 0) 5 ≤ U j
      omega
    · have e : ob_sm (fun k => if j < B ∧ k < B then g j k else 0) 5 = 0 := ob_sm_z (fun i _ => if_neg (fun z => hjB z.1))
      show ob_sm (fun k => if j < B ∧ k < B then g j k else 0) 5 ≤ _
      omega
  · by_cases q : j < B ∧ k < B
    · rw [ob_rs2_n (Or.inl q.1)] at hk
      show (if j < B ∧ k < B then g j k else 0) = 0
      rw [if_pos q]
      exact n3 j k q.1 hk
    · exact if_neg q
  · by_cases hjB : j < B
    · rw [ob_rs2_n (Or.inl hjB), ob_bb_n (Or.inl hjB)]
      exact n4 j hjB
    · rw [ob_rs2_y (by omega) hj]
      exact Nat.zero_le _

theorem ob_nl_in {B H D h : Nat} {P sz : Nat → Nat} (hh : h < H) (hc : B ≤ ob_cls (sz h)) : ob_st (ob_PP B H 5 P sz) D (ob_cls (sz h)) ≤ ob_nl B H D P sz h ∧ ob_nl B H D P sz h + sz h ≤ ob_st (ob_PP B H 5 P sz) D (ob_cls (sz h)) + ob_PP B H 5 P sz (ob_cls (sz h)) := by
  rw [ob_PP_y hc (ob_cls5 _)]
  have v := ob_vs_s (sz := sz) (h := h) (n := H) hh
  unfold ob_nl
  omega

theorem ob_flushL {B H D : Nat} {P U M it sz pl : Nat → Nat} {g : Nat → Nat → Nat} (hL : ob_L B H D P U M it sz pl g) (hB : B ≤ 5) (h192 : ob_st (ob_PP B H 5 P sz) D 5 ≤ 192) :
    ob_L 5 H D (ob_PP B H 5 P sz) (ob_rs2 B 5 0 U) (ob_rs2 B 5 5 M) (ob_fl it (ob_st P D B) (256 - ob_st P D B) 0) sz (ob_pt B H D P sz pl 5 0) (fun j k => if j < B ∧ k < B then g j k else 0) := by
  have hN := ob_flushN hL.1 hB
  have hB2 : ob_st (ob_PP B H 5 P sz) D B = ob_st P D B := ob_stB (Nat.le_refl B)
  have hBle : ob_st P D B ≤ 192 := by
    have a := ob_st_mono (ob_PP B H 5 P sz) D hB
    omega
  refine ⟨hN, fun j hj => ?_, fun h hh hz hc => ?_, fun h h' hh hh' hne hz hz' hc hc' => ?_⟩
  · by_cases hjB : j < B
    · have b := hL.2.1 j hjB
      have r := ob_st_in P D hjB
      unfold ob_buf at b ⊢
      rw [ob_stB (by omega), ob_PP_n (Or.inl hjB), ob_bb_n (Or.inl hjB), ob_rs2_n (Or.inl hjB), ob_rs2_n (Or.inl hjB)]
      obtain ⟨b1, b2, b3, b4, b5, b6⟩ := b
      refine ⟨b1, b2, fun a ha hb => ?_, fun a ha hb => ?_, b5, fun hu => ?_⟩
      · rw [ob_fl_o (by omega)]; exact b3 a ha hb
      · rw [ob_fl_o (by omega)]; exact b4 a ha hb
      · obtain ⟨a, a1, a2, a3⟩ := b6 hu
        exact Exists.intro a ⟨a1, a2, by rw [ob_fl_o (by omega)]; exact a3⟩
    · have r := ob_st_in (ob_PP B H 5 P sz) D (k := j) (n := 5) hj
      have r2 := ob_st_mono (ob_PP B H 5 P sz) D (m := B) (n := j) (by omega)
      unfold ob_buf
      rw [ob_rs2_y (by omega) hj, ob_rs2_y (by omega) hj]
      exact ⟨Nat.zero_le _, Nat.le_refl _, fun a ha hb => absurd hb (by omega), fun a ha hb => ob_fl_i (by omega) (by omega), fun _ => rfl, fun z => absurd z (by omega)⟩
  · by_cases hcB : ob_cls (sz h) < B
    · have l := hL.2.2.1 h hh hz hcB
      unfold ob_loc at l ⊢
      rw [ob_pt_n (fun m => by have := m.2.2.1; omega)]
      rcases l with l | ⟨k, l1, l2, l3, l4⟩
      · refine Or.inl ?_
        rw [ob_stB (by omega), ob_PP_n (Or.inl hcB)]
        exact l
      · refine Or.inr ⟨k, l1, by omega, ?_⟩
        rw [ob_stB (by omega), ob_PP_n (Or.inl l2), ob_rs2_n (Or.inl l2), ob_rs2_n (Or.inl l2)]
        exact ⟨l3, l4⟩
    · refine Or.inl ?_
      rw [ob_pt_y ⟨hh, hz, by omega, Or.inl hc⟩]
      exact ob_nl_in hh (by omega)
  · by_cases c1 : ob_cls (sz h) < B
    · rw [ob_pt_n (i := h) (fun m => by have := m.2.2.1; omega)]
      by_cases c2 : ob_cls (sz h') < B
      · rw [ob_pt_n (i := h') (fun m => by have := m.2.2.1; omega)]
        exact hL.2.2.2 h h' hh hh' hne hz hz' c1 c2
      · rw [ob_pt_y (i := h') ⟨hh', hz', by omega, Or.inl hc'⟩]
        have a := ob_locB hL hh hz c1
        have b := ob_nl_in (B := B) (D := D) (P := P) (sz := sz) hh' (by omega)
        have c := ob_st_mono (ob_PP B H 5 P sz) D (m := B) (n := ob_cls (sz h')) (by omega)
        omega
    · rw [ob_pt_y (i := h) ⟨hh, hz, by omega, Or.inl hc⟩]
      have b1 := ob_nl_in (B := B) (D := D) (P := P) (sz := sz) hh (by omega)
      by_cases c2 : ob_cls (sz h') < B
      · rw [ob_pt_n (i := h') (fun m => by have := m.2.2.1; omega)]
        have a := ob_locB hL hh' hz' c2
        have c := ob_st_mono (ob_PP B H 5 P sz) D (m := B) (n := ob_cls (sz h)) (by omega)
        omega
      · rw [ob_pt_y (i := h') ⟨hh', hz', by omega, Or.inl hc'⟩]
        have b2 := ob_nl_in (B := B) (D := D) (P := P) (sz := sz) hh' (by omega)
        have i1 := ob_st_in (ob_PP B H 5 P sz) D (k := ob_cls (sz h)) (n := ob_cls (sz h) + 1) (by omega)
        have i2 := ob_st_in (ob_PP B H 5 P sz) D (k := ob_cls (sz h')) (n := ob_cls (sz h') + 1) (by omega)
        rcases Nat.lt_trichotomy (ob_cls (sz h)) (ob_cls (sz h')) with t | t | t
        · have c := ob_st_mono (ob_PP B H 5 P sz) D (m := ob_cls (sz h) + 1) (n := ob_cls (sz h')) (by omega)
          omega
        · rcases Nat.lt_or_ge h h' with w | w
          · have v := ob_vs_s (sz := sz) (h := h) (n := h') w
            unfold ob_nl
            rw [t] at v ⊢
            omega
          · have v := ob_vs_s (sz := sz) (h := h') (n := h) (by omega)
            unfold ob_nl
            rw [← t] at v ⊢
            omega
        · have c := ob_st_mono (ob_PP B H 5 P sz) D (m := ob_cls (sz h') + 1) (n := ob_cls (sz h)) (by omega)
          omega

/-! single steps of the flush's loops -/
theorem ob_met_s {B H k h i : Nat} {sz : Nat → Nat} : ob_met B H sz k (h + 1) i ↔ (ob_met B H sz k h i ∨ (i = h ∧ h < H ∧ 0 < sz h ∧ B ≤ k ∧ ob_cls (sz h) = k)) := by
  unfold ob_met
  constructor
  · rintro ⟨a, b, c, d⟩
    by_cases e : i = h
    · subst e
      rcases d with d | d
      · exact Or.inl ⟨a, b, c, Or.inl d⟩
      · exact Or.inr ⟨rfl, a, b, by omega, d.1⟩
    · exact Or.inl ⟨a, b, c, by omega⟩
  · rintro (⟨a, b, c, d⟩ | ⟨e, a, b, c, d⟩)
    · exact ⟨a, b, c, by omega⟩
    · subst e
      exact ⟨a, b, by omega, Or.inr ⟨d, by omega⟩⟩
theorem ob_met_n {B H k i : Nat} {sz : Nat → Nat} : ob_met B H sz k H i ↔ ob_met B H sz (k + 1) 0 i := by
  unfold ob_met
  constructor
  · rintro ⟨a, b, c, d⟩
    exact ⟨a, b, c, by omega⟩
  · rintro ⟨a, b, c, d⟩
    exact ⟨a, b, c, by omega⟩
theorem ob_met_0 {B H i : Nat} {sz : Nat → Nat} : ¬ ob_met B H sz B 0 i := by
  rintro ⟨a, b, c, d⟩
  omega
theorem ob_pt_c {B H D k h k' h' : Nat} {P sz f : Nat → Nat} (e : ∀ i, ob_met B H sz k h i ↔ ob_met B H sz k' h' i) : ob_pt B H D P sz f k h = ob_pt B H D P sz f k' h' := by
  funext i
  by_cases m : ob_met B H sz k h i
  · rw [ob_pt_y m, ob_pt_y ((e i).mp m)]
  · rw [ob_pt_n m, ob_pt_n (fun z => m ((e i).mpr z))]
theorem ob_pt_0 {B H D : Nat} {P sz f : Nat → Nat} : ob_pt B H D P sz f B 0 = f := by
  funext i
  exact ob_pt_n ob_met_0
theorem ob_pt_s {B H D k h : Nat} {P sz f : Nat → Nat} (hh : h < H) (hz : 0 < sz h) (hB : B ≤ k) (hc : ob_cls (sz h) = k) : ob_u (ob_pt B H D P sz f k h) h (ob_nl B H D P sz h) = ob_pt B H D P sz f k (h + 1) := by
  funext i
  by_cases e : i = h
  · subst e
    rw [ob_us, ob_pt_y (ob_met_s.mpr (Or.inr ⟨rfl, hh, hz, hB, hc⟩))]
  · rw [ob_un e]
    by_cases m : ob_met B H sz k h i
    · rw [ob_pt_y m, ob_pt_y (ob_met_s.mpr (Or.inl m))]
    · rw [ob_pt_n m, ob_pt_n (fun z => by
        rcases ob_met_s.mp z with w | w
        · exact m w
        · exact e w.1)]
theorem ob_met_sn {B H k h : Nat} {sz : Nat → Nat} (hn : sz h = 0 ∨ ob_cls (sz h) ≠ k) (i : Nat) : ob_met B H sz k h i ↔ ob_met B H sz k (h + 1) i := by
  rw [ob_met_s]
  constructor
  · exact Or.inl
  · rintro (m | ⟨_, _, a, _, c⟩)
    · exact m
    · rcases hn with z | z
      · omega
      · exact absurd c z
theorem ob_ct_y {B H k h i : Nat} {sz : Nat → Nat} (m : ob_met B H sz k h i) : (if i < H ∧ 0 < sz i ∧ B ≤ ob_cls (sz i) ∧ (ob_cls (sz i) < k ∨ (ob_cls (sz i) = k ∧ i < h)) then 1 else 0) = 1 := if_pos m
theorem ob_ct_n {B H k h i : Nat} {sz : Nat → Nat} (m : ¬ ob_met B H sz k h i) : (if i < H ∧ 0 < sz i ∧ B ≤ ob_cls (sz i) ∧ (ob_cls (sz i) < k ∨ (ob_cls (sz i) = k ∧ i < h)) then 1 else 0) = 0 := if_neg m
theorem ob_ct_c {B H k h k' h' : Nat} {sz : Nat → Nat} (e : ∀ i, ob_met B H sz k h i ↔ ob_met B H sz k' h' i) : ob_ct B H sz k h = ob_ct B H sz k' h' := by
  unfold ob_ct
  refine ob_sm_eq (fun i _ => ?_)
  by_cases m : ob_met B H sz k h i
  · rw [ob_ct_y m, ob_ct_y ((e i).mp m)]
  · rw [ob_ct_n m, ob_ct_n (fun z => m ((e i).mpr z))]
theorem ob_ct_0 {B H : Nat} {sz : Nat → Nat} : ob_ct B H sz B 0 = 0 := by
  unfold ob_ct
  exact ob_sm_z (fun i _ => ob_ct_n ob_met_0)
theorem ob_ct_16 {B H k h : Nat} {sz : Nat → Nat} : ob_ct B H sz k h ≤ 16 := by
  unfold ob_ct
  refine ob_sm_cnt (fun i _ => ?_)
  by_cases m : ob_met B H sz k h i
  · rw [ob_ct_y m]; exact Nat.le_refl 1
  · rw [ob_ct_n m]; exact Nat.zero_le 1
theorem ob_ct_s {B H k h : Nat} {sz : Nat → Nat} (hH : H ≤ 16) (hh : h < H) (hz : 0 < sz h) (hB : B ≤ k) (hc : ob_cls (sz h) = k) : ob_ct B H sz k (h + 1) = ob_ct B H sz k h + 1 := by
  unfold ob_ct
  have a := ob_sm_at (h := h) (n := 16)
    (f := fun i => if i < H ∧ 0 < sz i ∧ B ≤ ob_cls (sz i) ∧ (ob_cls (sz i) < k ∨ (ob_cls (sz i) = k ∧ i < h)) then 1 else 0)
    (g := fun i => if i < H ∧ 0 < sz i ∧ B ≤ ob_cls (sz i) ∧ (ob_cls (sz i) < k ∨ (ob_cls (sz i) = k ∧ i < h + 1)) then 1 else 0) (by omega) (fun i _ e => by
      show (if i < H ∧ 0 < sz i ∧ B ≤ ob_cls (sz i) ∧ (ob_cls (sz i) < k ∨ (ob_cls (sz i) = k ∧ i < h + 1)) then 1 else 0) = (if i < H ∧ 0 < sz i ∧ B ≤ ob_cls (sz i) ∧ (ob_cls (sz i) < k ∨ (ob_cls (sz i) = k ∧ i < h)) then 1 else 0)
      by_cases m : ob_met B H sz k h i
      · rw [ob_ct_y m, ob_ct_y (ob_met_s.mpr (Or.inl m))]
      · rw [ob_ct_n m, ob_ct_n (fun z => by
          rcases ob_met_s.mp z with w | w
          · exact m w
          · exact e w.1)])
  have y : ob_met B H sz k (h + 1) h := ob_met_s.mpr (Or.inr ⟨rfl, hh, hz, hB, hc⟩)
  have n : ¬ ob_met B H sz k h h := by
    rintro ⟨_, _, _, d⟩
    omega
  have ey := ob_ct_y y
  have en := ob_ct_n n
  have a' := a
  simp only [ey, en] at a'
  exact a'
theorem ob_vs_1 {sz : Nat → Nat} {k h : Nat} : ob_vs sz k (h + 1) = ob_vs sz k h + (if ob_cls (sz h) = k then sz h else 0) := rfl
theorem ob_vs_n {sz : Nat → Nat} {k h : Nat} (hn : sz h = 0 ∨ ob_cls (sz h) ≠ k) : ob_vs sz k (h + 1) = ob_vs sz k h := by
  rw [ob_vs_1]
  rcases hn with z | z
  · rw [z]; split <;> rfl
  · rw [if_neg z]; rfl
theorem ob_vs_y {sz : Nat → Nat} {k h : Nat} (hc : ob_cls (sz h) = k) : ob_vs sz k (h + 1) = ob_vs sz k h + sz h := by
  rw [ob_vs_1, if_pos hc]
theorem ob_mv_s {B H k : Nat} {sz : Nat → Nat} (h : B ≤ k) : ob_mv B H sz (k + 1) = ob_mv B H sz k + ob_vs sz k H := by
  unfold ob_mv
  rw [ob_sm1, if_pos h]
theorem ob_mv_0 {B H : Nat} {sz : Nat → Nat} : ob_mv B H sz B = 0 := by
  unfold ob_mv
  exact ob_sm_z (fun i hi => if_neg (by omega))
theorem ob_PP_0 {B H : Nat} {P sz : Nat → Nat} : ob_PP B H B P sz = P := by
  funext j
  exact ob_PP_n (by omega)
theorem ob_PP_s {B H k : Nat} {P sz : Nat → Nat} (h : B ≤ k) : ob_u (ob_PP B H k P sz) k (ob_vs sz k H) = ob_PP B H (k + 1) P sz := by
  funext j
  by_cases e : j = k
  · subst e
    rw [ob_us, ob_PP_y h (by omega)]
  · rw [ob_un e]
    by_cases w : B ≤ j ∧ j < k
    · rw [ob_PP_y w.1 w.2, ob_PP_y w.1 (by omega)]
    · rw [ob_PP_n (by omega), ob_PP_n (by omega)]
theorem ob_rs2_0 {B x : Nat} {f : Nat → Nat} : ob_rs2 B B x f = f := by
  funext j
  exact ob_rs2_n (by omega)
theorem ob_rs2_s {B k x : Nat} {f : Nat → Nat} (h : B ≤ k) : ob_u (ob_rs2 B k x f) k x = ob_rs2 B (k + 1) x f := by
  funext j
  by_cases e : j = k
  · subst e
    rw [ob_us, ob_rs2_y h (by omega)]
  · rw [ob_un e]
    by_cases w : B ≤ j ∧ j < k
    · rw [ob_rs2_y w.1 w.2, ob_rs2_y w.1 (by omega)]
    · rw [ob_rs2_n (by omega), ob_rs2_n (by omega)]
/-- the start of region k at the time when it is set anew -/
theorem ob_PP_st {B H D k : Nat} {P sz : Nat → Nat} (hk : k ≤ 5) : ob_st (ob_PP B H k P sz) D k = ob_st (ob_PP B H 5 P sz) D k := by
  refine ob_st_eq (fun i hi => ?_)
  by_cases w : B ≤ i
  · rw [ob_PP_y w hi, ob_PP_y w (by omega)]
  · rw [ob_PP_n (by omega), ob_PP_n (by omega)]
theorem ob_PP_st1 {B H D k : Nat} {P sz : Nat → Nat} (hB : B ≤ k) (hk : k < 5) : ob_st (ob_PP B H 5 P sz) D (k + 1) = ob_st (ob_PP B H 5 P sz) D k + (ob_vs sz k H + ob_vs sz k H / D) := by
  rw [ob_st1]
  show _ + (_ + ob_PP B H 5 P sz k / D) = _
  rw [ob_PP_y hB hk]
/-- the queue of the objects met -/
def ob_qu (B H : Nat) (sz q : Nat → Nat) (k h : Nat) : Prop :=
  (∀ i, ob_met B H sz k h i → ∃ j, j < ob_ct B H sz k h ∧ q j = i) ∧ (∀ j, j < ob_ct B H sz k h → ob_met B H sz k h (q j)) ∧ (∀ i j, i < j → j < ob_ct B H sz k h → q i ≠ q j)
theorem ob_qu_c {B H k h k' h' : Nat} {sz q : Nat → Nat} (e : ∀ i, ob_met B H sz k h i ↔ ob_met B H sz k' h' i) (hq : ob_qu B H sz q k h) : ob_qu B H sz q k' h' := by
  unfold ob_qu at hq ⊢
  rw [← ob_ct_c e]
  exact ⟨fun i m => hq.1 i ((e i).mpr m), fun j hj => (e _).mp (hq.2.1 j hj), hq.2.2⟩
theorem ob_qu_0 {B H : Nat} {sz q : Nat → Nat} : ob_qu B H sz q B 0 := by
  unfold ob_qu
  rw [ob_ct_0]
  exact ⟨fun i m => absurd m ob_met_0, fun j hj => absurd hj (by omega), fun i j _ hj => absurd hj (by omega)⟩
theorem ob_qu_s {B H k h : Nat} {sz q : Nat → Nat} (hH : H ≤ 16) (hh : h < H) (hz : 0 < sz h) (hB : B ≤ k) (hc : ob_cls (sz h) = k) (hq : ob_qu B H sz q k h) : ob_qu B H sz (ob_u q (ob_ct B H sz k h) h) k (h + 1) := by
  unfold ob_qu at hq ⊢
  rw [ob_ct_s hH hh hz hB hc]
  obtain ⟨q1, q2, q3⟩ := hq
  have n : ¬ ob_met B H sz k h h := by
    rintro ⟨_, _, _, d⟩
    omega
  refine ⟨fun i m => ?_, fun j hj => ?_, fun i j hij hj => ?_⟩
  · rcases ob_met_s.mp m with w | w
    · obtain ⟨j, j1, j2⟩ := q1 i w
      exact ⟨j, by omega, by rw [ob_un (by omega)]; exact j2⟩
    · exact ⟨ob_ct B H sz k h, by omega, by rw [ob_us]; exact w.1.symm⟩
  · by_cases e : j = ob_ct B H sz k h
    · rw [e, ob_us]
      exact ob_met_s.mpr (Or.inr ⟨rfl, hh, hz, hB, hc⟩)
    · rw [ob_un e]
      exact ob_met_s.mpr (Or.inl (q2 j (by omega)))
  · by_cases e : j = ob_ct B H sz k h
    · rw [e, ob_us, ob_un (by omega)]
      intro z
      have m := q2 i (by omega)
      rw [z] at m
      exact n m
    · rw [ob_un e, ob_un (by omega)]
      exact q3 i j hij (by omega)
end
section
/-! the pure put: an item in a buffer; an object that goes -/
theorem ob_loc_mono {D h : Nat} {P U M U' M' sz pl sz' pl' : Nat → Nat} (hU : ∀ k, U k ≤ U' k) (hM : ∀ k, M' k ≤ M k) (es : sz' h = sz h) (ep : pl' h = pl h)
    (l : ob_loc 5 D P U M sz pl h) : ob_loc 5 D P U' M' sz' pl' h := by
  unfold ob_loc at l ⊢
  rw [es, ep]
  rcases l with l | ⟨k, l1, l2, l3, l4, l5⟩
  · exact Or.inl l
  · have a := hU k
    have b := hM k
    exact Or.inr ⟨k, l1, l2, by omega, l4, by omega⟩
theorem ob_uU {U : Nat → Nat} {k n : Nat} : ∀ j, U j ≤ ob_u U k (U k + n) j := by
  intro j
  by_cases e : j = k
  · rw [e, ob_us]; omega
  · rw [ob_un e]; exact Nat.le_refl _
theorem ob_uM {M : Nat → Nat} {k c : Nat} : ∀ j, ob_u M k (min (M k) c) j ≤ M j := by
  intro j
  by_cases e : j = k
  · rw [e, ob_us]; omega
  · rw [ob_un e]; exact Nat.le_refl _
theorem ob_buf_put {D k n c : Nat} {P U M it : Nat → Nat} (hb : ∀ j, j < 5 → ob_buf D P U M it j) (hn : 0 < n) (hc : c < 5) (hr : U k + n ≤ ob_b P D k) :
    ∀ j, j < 5 → ob_buf D P (ob_u U k (U k + n)) (ob_u M k (min (M k) c)) (ob_fl it (ob_st P D k + P k + U k) n (c + 1)) j := by
  intro j hj
  obtain ⟨b1, b2, b3, b4, b5, b6⟩ := hb j hj
  unfold ob_buf
  by_cases e : j = k
  · subst e
    rw [ob_us, ob_us]
    refine ⟨hr, by omega, fun a ha1 ha2 => ?_, fun a ha1 ha2 => ?_, fun z => absurd z (by omega), fun _ => ?_⟩
    · by_cases w : a < ob_st P D j + P j + U j
      · rw [ob_fl_o (by omega)]
        have := b3 a ha1 w
        omega
      · rw [ob_fl_i (by omega) (by omega)]
        omega
    · rw [ob_fl_o (by omega)]
      exact b4 a (by omega) ha2
    · by_cases w : M j ≤ c
      · have hu : 0 < U j := by
          by_cases z : U j = 0
          · have := b5 z; omega
          · omega
        obtain ⟨a, a1, a2, a3⟩ := b6 hu
        refine Exists.intro a ⟨a1, by omega, ?_⟩
        rw [ob_fl_o (by omega), a3]
        omega
      · refine Exists.intro (ob_st P D j + P j + U j) ⟨by omega, by omega, ?_⟩
        rw [ob_fl_i (by omega) (by omega)]
        omega
  · rw [ob_un e, ob_un e]
    have dis : ∀ a, ob_st P D j + P j ≤ a → a < ob_st P D j + P j + ob_b P D j → ob_fl it (ob_st P D k + P k + U k) n (c + 1) a = it a := by
      intro a ha1 ha2
      refine ob_fl_o ?_
      rcases Nat.lt_or_ge j k with w | w
      · have := ob_st_in P D w
        omega
      · have := ob_st_in P D (k := k) (n := j) (by omega)
        omega
    refine ⟨b1, b2, fun a ha1 ha2 => ?_, fun a ha1 ha2 => ?_, b5, fun hu => ?_⟩
    · rw [dis a ha1 (by omega)]; exact b3 a ha1 ha2
    · rw [dis a (by omega) ha2]; exact b4 a ha1 ha2
    · obtain ⟨a, a1, a2, a3⟩ := b6 hu
      exact Exists.intro a ⟨a1, a2, by rw [dis a a1 (by omega)]; exact a3⟩
/-- the payload's live volume when object h goes -/
theorem ob_A_del {H D h k : Nat} {P sz pl : Nat → Nat} (hh : h < H) : ob_A H D P (ob_u sz h 0) pl k + (if ob_cls (sz h) = k ∧ pl h < ob_st P D k + P k then sz h else 0) = ob_A H D P sz pl k := by
  have a := ob_sm_at (f := fun i => if ob_cls (sz i) = k ∧ pl i < ob_st P D k + P k then sz i else 0)
    (g := fun i => if ob_cls (ob_u sz h 0 i) = k ∧ pl i < ob_st P D k + P k then ob_u sz h 0 i else 0) (h := h) (n := H) hh (fun i _ q => by
      show (if ob_cls (ob_u sz h 0 i) = k ∧ pl i < ob_st P D k + P k then ob_u sz h 0 i else 0) = (if ob_cls (sz i) = k ∧ pl i < ob_st P D k + P k then sz i else 0)
      rw [ob_un q])
  have z : (if ob_cls (ob_u sz h 0 h) = k ∧ pl h < ob_st P D k + P k then ob_u sz h 0 h else 0) = 0 := by
    rw [ob_us]; split <;> rfl
  rw [z] at a
  exact a
/-- object h, in a buffer, goes -/
theorem ob_del {H D h : Nat} {P U M it sz pl : Nat → Nat} {g : Nat → Nat → Nat} (hL : ob_L 5 H D P U M it sz pl g) (hh : h < H)
    (ho : ob_st P D (ob_cls (sz h)) + P (ob_cls (sz h)) ≤ pl h) : ob_L 5 H D P U M it (ob_u sz h 0) pl g := by
  obtain ⟨⟨n1, n2, n3, n4⟩, hbuf, hloc, hdis⟩ := hL
  have q : ∀ i, 0 < ob_u sz h 0 i → i ≠ h := by
    intro i hz e
    rw [e, ob_us] at hz
    omega
  refine ⟨⟨fun k hk => ?_, n2, n3, n4⟩, hbuf, fun i hi hz hc => ?_, fun i i' hi hi' hne hz hz' hc hc' => ?_⟩
  · have a := n1 k hk
    have b := ob_A_del (H := H) (D := D) (h := h) (k := k) (P := P) (sz := sz) (pl := pl) hh
    rw [if_neg (fun z => by have e := z.1; have w := z.2; rw [← e] at w; omega)] at b
    omega
  · have e := q i hz
    rw [ob_un e] at hz hc
    exact ob_loc_mono (fun _ => Nat.le_refl _) (fun _ => Nat.le_refl _) (ob_un e) rfl (hloc i hi hz hc)
  · have e := q i hz
    have e' := q i' hz'
    rw [ob_un e] at hz hc
    rw [ob_un e'] at hz' hc'
    rw [ob_un e, ob_un e']
    exact hdis i i' hi hi' hne hz hz' hc hc'
/-- object h, in its payload, goes and leaves a marker in buffer k -/
theorem ob_mark {H D h k : Nat} {P U M it sz pl : Nat → Nat} {g : Nat → Nat → Nat} (hL : ob_L 5 H D P U M it sz pl g) (hh : h < H) (hz0 : 0 < sz h)
    (hk5 : k < 5) (hr : U k + sz h ≤ ob_b P D k) :
    ob_L 5 H D P (ob_u U k (U k + sz h)) (ob_u M k (min (M k) (ob_cls (sz h)))) (ob_fl it (ob_st P D k + P k + U k) (sz h) (ob_cls (sz h) + 1)) (ob_u sz h 0) pl
      (fun j i => if j = k ∧ i = ob_cls (sz h) then g j i + sz h else g j i) := by
  obtain ⟨⟨n1, n2, n3, n4⟩, hbuf, hloc, hdis⟩ := hL
  have c5 := ob_cls5 (sz h)
  have q : ∀ i, 0 < ob_u sz h 0 i → i ≠ h := by
    intro i hz e
    rw [e, ob_us] at hz
    omega
  refine ⟨⟨fun k' hk' => ?_, fun j hj => ?_, fun j k' hj hk' => ?_, fun j hj => ?_⟩, ob_buf_put hbuf hz0 c5 hr, fun i hi hz hc => ?_, fun i i' hi hi' hne hz hz' hc hc' => ?_⟩
  · have a := n1 k' hk'
    have b := ob_A_del (H := H) (D := D) (h := h) (k := k') (P := P) (sz := sz) (pl := pl) hh
    by_cases e : k' = ob_cls (sz h)
    · have s := ob_sm_at (f := fun j => g j k') (g := fun j => if j = k ∧ k' = ob_cls (sz h) then g j k' + sz h else g j k') (h := k) (n := 5) hk5 (fun i _ w => if_neg (fun z => w z.1))
      rw [if_pos (⟨rfl, e⟩ : k = k ∧ k' = ob_cls (sz h))] at s
      have b2 : (if ob_cls (sz h) = k' ∧ pl h < ob_st P D k' + P k' then sz h else 0) ≤ sz h := by split <;> omega
      show P k' ≤ ob_A H D P (ob_u sz h 0) pl k' + ob_sm (fun j => if j = k ∧ k' = ob_cls (sz h) then g j k' + sz h else g j k') 5
      have s' : ob_sm (fun j => if j = k ∧ k' = ob_cls (sz h) then g j k' + sz h else g j k') 5 + g k k' = ob_sm (fun j => g j k') 5 + (g k k' + sz h) := s
      omega
    · rw [if_neg (fun z => e z.1.symm)] at b
      have s : ob_sm (fun j => if j = k ∧ k' = ob_cls (sz h) then g j k' + sz h else g j k') 5 = ob_sm (fun j => g j k') 5 := ob_sm_eq (fun i _ => if_neg (fun z => e z.2))
      show P k' ≤ ob_A H D P (ob_u sz h 0) pl k' + ob_sm (fun j => if j = k ∧ k' = ob_cls (sz h) then g j k' + sz h else g j k') 5
      omega
  · have a := n2 j hj
    by_cases e : j = k
    · have s := ob_sm_at (f := g j) (g := fun i => if j = k ∧ i = ob_cls (sz h) then g j i + sz h else g j i) (h := ob_cls (sz h)) (n := 5) c5 (fun i _ w => if_neg (fun z => w z.2))
      rw [if_pos (⟨e, rfl⟩ : j = k ∧ ob_cls (sz h) = ob_cls (sz h))] at s
      have u : ob_u U k (U k + sz h) j = U j + sz h := by rw [e, ob_us]
      rw [u]
      show ob_sm (fun i => if j = k ∧ i = ob_cls (sz h) then g j i + sz h else g j i) 5 ≤ _
      omega
    · rw [ob_un e]
      have s : ob_sm (fun i => if j = k ∧ i = ob_cls (sz h) then g j i + sz h else g j i) 5 = ob_sm (g j) 5 := ob_sm_eq (fun i _ => if_neg (fun z => e z.1))
      show ob_sm (fun i => if j = k ∧ i = ob_cls (sz h) then g j i + sz h else g j i) 5 ≤ _
      omega
  · by_cases e : j = k
    · have m : ob_u M k (min (M k) (ob_cls (sz h))) j = min (M k) (ob_cls (sz h)) := by rw [e, ob_us]
      rw [m] at hk'
      show (if j = k ∧ k' = ob_cls (sz h) then g j k' + sz h else g j k') = 0
      rw [if_neg (fun z => by have := z.2; omega)]
      exact n3 j k' hj (by rw [e]; omega)
    · rw [ob_un e] at hk'
      show (if j = k ∧ k' = ob_cls (sz h) then g j k' + sz h else g j k') = 0
      rw [if_neg (fun z => e z.1)]
      exact n3 j k' hj hk'
  · by_cases e : j = k
    · rw [e, ob_us]; exact hr
    · rw [ob_un e]; exact n4 j hj
  · have e := q i hz
    rw [ob_un e] at hz hc
    exact ob_loc_mono ob_uU ob_uM (ob_un e) rfl (hloc i hi hz hc)
  · have e := q i hz
    have e' := q i' hz'
    rw [ob_un e] at hz hc
    rw [ob_un e'] at hz' hc'
    rw [ob_un e, ob_un e']
    exact hdis i i' hi hi' hne hz hz' hc hc'
/-- a new object h of n words as an item of buffer k -/
theorem ob_new {H D h n k : Nat} {P U M it sz pl : Nat → Nat} {g : Nat → Nat → Nat} (hL : ob_L 5 H D P U M it sz pl g) (hn : 0 < n) (hz0 : sz h = 0)
    (hck : ob_cls n ≤ k) (hk5 : k < 5) (hr : U k + n ≤ ob_b P D k) :
    ob_L 5 H D P (ob_u U k (U k + n)) (ob_u M k (min (M k) (ob_cls n))) (ob_fl it (ob_st P D k + P k + U k) n (ob_cls n + 1)) (ob_u sz h n) (ob_u pl h (ob_st P D k + P k + U k)) g := by
  have hL0 := hL
  obtain ⟨⟨n1, n2, n3, n4⟩, hbuf, hloc, hdis⟩ := hL
  have c5 := ob_cls5 n
  -- an old object ends at or before the new one's place, or begins behind it
  have far : ∀ i, i < H → 0 < sz i → pl i + sz i ≤ ob_st P D k + P k + U k ∨ ob_st P D k + P k + U k + n ≤ pl i := by
    intro i hi hz
    rcases hloc i hi hz (ob_cls5 _) with l | ⟨k', l1, l2, l3, l4, l5⟩
    · rcases Nat.lt_or_ge k (ob_cls (sz i)) with w | w
      · have a := ob_st_in P D w
        omega
      · rcases Nat.lt_or_ge (ob_cls (sz i)) k with w2 | w2
        · have a := ob_st_in P D w2
          omega
        · have e : ob_cls (sz i) = k := by omega
          rw [e] at l
          omega
    · have u := n4 k' l2
      rcases Nat.lt_trichotomy k' k with w | w | w
      · have a := ob_st_in P D w
        omega
      · subst w; omega
      · have a := ob_st_in P D w
        omega
  refine ⟨⟨fun k' hk' => ?_, fun j hj => ?_, fun j k' hj hk' => ?_, fun j hj => ?_⟩, ob_buf_put hbuf hn c5 hr, fun i hi hz hc => ?_, fun i i' hi hi' hne hz hz' hc hc' => ?_⟩
  · have a := n1 k' hk'
    have e : ob_A H D P (ob_u sz h n) (ob_u pl h (ob_st P D k + P k + U k)) k' = ob_A H D P sz pl k' := by
      unfold ob_A
      refine ob_sm_eq (fun i _ => ?_)
      by_cases q : i = h
      · subst q
        rw [ob_us, ob_us, hz0]
        have z : ¬ (ob_cls n = k' ∧ ob_st P D k + P k + U k < ob_st P D k' + P k') := by
          intro z
          rcases Nat.lt_or_ge k' k with w | w
          · have := ob_st_in P D w
            omega
          · have e : k' = k := by omega
            rw [e] at z
            omega
        rw [if_neg z]
        split <;> rfl
      · rw [ob_un q, ob_un q]
    rw [e]; exact a
  · have a := n2 j hj
    have b := ob_uU (U := U) (k := k) (n := n) j
    omega
  · have b := ob_uM (M := M) (k := k) (c := ob_cls n) j
    exact n3 j k' hj (by omega)
  · by_cases e : j = k
    · rw [e, ob_us]; exact hr
    · rw [ob_un e]; exact n4 j hj
  · by_cases e : i = h
    · subst e
      unfold ob_loc
      rw [ob_us, ob_us]
      refine Or.inr ⟨k, hck, hk5, ?_, by omega, ?_⟩
      · rw [ob_us]; omega
      · rw [ob_us]; omega
    · rw [ob_un e] at hz hc
      exact ob_loc_mono ob_uU ob_uM (ob_un e) (ob_un e) (hloc i hi hz hc)
  · by_cases e : i = h
    · have e' : i' ≠ h := by omega
      rw [ob_un e'] at hz'
      have f := far i' hi' hz'
      subst e
      rw [ob_us, ob_us, ob_un e', ob_un e']
      omega
    · rw [ob_un e] at hz
      by_cases e' : i' = h
      · have f := far i hi hz
        subst e'
        rw [ob_us, ob_us, ob_un e, ob_un e]
        omega
      · rw [ob_un e'] at hz'
        rw [ob_un e, ob_un e', ob_un e, ob_un e']
        exact hdis i i' hi hi' hne hz hz' (ob_cls5 _) (ob_cls5 _)
end
section
/-! the states as tuples of naturals; X's reading methods -/
abbrev ob_X (L H D V Q S b mv ch : Nat) (mem : Nat → Int32) (own sz cl xp P U M q tg : Nat → Nat) : SX :=
  (nI L, nI H, nI D, 512, nI V, nI Q, nI S, nI b, nI mv, nI ch, mem, ob_f own, ob_f sz, ob_f cl, ob_f xp, ob_f P, ob_f (ob_b P D), ob_f U, ob_f M, ob_f q, ob_f tg)
abbrev ob_Y (L H D S b mv ch : Nat) (sz pl : Nat → Nat) (wd : Nat → Int32) (it P : Nat → Nat) : SY :=
  (nI L, nI H, nI D, nI S, nI b, nI mv, nI ch, ob_f sz, ob_f pl, wd, ob_f it, ob_f P)
/-- an int that is no live handle -/
def ob_dead (H : Nat) (sz : Nat → Nat) (x : Int32) : Prop := ∀ h, h < H → x = nI h → sz h = 0
section
variable {L H D V Q S b mv ch : Nat} {mem : Nat → Int32} {own sz cl xp P U M q tg : Nat → Nat}

theorem xw_live_y {post : Int32 → Prop} {h : Nat} (hh : h < H) (hH : H ≤ 16) (hz : 0 < sz h) (hz16 : sz h ≤ 16) (K : post 1) : wpX_isLive post (ob_X L H D V Q S b mv ch mem own sz cl xp P U M q tg) (nI h) := by
  unfold wpX_isLive; dsimp only
  exact br_f (nI_pos (by omega)) (pk_le H h (fun z => absurd z (by omega)) (fun _ => ⟨pk_in h 16 (by omega), pk_le (sz h) 0 (fun z => absurd z (by omega)) (fun _ => K) (ob_r (by omega))⟩))
theorem xw_live_n {post : Int32 → Prop} {x : Int32} (hH : H ≤ 16) (hd : ob_dead H sz x) (K : post 0) : wpX_isLive post (ob_X L H D V Q S b mv ch mem own sz cl xp P U M q tg) x := by
  unfold wpX_isLive; dsimp only
  rcases pk_ix x (n := H) (by omega) with h | h | ⟨j, hj, e⟩
  · exact br_t h K
  · exact br_c (fun _ => K) (fun _ => br_t h K)
  · have z := hd j hj e
    subst e
    exact br_f (nI_pos (by omega)) (pk_le H j (fun w => absurd w (by omega)) (fun _ => ⟨pk_in j 16 (by omega), pk_le (sz j) 0 (fun _ => K) (fun w => absurd w (by omega)) (ob_r (by omega))⟩))
theorem xw_start_lp {post : Int32 → Prop} {k : Nat} (hk : k ≤ 5) (hb : ob_st P D 5 ≤ 256) (K : post (nI (ob_st P D k))) : ∀ d j, j + d = k →
    wX_regionStart_4 post (nI k) (nI L) (nI H) (nI D) 512 (nI V) (nI Q) (nI S) (nI b) (nI mv) (nI ch) mem (ob_f own) (ob_f sz) (ob_f cl) (ob_f xp) (ob_f P) (ob_f (ob_b P D)) (ob_f U) (ob_f M) (ob_f q) (ob_f tg) (d + 1) (nI (ob_st P D j)) (nI j) := by
  intro d
  induction d with
  | zero =>
    intro j hj
    have e : j = k := by omega
    subst e
    exact pk_le j j (fun _ => K) (fun z => absurd z (by omega))
  | succ d ih =>
    intro j hj
    refine pk_le k j (fun z => absurd z (by omega)) (fun _ => pk_le 5 j (fun z => absurd z (by omega)) (fun _ => ⟨pk_in j 5 (by omega), pk_in j 5 (by omega), nm_r (e' := nI (ob_st P D (j + 1))) ?_ (nm_r (nI_1 j) (ih (j + 1) (by omega)))⟩))
    rw [ob_r (by omega), ob_r (by omega), nI_add, nI_add]
    rfl
theorem xw_start {post : Int32 → Prop} {k : Nat} (hk : k ≤ 5) (hb : ob_st P D 5 ≤ 256) (K : post (nI (ob_st P D k))) : wpX_regionStart post (ob_X L H D V Q S b mv ch mem own sz cl xp P U M q tg) (nI k) := by
  unfold wpX_regionStart; dsimp only
  exact ⟨_, xw_start_lp hk hb K k 0 (by omega)⟩
theorem xw_itemsEnd {post : Int32 → Prop} {k : Nat} (hk : k < 5) (hb : ob_st P D 5 ≤ 256) (K : post (nI (ob_st P D k + P k + U k))) : wpX_itemsEnd post (ob_X L H D V Q S b mv ch mem own sz cl xp P U M q tg) (nI k) := by
  unfold wpX_itemsEnd; dsimp only
  refine xw_start (by omega) hb ?_
  refine ⟨pk_in k 5 hk, pk_in k 5 hk, ?_⟩
  rw [ob_r (by omega), ob_r (by omega), nI_add, nI_add]
  exact K
theorem xw_free_lp {post : Int32 → Prop} {h : Nat} (hH : H ≤ 16) (hh : h ≤ H) (hl : ∀ i, i < h → 0 < sz i) (h16 : ∀ i, i < H → sz i ≤ 16) (hz : h < H → sz h = 0)
    (K1 : h < H → post (nI h)) (K2 : h = H → post (-5)) : ∀ d j, j + d = h → wX_lowestFreeHandle_2 post (nI L) (nI H) (nI D) 512 (nI V) (nI Q) (nI S) (nI b) (nI mv) (nI ch) mem (ob_f own) (ob_f sz) (ob_f cl) (ob_f xp) (ob_f P) (ob_f (ob_b P D)) (ob_f U) (ob_f M) (ob_f q) (ob_f tg) (d + 1) (nI j) := by
  intro d
  induction d with
  | zero =>
    intro j hj
    have e : j = h := by omega
    subst e
    refine pk_le H j (fun z => K2 (by omega)) (fun z => ⟨pk_in j 16 (by omega), pk_eq (sz j) 0 (fun _ => K1 z) (fun w => absurd (hz z) w) (ob_r (by omega)) rfl (by have := h16 j z; omega) (by omega)⟩)
  | succ d ih =>
    intro j hj
    have a := hl j (by omega)
    have b := h16 j (by omega)
    exact pk_le H j (fun z => absurd z (by omega)) (fun _ => ⟨pk_in j 16 (by omega), pk_eq (sz j) 0 (fun w => absurd w (by omega)) (fun _ => nm_r (nI_1 j) (ih (j + 1) (by omega))) (ob_r (by omega))⟩)
theorem xw_free {post : Int32 → Prop} {h : Nat} (hH : H ≤ 16) (hh : h ≤ H) (hl : ∀ i, i < h → 0 < sz i) (h16 : ∀ i, i < H → sz i ≤ 16) (hz : h < H → sz h = 0)
    (K1 : h < H → post (nI h)) (K2 : h = H → post (-5)) : wpX_lowestFreeHandle post (ob_X L H D V Q S b mv ch mem own sz cl xp P U M q tg) := by
  unfold wpX_lowestFreeHandle; dsimp only
  exact ⟨_, xw_free_lp hH hh hl h16 hz K1 K2 h 0 (by omega)⟩
theorem ob_sh : ∀ c, c < 5 → (1 : Int32) <<< (nI c &&& 31) = nI (2 ^ c) := by decide
theorem ob_cls_le {n c : Nat} (hc : c < 4) (h : n ≤ 2 ^ c) (h2 : c = 0 ∨ 2 ^ (c - 1) < n) : ob_cls n = c := by
  have e : c = 0 ∨ c = 1 ∨ c = 2 ∨ c = 3 := by omega
  unfold ob_cls
  rcases e with e | e | e | e <;> subst e <;> simp only [Nat.reducePow, Nat.reduceSub] at h h2 <;> (repeat' split) <;> omega
theorem ob_cls_4 {n : Nat} (h : 8 < n) : ob_cls n = 4 := by
  unfold ob_cls
  (repeat' split) <;> omega
theorem xw_cls_lp {post : Int32 → Prop} {n : Nat} (hn : n ≤ 16) (K : post (nI (ob_cls n))) : ∀ d c, c + d = 4 → (c = 0 ∨ 2 ^ (c - 1) < n) → wX_classOf_2 post (nI n) (nI L) (nI H) (nI D) 512 (nI V) (nI Q) (nI S) (nI b) (nI mv) (nI ch) mem (ob_f own) (ob_f sz) (ob_f cl) (ob_f xp) (ob_f P) (ob_f (ob_b P D)) (ob_f U) (ob_f M) (ob_f q) (ob_f tg) (d + 1) (nI c) := by
  intro d
  induction d with
  | zero =>
    intro c hc h2
    have e : c = 4 := by omega
    subst e
    have w : ob_cls n = 4 := ob_cls_4 (by rcases h2 with z | z; omega; simpa using z)
    rw [w] at K
    exact pk_le 4 4 (fun _ => K) (fun z => absurd z (by omega))
  | succ d ih =>
    intro c hc h2
    have p16 : 2 ^ c < 17 := by
      have e : c = 0 ∨ c = 1 ∨ c = 2 ∨ c = 3 := by omega
      rcases e with e | e | e | e <;> subst e <;> decide
    refine pk_le 4 c (fun z => absurd z (by omega)) (fun _ => pk_le n (2 ^ c) (fun z => ?_) (fun z => nm_r (nI_1 c) (ih (c + 1) (by omega) (Or.inr z))) rfl (ob_sh c (by omega)))
    rw [ob_cls_le (by omega) z h2] at K
    exact K
theorem xw_cls {post : Int32 → Prop} {n : Nat} (hn : n ≤ 16) (K : post (nI (ob_cls n))) : wpX_classOf post (ob_X L H D V Q S b mv ch mem own sz cl xp P U M q tg) (nI n) := by
  unfold wpX_classOf; dsimp only
  exact ⟨_, xw_cls_lp hn K 4 0 rfl (Or.inl rfl)⟩
theorem xw_room_lp {post : Int32 → Prop} {k n : Nat} (hk : k ≤ 5) (hn : n ≤ 16) (hP : ob_st P D 5 ≤ 256) (hu : ∀ j, j < 5 → U j ≤ ob_b P D j) (c : Nat)
    (h1 : ∀ j, c ≤ j → j < k → ob_b P D j < U j + n) (h2 : k < 5 → U k + n ≤ ob_b P D k) (K : post (nI k)) : ∀ d j, c ≤ j → j + d = k → wX_bufferWithRoom_2 post (nI n) (nI L) (nI H) (nI D) 512 (nI V) (nI Q) (nI S) (nI b) (nI mv) (nI ch) mem (ob_f own) (ob_f sz) (ob_f cl) (ob_f xp) (ob_f P) (ob_f (ob_b P D)) (ob_f U) (ob_f M) (ob_f q) (ob_f tg) (d + 1) (nI j) := by
  intro d
  induction d with
  | zero =>
    intro j hc hj
    have e : j = k := by omega
    subst e
    refine pk_le 5 j (fun z => ?_) (fun z => ⟨pk_in j 5 z, pk_in j 5 z, pk_lt (ob_b P D j - U j) n (fun w => absurd (h2 z) (by omega)) (fun _ => K) ?_ rfl (by have := ob_st_in P D z; omega) (by omega)⟩)
    · have e : j = 5 := by omega
      subst e; exact K
    · rw [ob_r (by omega), ob_r (by omega)]
      exact pk_sub (hu j z)
  | succ d ih =>
    intro j hc hj
    have a := h1 j hc (by omega)
    have s := ob_st_in P D (k := j) (n := 5) (by omega)
    refine pk_le 5 j (fun z => absurd z (by omega)) (fun z => ⟨pk_in j 5 z, pk_in j 5 z, pk_lt (ob_b P D j - U j) n (fun _ => nm_r (nI_1 j) (ih (j + 1) (by omega) (by omega))) (fun w => absurd w (by have := hu j z; omega)) ?_⟩)
    rw [ob_r (by omega), ob_r (by omega)]
    exact pk_sub (hu j z)
theorem xw_room {post : Int32 → Prop} {k n c : Nat} (hck : c ≤ k) (hk : k ≤ 5) (hn : n ≤ 16) (hP : ob_st P D 5 ≤ 256) (hu : ∀ j, j < 5 → U j ≤ ob_b P D j)
    (h1 : ∀ j, c ≤ j → j < k → ob_b P D j < U j + n) (h2 : k < 5 → U k + n ≤ ob_b P D k) (K : post (nI k)) : wpX_bufferWithRoom post (ob_X L H D V Q S b mv ch mem own sz cl xp P U M q tg) (nI c) (nI n) := by
  unfold wpX_bufferWithRoom; dsimp only
  exact ⟨_, xw_room_lp hk hn hP hu c h1 h2 K (k - c) c (Nat.le_refl c) (by omega)⟩
theorem xw_inPay {post : Int32 → Prop} {h : Nat} (hh : h < 16) (hc : cl h < 5) (hb : ob_st P D 5 ≤ 256) (hx : xp h < 768)
    (K0 : ob_st P D (cl h) + P (cl h) ≤ xp h → post 0) (K1 : xp h < ob_st P D (cl h) + P (cl h) → post 1) : wpX_inPayload post (ob_X L H D V Q S b mv ch mem own sz cl xp P U M q tg) (nI h) := by
  unfold wpX_inPayload; dsimp only
  have s := ob_st_in P D hc
  refine ⟨pk_in h 16 hh, nm_r (ob_r (by omega)) ⟨pk_in h 16 hh, ?_⟩⟩
  refine xw_start (by omega) hb ?_
  refine ⟨pk_in (cl h) 5 hc, pk_le (ob_st P D (cl h) + P (cl h)) (xp h) K0 K1 ?_ (ob_r (by omega))⟩
  rw [ob_r (by omega), nI_add]
theorem xw_word_y {post : Int32 → Prop} {h i : Nat} (hh : h < H) (hH : H ≤ 16) (hz16 : sz h ≤ 16) (hi : i < sz h) (K : post 1) : wpX_isWord post (ob_X L H D V Q S b mv ch mem own sz cl xp P U M q tg) (nI h) (nI i) := by
  unfold wpX_isWord; dsimp only
  refine xw_live_y hh hH (by omega) hz16 ?_
  exact br_f (by decide) (br_f (nI_pos (by omega)) ⟨pk_in h 16 (by omega), pk_le (sz h) i (fun z => absurd z (by omega)) (fun _ => K) (ob_r (by omega))⟩)
theorem xw_word_d {post : Int32 → Prop} {x y : Int32} (hH : H ≤ 16) (hd : ob_dead H sz x) (K : post 0) : wpX_isWord post (ob_X L H D V Q S b mv ch mem own sz cl xp P U M q tg) x y := by
  unfold wpX_isWord; dsimp only
  refine xw_live_n hH hd ?_
  exact br_t rfl K
theorem xw_word_n {post : Int32 → Prop} {h : Nat} {y : Int32} (hh : h < H) (hH : H ≤ 16) (hz : 0 < sz h) (hz16 : sz h ≤ 16) (hy : y < 0 ∨ nI (sz h) ≤ y) (K : post 0) : wpX_isWord post (ob_X L H D V Q S b mv ch mem own sz cl xp P U M q tg) (nI h) y := by
  unfold wpX_isWord; dsimp only
  refine xw_live_y hh hH (by omega) hz16 ?_
  refine br_f (by decide) (br_c (fun _ => K) (fun z => ⟨pk_in h 16 (by omega), ?_⟩))
  rw [ob_r (by omega)]
  rcases hy with w | w
  · exact absurd w z
  · exact br_t w K
theorem xw_hid_0 {post : Int32 → Prop} {c : Nat} (hS : S ≤ 32) (hc : c < 5) (hb : b ≤ 5) (h : S = 0 ∨ c < b) (K : post 0) : wpX_isHidden post (ob_X L H D V Q S b mv ch mem own sz cl xp P U M q tg) (nI c) := by
  unfold wpX_isHidden; dsimp only
  exact pk_le S 0 (fun _ => K) (fun z => pk_lt c b (fun _ => K) (fun w => absurd h (by omega)))
theorem xw_hid_1 {post : Int32 → Prop} {c : Nat} (hS : S ≤ 32) (hc : c < 5) (hb : b ≤ 5) (h : 0 < S) (h2 : b ≤ c) (K : post 1) : wpX_isHidden post (ob_X L H D V Q S b mv ch mem own sz cl xp P U M q tg) (nI c) := by
  unfold wpX_isHidden; dsimp only
  exact pk_le S 0 (fun z => absurd z (by omega)) (fun z => pk_lt c b (fun w => absurd w (by omega)) (fun _ => K))
theorem xw_chk_b {post : Int32 → Prop} {x : Int32} (h : x < 0 ∨ 5 ≤ x) (K : post (-1)) : wpX_checkRegion post (ob_X L H D V Q S b mv ch mem own sz cl xp P U M q tg) x := by
  unfold wpX_checkRegion; dsimp only
  refine br_c (fun _ => K) (fun z => ?_)
  rcases h with h | h
  · exact absurd h z
  · exact br_f (Int32.not_lt.mpr h) K
theorem xw_chk_0 {post : Int32 → Prop} {c : Nat} (hS : S ≤ 32) (hc : c < 5) (hb : b ≤ 5) (h : S = 0 ∨ c < b) (K : post 0) : wpX_checkRegion post (ob_X L H D V Q S b mv ch mem own sz cl xp P U M q tg) (nI c) := by
  unfold wpX_checkRegion; dsimp only
  refine br_f (nI_pos (by omega)) (pk_lt c 5 (fun _ => ?_) (fun z => absurd z (by omega)))
  refine xw_hid_0 hS hc hb h ?_
  exact br_t rfl K
theorem xw_chk_1 {post : Int32 → Prop} {c : Nat} (hS : S ≤ 32) (hc : c < 5) (hb : b ≤ 5) (h : 0 < S) (h2 : b ≤ c) (K : post (-2)) : wpX_checkRegion post (ob_X L H D V Q S b mv ch mem own sz cl xp P U M q tg) (nI c) := by
  unfold wpX_checkRegion; dsimp only
  refine br_f (nI_pos (by omega)) (pk_lt c 5 (fun _ => ?_) (fun z => absurd z (by omega)))
  refine xw_hid_1 hS hc hb h h2 ?_
  exact br_f (by decide) K
theorem xw_loc_b {post : Int32 → Prop} {x : Int32} (h : x < 0 ∨ 256 ≤ x) (K : post (-1)) : wpX_locate post (ob_X L H D V Q S b mv ch mem own sz cl xp P U M q tg) x := by
  unfold wpX_locate; dsimp only
  refine br_c (fun _ => K) (fun z => ?_)
  rcases h with h | h
  · exact absurd h z
  · exact br_f (Int32.not_lt.mpr h) K
theorem xw_loc_h {post : Int32 → Prop} {a : Nat} (ha : a < 256) (hS : 0 < S) (hS2 : S ≤ 32) (hb : b ≤ 5) (h5 : ob_st P D 5 ≤ 256) (h : ob_st P D b ≤ a) (K : post (-2)) : wpX_locate post (ob_X L H D V Q S b mv ch mem own sz cl xp P U M q tg) (nI a) := by
  unfold wpX_locate; dsimp only
  have m := ob_st_mono P D hb
  refine br_f (nI_pos (by omega)) (pk_lt a 256 (fun _ => pk_le S 0 (fun z => absurd z (by omega)) (fun _ => ?_)) (fun z => absurd z (by omega)))
  refine xw_start hb h5 ?_
  exact pk_lt a (ob_st P D b) (fun z => absurd z (by omega)) (fun _ => K)
theorem xw_loc_35 {post : Int32 → Prop} {a : Nat} (ha : a < 256) (ho : own a ≤ 16) (K : post (if own a = 0 then -5 else nI (own a - 1))) : wX_locate_35 post (nI a) (nI L) (nI H) (nI D) 512 (nI V) (nI Q) (nI S) (nI b) (nI mv) (nI ch) mem (ob_f own) (ob_f sz) (ob_f cl) (ob_f xp) (ob_f P) (ob_f (ob_b P D)) (ob_f U) (ob_f M) (ob_f q) (ob_f tg) := by
  unfold wX_locate_35
  refine ⟨pk_in a 768 (by omega), pk_eq (own a) 0 (fun z => ?_) (fun z => ⟨pk_in a 768 (by omega), ?_⟩) (ob_r (by omega))⟩
  · rw [if_pos z] at K; exact K
  · rw [if_neg z] at K
    rw [ob_r (by omega)]
    have e : nI (own a) - 1 = nI (own a - 1) := pk_sub (b := 1) (by omega)
    rw [e]; exact K
theorem xw_loc_t {post : Int32 → Prop} {a : Nat} (ha : a < 256) (hS2 : S ≤ 32) (hb : b ≤ 5) (h5 : ob_st P D 5 ≤ 256) (h : S = 0 ∨ a < ob_st P D b) (ho : own a ≤ 16) (K : post (if own a = 0 then -5 else nI (own a - 1))) : wpX_locate post (ob_X L H D V Q S b mv ch mem own sz cl xp P U M q tg) (nI a) := by
  unfold wpX_locate; dsimp only
  have m := ob_st_mono P D hb
  refine br_f (nI_pos (by omega)) (pk_lt a 256 (fun _ => pk_le S 0 (fun z => xw_loc_35 ha ho K) (fun _ => ?_)) (fun z => absurd z (by omega)))
  refine xw_start hb h5 ?_
  exact pk_lt a (ob_st P D b) (fun _ => xw_loc_35 ha ho K) (fun z => absurd h (by omega))
theorem xw_low_lp {post : Int32 → Prop} {t : Nat} (hM : ∀ k, k < 5 → M k ≤ 5) (K : ∀ r, r ≤ 5 → (t ≤ 5 → (t ≤ r ↔ ∀ k, t ≤ k → k < 5 → t ≤ M k)) → post (nI r)) : ∀ d j r, j + d = 5 → t ≤ j → r ≤ 5 → (t ≤ 5 → (t ≤ r ↔ ∀ k, t ≤ k → k < j → t ≤ M k)) →
    wX_lowestFrom_4 post (nI L) (nI H) (nI D) 512 (nI V) (nI Q) (nI S) (nI b) (nI mv) (nI ch) mem (ob_f own) (ob_f sz) (ob_f cl) (ob_f xp) (ob_f P) (ob_f (ob_b P D)) (ob_f U) (ob_f M) (ob_f q) (ob_f tg) (d + 1) (nI r) (nI j) := by
  intro d
  induction d with
  | zero =>
    intro j r hj ht hr hi
    have e : j = 5 := by omega
    subst e
    exact pk_le 5 5 (fun _ => K r hr hi) (fun z => absurd z (by omega))
  | succ d ih =>
    intro j r hj ht hr hi
    have m := hM j (by omega)
    refine pk_le 5 j (fun z => absurd z (by omega)) (fun _ => ⟨pk_in j 5 (by omega), pk_le r (M j) (fun w => nm_r (nI_1 j) (ih (j + 1) r (by omega) (by omega) hr ?_)) (fun w => ⟨pk_in j 5 (by omega), nm_r (ob_r (by omega)) (nm_r (nI_1 j) (ih (j + 1) (M j) (by omega) (by omega) m ?_))⟩) rfl (ob_r (by omega))⟩)
    · intro h5
      rw [hi h5]
      constructor
      · intro h k h1 h2
        by_cases e : k = j
        · subst e
          have := (hi h5).mpr h
          omega
        · exact h k h1 (by omega)
      · intro h k h1 h2
        exact h k h1 (by omega)
    · intro h5
      constructor
      · intro h k h1 h2
        by_cases e : k = j
        · subst e; exact h
        · exact (hi h5).mp (by omega) k h1 (by omega)
      · intro h
        exact h j ht (by omega)
theorem xw_low {post : Int32 → Prop} {t : Nat} (ht : t ≤ 5) (hM : ∀ k, k < 5 → M k ≤ 5) (K1 : (∀ k, t ≤ k → k < 5 → t ≤ M k) → ∀ r, t ≤ r → r ≤ 5 → post (nI r)) (K0 : ¬ (∀ k, t ≤ k → k < 5 → t ≤ M k) → ∀ r, r < t → post (nI r)) :
    wpX_lowestFrom post (ob_X L H D V Q S b mv ch mem own sz cl xp P U M q tg) (nI t) := by
  unfold wpX_lowestFrom; dsimp only
  refine ⟨_, xw_low_lp (t := t) hM (fun r hr hi => ?_) (5 - t) t 5 (by omega) (Nat.le_refl t) (Nat.le_refl 5) (fun _ => ⟨fun _ k h1 h2 => absurd h1 (by omega), fun _ => ht⟩)⟩
  by_cases h : t ≤ r
  · exact K1 ((hi ht).mp h) r h hr
  · exact K0 (fun z => h ((hi ht).mpr z)) r (by omega)
/-- the boundary: the greatest t ≤ c whose suffix of buffers holds no kind below t -/
def ob_bnd (M : Nat → Nat) (c b : Nat) : Prop := b ≤ c ∧ (∀ k, b ≤ k → k < 5 → b ≤ M k) ∧ ∀ t, b < t → t ≤ c → ¬ (∀ k, t ≤ k → k < 5 → t ≤ M k)
theorem xw_bnd_lp {post : Int32 → Prop} {c t : Nat} (hc : c < 5) (hM : ∀ k, k < 5 → M k ≤ 5) (hb : ob_bnd M c t) (K : post (nI t)) : ∀ d j, t + d = j → j ≤ c →
    wX_findBoundary_2 post (nI L) (nI H) (nI D) 512 (nI V) (nI Q) (nI S) (nI b) (nI mv) (nI ch) mem (ob_f own) (ob_f sz) (ob_f cl) (ob_f xp) (ob_f P) (ob_f (ob_b P D)) (ob_f U) (ob_f M) (ob_f q) (ob_f tg) (d + 1) (nI j) := by
  intro d
  induction d with
  | zero =>
    intro j hj hjc
    have e : j = t := by omega
    subst e
    refine pk_le j 0 (fun z => ?_) (fun _ => ?_)
    · have e : j = 0 := by omega
      subst e; exact K
    · refine xw_low (by omega) hM (fun _ r h1 h2 => ?_) (fun h => absurd hb.2.1 h)
      exact pk_lt r j (fun z => absurd z (by omega)) (fun _ => K)
  | succ d ih =>
    intro j hj hjc
    obtain ⟨i, rfl⟩ : ∃ i, j = i + 1 := ⟨j - 1, by omega⟩
    refine pk_le (i + 1) 0 (fun z => absurd z (by omega)) (fun _ => ?_)
    refine xw_low (by omega) hM (fun h => absurd h (hb.2.2 (i + 1) (by omega) hjc)) (fun _ r h1 => ?_)
    exact pk_lt r (i + 1) (fun _ => nm_r (pk_m1 i) (ih i (by omega) (by omega))) (fun z => absurd z (by omega))
theorem xw_bnd {post : Int32 → Prop} {c t : Nat} (hc : c < 5) (hM : ∀ k, k < 5 → M k ≤ 5) (hb : ob_bnd M c t) (K : post (nI t)) : wpX_findBoundary post (ob_X L H D V Q S b mv ch mem own sz cl xp P U M q tg) (nI c) := by
  unfold wpX_findBoundary; dsimp only
  exact ⟨_, xw_bnd_lp hc hM hb K (c - t) c (by have := hb.1; omega) (Nat.le_refl c)⟩
theorem xw_used_lp {post : Int32 → Prop} : ∀ d j r, j + d = 5 → post (nI (r + ob_rs U j d)) → wX_usedFrom_4 post (nI L) (nI H) (nI D) 512 (nI V) (nI Q) (nI S) (nI b) (nI mv) (nI ch) mem (ob_f own) (ob_f sz) (ob_f cl) (ob_f xp) (ob_f P) (ob_f (ob_b P D)) (ob_f U) (ob_f M) (ob_f q) (ob_f tg) (d + 1) (nI r) (nI j) := by
  intro d
  induction d with
  | zero =>
    intro j r hj K
    have e : j = 5 := by omega
    subst e
    exact pk_le 5 5 (fun _ => K) (fun z => absurd z (by omega))
  | succ d ih =>
    intro j r hj K
    refine pk_le 5 j (fun z => absurd z (by omega)) (fun _ => ⟨pk_in j 5 (by omega), nm_r (e' := nI (r + U j)) ?_ (nm_r (nI_1 j) (ih (j + 1) (r + U j) (by omega) ?_))⟩)
    · rw [ob_r (by omega), nI_add]
    · rw [Nat.add_assoc]; exact K
theorem xw_used {post : Int32 → Prop} {t : Nat} (ht : t ≤ 5) (K : post (nI (ob_rs U t (5 - t)))) : wpX_usedFrom post (ob_X L H D V Q S b mv ch mem own sz cl xp P U M q tg) (nI t) := by
  unfold wpX_usedFrom; dsimp only
  exact ⟨_, xw_used_lp (5 - t) t 0 (by omega) (by rw [Nat.zero_add]; exact K)⟩
end
end
section
/-! X's storing methods but the flush -/
theorem ob_mv_fl {f : Nat → Nat} {t fr j x n : Nat} (hj : j < n) (hd : t + n ≤ fr ∨ fr + n ≤ t) :
    ob_u (ob_u (ob_fl (ob_fl f t j x) fr j 0) (t + j) x) (fr + j) 0 = ob_fl (ob_fl f t (j + 1) x) fr (j + 1) 0 := by
  have e : ob_u (ob_fl (ob_fl f t j x) fr j 0) (t + j) x = ob_fl (ob_fl f t (j + 1) x) fr j 0 := by
    rw [← ob_fl1 (f := f)]
    funext a
    by_cases w : fr ≤ a ∧ a < fr + j
    · rw [ob_fl_i w.1 w.2, ob_un (by omega), ob_fl_i w.1 w.2]
    · rw [ob_fl_o (a := a) (t := fr) (by omega)]
      by_cases z : a = t + j
      · rw [z, ob_us, ob_us]
      · rw [ob_un z, ob_un z, ob_fl_o (a := a) (t := fr) (by omega)]
  rw [e, ob_fl1]
section
variable {L H D V Q S b mv ch : Nat} {mem : Nat → Int32} {own sz cl xp P U M q tg : Nat → Nat}

theorem xw_create_lp {post : SX → Prop} {h n t : Nat} {v : Int32} (hn : n ≤ 16) (ht : t + n ≤ 768) (K : post (ob_X L H D V Q S b mv ch (ob_wr mem t n (fun i => (v + nI i) &&& 65535)) (ob_fl own t n (h + 1)) sz cl xp P U M q tg)) : ∀ d j, j + d = n →
    wX_create_38 post (nI h) (nI n) (nI t) v (nI L) (nI H) (nI D) 512 (nI V) (nI Q) (nI S) (nI b) (nI mv) (nI ch) (d + 1) (nI j) (ob_wr mem t j (fun i => (v + nI i) &&& 65535)) (ob_f (ob_fl own t j (h + 1))) (ob_f sz) (ob_f cl) (ob_f xp) (ob_f P) (ob_f (ob_b P D)) (ob_f U) (ob_f M) (ob_f q) (ob_f tg) := by
  intro d
  induction d with
  | zero =>
    intro j hj
    have e : j = n := by omega
    subst e
    exact pk_le j j (fun _ => K) (fun z => absurd z (by omega))
  | succ d ih =>
    intro j hj
    refine pk_le n j (fun z => absurd z (by omega)) (fun _ => ⟨pk_in (t + j) 768 (by omega) (nI_add t j), nm_r (e' := ob_wr mem t (j + 1) (fun i => (v + nI i) &&& 65535)) ?_ ⟨pk_in (t + j) 768 (by omega) (nI_add t j), nm_r (e' := ob_f (ob_fl own t (j + 1) (h + 1))) ?_ (nm_r (nI_1 j) (ih (j + 1) (by omega)))⟩⟩)
    · rw [nI_add, nI_clamp (by omega)]
      exact ob_wr1 (g := fun i => (v + nI i) &&& 65535)
    · rw [nI_add, nI_1, ob_w (by omega), ob_fl1]
theorem xw_create {post : SX → Prop} {h n t : Nat} {v : Int32} (hh : h < 16) (hn : n ≤ 16) (ht : t + n ≤ 768)
    (K : post (ob_X L H D (V + n) Q S b mv ch (ob_wr mem t n (fun i => (v + nI i) &&& 65535)) (ob_fl own t n (h + 1)) (ob_u sz h n) (ob_u cl h (ob_cls n)) (ob_u xp h t) P U M q tg)) : wpX_create post (ob_X L H D V Q S b mv ch mem own sz cl xp P U M q tg) (nI h) (nI n) (nI t) v := by
  unfold wpX_create; dsimp only
  refine ⟨pk_in h 16 hh, nm_r (ob_w (by omega)) ?_⟩
  refine xw_cls hn ?_
  refine ⟨pk_in h 16 hh, nm_r (ob_w (by omega)) ⟨pk_in h 16 hh, nm_r (ob_w (by omega)) (nm_r (nI_add V n) ?_)⟩⟩
  have l := xw_create_lp (post := post) (h := h) (v := v) (mem := mem) (own := own) hn ht K n 0 (by omega)
  rw [ob_wr0, ob_fl0] at l
  exact ⟨_, l⟩
theorem xw_destroy_lp {post : SX → Prop} {h n t : Nat} (hh : h < 16) (hn : n ≤ 16) (ht : t + n ≤ 768) (hV : n ≤ V) (K : post (ob_X L H D (V - n) Q S b mv ch mem (ob_fl own t n 0) (ob_u sz h 0) cl xp P U M q tg)) : ∀ d j, j + d = n →
    wX_destroy_17 post (nI h) (nI n) (nI t) (nI L) (nI H) (nI D) 512 (nI V) (nI Q) (nI S) (nI b) (nI mv) (nI ch) (d + 1) (nI j) mem (ob_f (ob_fl own t j 0)) (ob_f sz) (ob_f cl) (ob_f xp) (ob_f P) (ob_f (ob_b P D)) (ob_f U) (ob_f M) (ob_f q) (ob_f tg) := by
  intro d
  induction d with
  | zero =>
    intro j hj
    have e : j = n := by omega
    subst e
    exact pk_le j j (fun _ => nm_r (pk_sub hV) ⟨pk_in h 16 hh, nm_r (ob_w (x := 0) (by omega)) K⟩) (fun z => absurd z (by omega))
  | succ d ih =>
    intro j hj
    refine pk_le n j (fun z => absurd z (by omega)) (fun _ => ⟨pk_in (t + j) 768 (by omega) (nI_add t j), nm_r (e' := ob_f (ob_fl own t (j + 1) 0)) ?_ (nm_r (nI_1 j) (ih (j + 1) (by omega)))⟩)
    rw [nI_add]
    exact (ob_w (x := 0) (by omega)).trans (congrArg ob_f ob_fl1)
theorem xw_destroy {post : SX → Prop} {h : Nat} (hh : h < 16) (hn : sz h ≤ 16) (ht : xp h + sz h ≤ 768) (hV : sz h ≤ V)
    (K : post (ob_X L H D (V - sz h) Q S b mv ch mem (ob_fl own (xp h) (sz h) 0) (ob_u sz h 0) cl xp P U M q tg)) : wpX_destroy post (ob_X L H D V Q S b mv ch mem own sz cl xp P U M q tg) (nI h) := by
  unfold wpX_destroy; dsimp only
  refine ⟨pk_in h 16 hh, nm_r (ob_r (by omega)) ⟨pk_in h 16 hh, nm_r (ob_r (by omega)) ?_⟩⟩
  have l := xw_destroy_lp (post := post) (h := h) (own := own) hh hn ht hV K (sz h) 0 (by omega)
  rw [ob_fl0] at l
  exact ⟨_, l⟩
theorem xw_move_lp {post : SX → Prop} {h n t fr : Nat} (hh : h < 16) (hn : n ≤ 16) (ht : t + n ≤ 768) (hf : fr + n ≤ 768) (hd : t + n ≤ fr ∨ fr + n ≤ t)
    (K : post (ob_X L H D V Q S b mv ch (ob_wr mem t n (fun i => mem (fr + i))) (ob_fl (ob_fl own t n (h + 1)) fr n 0) sz cl (ob_u xp h t) P U M q tg)) : ∀ d j, j + d = n →
    wX_move_24 post (nI h) (nI t) (nI fr) (nI n) (nI L) (nI H) (nI D) 512 (nI V) (nI Q) (nI S) (nI b) (nI mv) (nI ch) (d + 1) (nI j) (ob_wr mem t j (fun i => mem (fr + i))) (ob_f (ob_fl (ob_fl own t j (h + 1)) fr j 0)) (ob_f sz) (ob_f cl) (ob_f xp) (ob_f P) (ob_f (ob_b P D)) (ob_f U) (ob_f M) (ob_f q) (ob_f tg) := by
  intro d
  induction d with
  | zero =>
    intro j hj
    have e : j = n := by omega
    subst e
    exact pk_le j j (fun _ => ⟨pk_in h 16 hh, nm_r (ob_w (by omega)) K⟩) (fun z => absurd z (by omega))
  | succ d ih =>
    intro j hj
    refine pk_le n j (fun z => absurd z (by omega)) (fun _ => ⟨pk_in (fr + j) 768 (by omega) (nI_add fr j), pk_in (t + j) 768 (by omega) (nI_add t j), nm_r (e' := ob_wr mem t (j + 1) (fun i => mem (fr + i))) ?_
      ⟨pk_in (t + j) 768 (by omega) (nI_add t j), nm_r (e' := ob_f (ob_u (ob_fl (ob_fl own t j (h + 1)) fr j 0) (t + j) (h + 1))) ?_ ⟨pk_in (fr + j) 768 (by omega) (nI_add fr j), nm_r (e' := ob_f (ob_fl (ob_fl own t (j + 1) (h + 1)) fr (j + 1) 0)) ?_ (nm_r (nI_1 j) (ih (j + 1) (by omega)))⟩⟩⟩)
    · rw [nI_add, nI_add, nI_clamp (by omega), nI_clamp (by omega), ob_wr_o (a := fr + j) (by omega)]
      exact ob_wr1 (g := fun i => mem (fr + i))
    · rw [nI_add, nI_1, ob_w (by omega)]
    · rw [nI_add]
      exact (ob_w (x := 0) (by omega)).trans (congrArg ob_f (ob_mv_fl (n := n) (by omega) hd))
theorem xw_move {post : SX → Prop} {h t : Nat} (hh : h < 16) (hn : sz h ≤ 16) (ht : t + sz h ≤ 768) (hf : xp h + sz h ≤ 768) (hd : t ≠ xp h → t + sz h ≤ xp h ∨ xp h + sz h ≤ t)
    (K0 : xp h = t → post (ob_X L H D V Q S b mv ch mem own sz cl xp P U M q tg)) (K : xp h ≠ t → post (ob_X L H D V Q S b mv ch (ob_wr mem t (sz h) (fun i => mem (xp h + i))) (ob_fl (ob_fl own t (sz h) (h + 1)) (xp h) (sz h) 0) sz cl (ob_u xp h t) P U M q tg)) : wpX_move post (ob_X L H D V Q S b mv ch mem own sz cl xp P U M q tg) (nI h) (nI t) := by
  unfold wpX_move; dsimp only
  refine ⟨pk_in h 16 hh, nm_r (ob_r (by omega)) (pk_eq (xp h) t K0 (fun e => ⟨pk_in h 16 hh, nm_r (ob_r (by omega)) ?_⟩))⟩
  have l := xw_move_lp (post := post) (h := h) (mem := mem) (own := own) hh hn ht hf (hd (fun z => e z.symm)) (K e) (sz h) 0 (by omega)
  rw [ob_wr0, ob_fl0, ob_fl0] at l
  exact ⟨_, l⟩
theorem xw_item {post : SX → Prop} {k n c : Nat} (hk : k < 5) (hc : c < 5) (hM : M k ≤ 5) (K : post (ob_X L H D V Q S b mv ch mem own sz cl xp P (ob_u U k (U k + n)) (ob_u M k (min (M k) c)) q tg)) : wpX_addItem post (ob_X L H D V Q S b mv ch mem own sz cl xp P U M q tg) (nI k) (nI n) (nI c) := by
  unfold wpX_addItem; dsimp only
  refine ⟨pk_in k 5 hk, pk_in k 5 hk, nm_r (e' := ob_f (ob_u U k (U k + n))) ?_ ⟨pk_in k 5 hk, pk_le (M k) c (fun z => ?_) (fun z => ⟨pk_in k 5 hk, nm_r (ob_w (by omega)) ?_⟩) (ob_r (by omega))⟩⟩
  · rw [ob_r (by omega), nI_add, ob_w (by omega)]
  · rw [Nat.min_eq_left z, ob_ux] at K
    exact K
  · rw [Nat.min_eq_right (by omega)] at K
    exact K
theorem xw_slot {post : Int32 → Prop} {h : Nat} (K : post (nI (512 + 16 * h))) : wpX_stagingSlot post (ob_X L H D V Q S b mv ch mem own sz cl xp P U M q tg) (nI h) := by
  unfold wpX_stagingSlot; dsimp only
  have e : (512 : Int32) + 16 * nI h = nI (512 + 16 * h) := by
    have e1 : (16 : Int32) * nI h = nI (16 * h) := pk_mul 16 h
    rw [e1]
    exact nI_add 512 (16 * h)
  rw [e]
  exact K
end
end
section
/-! X's flush -/
section
variable {L H D V Q S b mv ch : Nat} {mem : Nat → Int32} {own sz cl xp P U M q tg : Nat → Nat}

theorem ob_divu {P : Nat → Nat} {D k v : Nat} : ob_u (ob_b P D) k (v / D) = ob_b (ob_u P k v) D := by
  funext j
  by_cases e : j = k
  · rw [e, ob_us]
    show v / D = ob_u P k v k / D
    rw [ob_us]
  · rw [ob_un e]
    show P j / D = ob_u P k v j / D
    rw [ob_un e]
theorem xw_reset {post : SX → Prop} {k v : Nat} (hk : k < 5) (hv : v ≤ 256) (hD : 2 ≤ D) (hD4 : D ≤ 4) (K : post (ob_X L H D V Q S b mv ch mem own sz cl xp (ob_u P k v) (ob_u U k 0) (ob_u M k 5) q tg)) : wpX_resetRegion post (ob_X L H D V Q S b mv ch mem own sz cl xp P U M q tg) (nI k) (nI v) := by
  unfold wpX_resetRegion; dsimp only
  refine ⟨pk_in k 5 hk, nm_r (ob_w (by omega)) ⟨nI_ne0 (by omega) (by omega), pk_in k 5 hk, nm_r (e' := ob_f (ob_b (ob_u P k v) D)) ?_ ⟨pk_in k 5 hk, nm_r (ob_w (x := 0) (by omega)) ⟨pk_in k 5 hk, nm_r (ob_w (x := 5) (by omega)) K⟩⟩⟩⟩
  rw [pk_div (by omega) (by omega) (by omega), ob_w (by omega), ob_divu]
theorem xw_enq_lp {post : Int32 → SX → Prop} {B k s0 : Nat} {P0 : Nat → Nat} (hB : B ≤ k) (hk : k < 5) (hH : H ≤ 16) (hs0 : s0 = ob_st (ob_PP B H 5 P0 sz) D k) (h16 : ∀ i, i < H → sz i ≤ 16)
    (hcl : ∀ i, i < H → 0 < sz i → cl i = ob_cls (sz i))
    (K : ∀ q', ob_qu B H sz q' k H → post (nI (ob_vs sz k H)) (ob_X L H D V (ob_ct B H sz k H) S b mv ch mem own sz cl xp P U M q' (ob_pt B H D P0 sz tg k H))) : ∀ d h q, h + d = H → ob_qu B H sz q k h →
    wX_enqueueClass_5 post (nI k) (nI s0) (nI L) (nI H) (nI D) 512 (nI V) (nI S) (nI b) (nI mv) (nI ch) (d + 1) (nI (s0 + ob_vs sz k h)) (nI h) (nI (ob_ct B H sz k h)) mem (ob_f own) (ob_f sz) (ob_f cl) (ob_f xp) (ob_f P) (ob_f (ob_b P D)) (ob_f U) (ob_f M) (ob_f q) (ob_f (ob_pt B H D P0 sz tg k h)) := by
  intro d
  induction d with
  | zero =>
    intro h q hh hq
    have e : h = H := by omega
    subst e
    refine pk_le h h (fun _ => ?_) (fun z => absurd z (by omega))
    rw [pk_sub (Nat.le_add_right _ _), Nat.add_sub_cancel_left]
    exact K q hq
  | succ d ih =>
    intro h q hh hq
    have z16 := h16 h (by omega)
    refine pk_le H h (fun z => absurd z (by omega)) (fun _ => ⟨pk_in h 16 (by omega), pk_le (sz h) 0 (fun z => nm_r (nI_1 h) ?_) (fun z => ⟨pk_in h 16 (by omega), pk_eq (cl h) k (fun e => ?_) (fun e => nm_r (nI_1 h) ?_) (ob_r (by omega)) rfl ?_ (by omega)⟩) (ob_r (by omega))⟩)
    · have n : sz h = 0 ∨ ob_cls (sz h) ≠ k := Or.inl (by omega)
      have l := ih (h + 1) q (by omega) (ob_qu_c (ob_met_sn n) hq)
      rw [ob_vs_n n, ← ob_ct_c (ob_met_sn n), ← ob_pt_c (ob_met_sn n)] at l
      exact l
    · have e' : ob_cls (sz h) = k := by rw [← hcl h (by omega) z]; exact e
      have l := ih (h + 1) (ob_u q (ob_ct B H sz k h) h) (by omega) (ob_qu_s hH (by omega) z hB e' hq)
      have c1 := ob_ct_s hH (by omega) z hB e'
      have c2 : ob_ct B H sz k (h + 1) ≤ 16 := ob_ct_16
      have en : s0 + ob_vs sz k h = ob_nl B H D P0 sz h := by
        unfold ob_nl
        rw [e', hs0]
      refine ⟨pk_in h 16 (by omega), nm_r (e' := ob_f (ob_pt B H D P0 sz tg k (h + 1))) ?_ ⟨pk_in (ob_ct B H sz k h) 16 (by omega), nm_r (ob_w (by omega)) (nm_r (e' := nI (ob_ct B H sz k (h + 1))) ?_ ⟨pk_in h 16 (by omega), nm_r (e' := nI (s0 + ob_vs sz k (h + 1))) ?_ (nm_r (nI_1 h) l)⟩)⟩⟩
      · rw [en, ob_w (by omega), ob_pt_s (by omega) z hB e']
      · rw [nI_1, c1]
      · rw [ob_r (by omega), nI_add, ob_vs_y e', Nat.add_assoc]
    · have n : sz h = 0 ∨ ob_cls (sz h) ≠ k := Or.inr (by rw [← hcl h (by omega) z]; exact e)
      have l := ih (h + 1) q (by omega) (ob_qu_c (ob_met_sn n) hq)
      rw [ob_vs_n n, ← ob_ct_c (ob_met_sn n), ← ob_pt_c (ob_met_sn n)] at l
      exact l
    · have := ob_cls5 (sz h)
      rw [hcl h (by omega) z]
      omega
theorem xw_enq {post : Int32 → SX → Prop} {B k s0 : Nat} {P0 : Nat → Nat} (hB : B ≤ k) (hk : k < 5) (hH : H ≤ 16) (hs0 : s0 = ob_st (ob_PP B H 5 P0 sz) D k) (h16 : ∀ i, i < H → sz i ≤ 16)
    (hcl : ∀ i, i < H → 0 < sz i → cl i = ob_cls (sz i)) (hq : ob_qu B H sz q k 0)
    (K : ∀ q', ob_qu B H sz q' (k + 1) 0 → post (nI (ob_vs sz k H)) (ob_X L H D V (ob_ct B H sz (k + 1) 0) S b mv ch mem own sz cl xp P U M q' (ob_pt B H D P0 sz tg (k + 1) 0))) :
    wpX_enqueueClass post (ob_X L H D V (ob_ct B H sz k 0) S b mv ch mem own sz cl xp P U M q (ob_pt B H D P0 sz tg k 0)) (nI k) (nI s0) := by
  unfold wpX_enqueueClass; dsimp only
  have l := xw_enq_lp (post := post) (L := L) (V := V) (S := S) (b := b) (mv := mv) (ch := ch) (mem := mem) (own := own) (xp := xp) (P := P) (U := U) (M := M) (tg := tg) hB hk hH hs0 h16 hcl (fun q' hq' => by
    rw [ob_ct_c (fun i => ob_met_n (i := i)), ob_pt_c (fun i => ob_met_n (i := i))]
    exact K q' (ob_qu_c (fun i => ob_met_n (i := i)) hq')) H 0 q (by omega) hq
  exact ⟨_, l⟩
theorem xw_plan_lp {post : SX → Prop} {B : Nat} (hD : 2 ≤ D) (hD4 : D ≤ 4) (hH : H ≤ 16) (h192 : ob_st (ob_PP B H 5 P sz) D 5 ≤ 192) (h16 : ∀ i, i < H → sz i ≤ 16)
    (hcl : ∀ i, i < H → 0 < sz i → cl i = ob_cls (sz i))
    (K : ∀ q', ob_qu B H sz q' 5 0 → post (ob_X L H D V (ob_ct B H sz 5 0) S b (ob_mv B H sz 5) ch mem own sz cl xp (ob_PP B H 5 P sz) (ob_rs2 B 5 0 U) (ob_rs2 B 5 5 M) q' (ob_pt B H D P sz tg 5 0))) : ∀ d k q, k + d = 5 → B ≤ k → ob_qu B H sz q k 0 →
    wX_planLayout_24 post (d + 1) (nI (ob_st (ob_PP B H 5 P sz) D k)) (nI k) (nI L) (nI H) (nI D) 512 (nI V) (nI (ob_ct B H sz k 0)) (nI S) (nI b) (nI (ob_mv B H sz k)) (nI ch) mem (ob_f own) (ob_f sz) (ob_f cl) (ob_f xp) (ob_f (ob_PP B H k P sz)) (ob_f (ob_b (ob_PP B H k P sz) D)) (ob_f (ob_rs2 B k 0 U)) (ob_f (ob_rs2 B k 5 M)) (ob_f q) (ob_f (ob_pt B H D P sz tg k 0)) := by
  intro d
  induction d with
  | zero =>
    intro k q hk hB hq
    have e : k = 5 := by omega
    subst e
    exact pk_le 5 5 (fun _ => K q hq) (fun z => absurd z (by omega))
  | succ d ih =>
    intro k q hk hB hq
    have s := ob_st_in (ob_PP B H 5 P sz) D (k := k) (n := 5) (by omega)
    have s2 : ob_PP B H 5 P sz k = ob_vs sz k H := ob_PP_y hB (by omega)
    refine pk_le 5 k (fun z => absurd z (by omega)) (fun _ => ?_)
    refine xw_enq (P0 := P) hB (by omega) hH rfl h16 hcl hq (fun q' hq' => ?_)
    refine nm_r (e' := nI (ob_mv B H sz (k + 1))) (by rw [nI_add, ob_mv_s hB]) ?_
    refine xw_reset (by omega) (by omega) hD hD4 ?_
    rw [ob_PP_s hB, ob_rs2_s hB, ob_rs2_s hB]
    refine ⟨pk_in k 5 (by omega), nm_r (e' := nI (ob_st (ob_PP B H 5 P sz) D (k + 1))) ?_ (nm_r (nI_1 k) (ih (k + 1) q' (by omega) (by omega) hq'))⟩
    have eb : ob_b (ob_PP B H (k + 1) P sz) D k = ob_vs sz k H / D := by
      show ob_PP B H (k + 1) P sz k / D = _
      rw [ob_PP_y hB (by omega)]
    rw [ob_r (by omega), eb, nI_add, nI_add, ob_PP_st1 hB (by omega)]
theorem xw_plan {post : SX → Prop} (hb5 : b ≤ 5) (hD : 2 ≤ D) (hD4 : D ≤ 4) (hH : H ≤ 16) (hP : ob_st P D 5 ≤ 256) (h192 : ob_st (ob_PP b H 5 P sz) D 5 ≤ 192) (h16 : ∀ i, i < H → sz i ≤ 16)
    (hcl : ∀ i, i < H → 0 < sz i → cl i = ob_cls (sz i))
    (K : ∀ q', ob_qu b H sz q' 5 0 → post (ob_X L H D V (ob_ct b H sz 5 0) S b (ob_mv b H sz 5) ch mem own sz cl xp (ob_PP b H 5 P sz) (ob_rs2 b 5 0 U) (ob_rs2 b 5 5 M) q' (ob_pt b H D P sz tg 5 0))) : wpX_planLayout post (ob_X L H D V Q S b mv ch mem own sz cl xp P U M q tg) := by
  unfold wpX_planLayout; dsimp only
  refine xw_start (Q := 0) (mv := 0) hb5 hP ?_
  have l := xw_plan_lp (post := post) (L := L) (V := V) (S := S) (b := b) (ch := ch) (mem := mem) (own := own) (xp := xp) (P := P) (U := U) (M := M) (tg := tg) (B := b) hD hD4 hH h192 h16 hcl K (5 - b) b q (by omega) (Nat.le_refl b) ob_qu_0
  rw [ob_stB (Nat.le_refl b), ob_ct_0, ob_mv_0, ob_PP_0, ob_rs2_0, ob_rs2_0, ob_pt_0] at l
  exact ⟨_, l⟩
theorem xw_flush {post : SX → Prop} {n c B : Nat} (hc : c < 5) (hb : ob_bnd M c B) (hM : ∀ k, k < 5 → M k ≤ 5) (hD : 2 ≤ D) (hD4 : D ≤ 4) (hH : H ≤ 16) (hP : ob_st P D 5 ≤ 256) (h192 : ob_st (ob_PP B H 5 P sz) D 5 ≤ 192) (h16 : ∀ i, i < H → sz i ≤ 16)
    (hcl : ∀ i, i < H → 0 < sz i → cl i = ob_cls (sz i))
    (K : ∀ q', ob_qu B H sz q' 5 0 → post (ob_X L H D V (ob_ct B H sz 5 0) (2 * ob_ct B H sz 5 0) B (ob_mv B H sz 5) (n + ob_rs U B (5 - B)) mem own sz cl xp (ob_PP B H 5 P sz) (ob_rs2 B 5 0 U) (ob_rs2 B 5 5 M) q' (ob_pt B H D P sz tg 5 0))) :
    wpX_startFlush post (ob_X L H D V Q S b mv ch mem own sz cl xp P U M q tg) (nI n) (nI c) := by
  unfold wpX_startFlush; dsimp only
  have hB5 : B ≤ 5 := by have := hb.1; omega
  refine xw_bnd hc hM hb ?_
  refine xw_used hB5 ?_
  refine nm_r (nI_add _ _) ?_
  refine xw_plan hB5 hD hD4 hH hP h192 h16 hcl (fun q' hq' => ?_)
  exact nm_r (pk_mul 2 _) (K q' hq')
end
end
section
/-! X's objects in memory, the flush under way, its steps -/
/-- each live object's words and owner marks stand at its place; nobody else's marks do -/
def ob_O (H : Nat) (mem : Nat → Int32) (own xp sz : Nat → Nat) (wd : Nat → Int32) : Prop :=
  (∀ h i, h < H → i < sz h → xp h + i < 768 ∧ own (xp h + i) = h + 1 ∧ mem (xp h + i) = wd (16 * h + i)) ∧
  (∀ a, a < 768 → own a ≠ 0 → ∃ h, h < H ∧ own a = h + 1 ∧ xp h ≤ a ∧ a < xp h + sz h)
/-- where X's objects are while a flush is under way -/
def ob_F (H S Q b lo : Nat) (q tg xp pl sz : Nat → Nat) : Prop :=
  (∀ h, h < H → 0 < sz h → xp h = 512 + 16 * h ∨ xp h + sz h ≤ 512) ∧
  (∀ h, h < H → 0 < sz h → (S = 0 ∨ ob_cls (sz h) < b) → xp h = pl h) ∧
  S ≤ 2 * Q ∧ Q ≤ 16 ∧
  (0 < S → (∀ h, h < H → 0 < sz h → b ≤ ob_cls (sz h) → ∃ i, i < Q ∧ q i = h) ∧
    (∀ i, i < Q → q i < H ∧ 0 < sz (q i) ∧ tg (q i) = pl (q i) ∧ b ≤ ob_cls (sz (q i))) ∧
    (∀ i j, i < j → j < Q → q i ≠ q j) ∧
    (Q ≤ S → ∀ i, i + S < 2 * Q → xp (q i) = 512 + 16 * q i) ∧
    (S ≤ Q → ∀ i, i < Q → (i + S < Q → xp (q i) = pl (q i)) ∧ (Q ≤ i + S → xp (q i) = 512 + 16 * q i)) ∧
    (∀ h, h < H → 0 < sz h → b ≤ ob_cls (sz h) → lo ≤ xp h))
theorem ob_O_end {H h : Nat} {mem wd : Nat → Int32} {own xp sz : Nat → Nat} (hO : ob_O H mem own xp sz wd) (hh : h < H) (hz : 0 < sz h) : xp h + sz h ≤ 768 := by
  have a := (hO.1 h (sz h - 1) hh (by omega)).1
  omega
theorem ob_O_dis {H h t : Nat} {mem wd : Nat → Int32} {own xp sz : Nat → Nat} (hO : ob_O H mem own xp sz wd) (hh : h < H) (hf : ∀ i, i < sz h → own (t + i) = 0) : t + sz h ≤ xp h ∨ xp h + sz h ≤ t := by
  by_cases e : t + sz h ≤ xp h ∨ xp h + sz h ≤ t
  · exact e
  · exfalso
    rcases Nat.lt_or_ge t (xp h) with w | w
    · have a := hf (xp h - t) (by omega)
      have c := (hO.1 h 0 hh (by omega)).2.1
      rw [show t + (xp h - t) = xp h + 0 by omega] at a
      omega
    · have a := hf 0 (by omega)
      have c := (hO.1 h (t - xp h) hh (by omega)).2.1
      rw [show xp h + (t - xp h) = t + 0 by omega] at c
      omega
theorem ob_O_move {H h t : Nat} {mem wd : Nat → Int32} {own xp sz : Nat → Nat} (hO : ob_O H mem own xp sz wd) (hh : h < H) (ht : t + sz h ≤ 768) (hf : ∀ i, i < sz h → own (t + i) = 0) :
    ob_O H (ob_wr mem t (sz h) (fun i => mem (xp h + i))) (ob_fl (ob_fl own t (sz h) (h + 1)) (xp h) (sz h) 0) (ob_u xp h t) sz wd := by
  have dis := ob_O_dis hO hh hf
  have hf' : ∀ a, t ≤ a → a < t + sz h → own a = 0 := by
    intro a h1 h2
    have := hf (a - t) (by omega)
    rw [show t + (a - t) = a by omega] at this
    exact this
  have hx' : ∀ a, xp h ≤ a → a < xp h + sz h → own a = h + 1 := by
    intro a h1 h2
    have := (hO.1 h (a - xp h) hh (by omega)).2.1
    rw [show xp h + (a - xp h) = a by omega] at this
    exact this
  refine ⟨fun i j hi hj => ?_, fun a ha hne => ?_⟩
  · by_cases e : i = h
    · subst e
      rw [ob_us]
      refine ⟨by omega, ?_, ?_⟩
      · rw [ob_fl_o (by omega), ob_fl_i (by omega) (by omega)]
      · rw [ob_wr_i (by omega) (by omega), show t + j - t = j by omega]
        exact (hO.1 i j hi hj).2.2
    · rw [ob_un e]
      obtain ⟨a1, a2, a3⟩ := hO.1 i j hi hj
      have n1 : ¬ (t ≤ xp i + j ∧ xp i + j < t + sz h) := by
        intro z
        have := hf' _ z.1 z.2
        omega
      have n2 : ¬ (xp h ≤ xp i + j ∧ xp i + j < xp h + sz h) := by
        intro z
        have := hx' _ z.1 z.2
        omega
      refine ⟨a1, ?_, ?_⟩
      · rw [ob_fl_o (by omega), ob_fl_o (by omega)]; exact a2
      · rw [ob_wr_o (by omega)]; exact a3
  · by_cases w : xp h ≤ a ∧ a < xp h + sz h
    · rw [ob_fl_i w.1 w.2] at hne
      exact absurd rfl hne
    · rw [ob_fl_o (by omega)] at hne ⊢
      by_cases w2 : t ≤ a ∧ a < t + sz h
      · rw [ob_fl_i w2.1 w2.2]
        exact ⟨h, hh, rfl, by rw [ob_us]; exact w2.1, by rw [ob_us]; exact w2.2⟩
      · rw [ob_fl_o (by omega)] at hne ⊢
        obtain ⟨i, i1, i2, i3, i4⟩ := hO.2 a ha hne
        have e : i ≠ h := by
          intro e
          rw [e] at i3 i4
          exact w ⟨i3, i4⟩
        exact ⟨i, i1, i2, by rw [ob_un e]; exact i3, by rw [ob_un e]; exact i4⟩
/-- the placing half: one object goes to its new place -/
theorem ob_F_place {H S Q b lo : Nat} {q tg xp pl sz : Nat → Nat} (hF : ob_F H S Q b lo q tg xp pl sz) (hS : 0 < S) (hSQ : S ≤ Q) (he : pl (q (Q - S)) + sz (q (Q - S)) ≤ 512) (hl : lo ≤ pl (q (Q - S))) :
    ob_F H (S - 1) Q b lo q tg (ob_u xp (q (Q - S)) (pl (q (Q - S)))) pl sz := by
  obtain ⟨f1, f2, f3, f4, f5⟩ := hF
  obtain ⟨g1, g2, g3, g4, g5, g6⟩ := f5 hS
  have gi := g2 (Q - S) (by omega)
  have qne : ∀ i, i < Q → i ≠ Q - S → q i ≠ q (Q - S) := by
    intro i hi hne
    rcases Nat.lt_or_ge i (Q - S) with w | w
    · exact g3 i (Q - S) w (by omega)
    · exact fun z => g3 (Q - S) i (by omega) hi z.symm
  have pla : ∀ i, i < Q → i + (S - 1) < Q → ob_u xp (q (Q - S)) (pl (q (Q - S))) (q i) = pl (q i) := by
    intro i hi hlt
    by_cases e : i = Q - S
    · rw [e, ob_us]
    · rw [ob_un (qne i hi e)]
      exact (g5 hSQ i hi).1 (by omega)
  refine ⟨fun h hh hz => ?_, fun h hh hz hc => ?_, by omega, f4, fun hS1 => ⟨g1, g2, g3, fun hQ => ?_, fun _ i hi => ⟨pla i hi, fun hge => ?_⟩, fun h hh hz hc => ?_⟩⟩
  · by_cases e : h = q (Q - S)
    · rw [e, ob_us]
      exact Or.inr he
    · rw [ob_un e]
      exact f1 h hh hz
  · by_cases cb : ob_cls (sz h) < b
    · have e : h ≠ q (Q - S) := by
        intro e
        rw [e] at cb
        omega
      rw [ob_un e]
      exact f2 h hh hz (Or.inr cb)
    · obtain ⟨i, i1, i2⟩ := g1 h hh hz (by omega)
      have := pla i i1 (by omega)
      rw [i2] at this
      exact this
  · exact absurd hQ (by omega)
  · have e : i ≠ Q - S := by omega
    rw [ob_un (qne i hi e)]
    exact (g5 hSQ i hi).2 (by omega)
  · by_cases e : h = q (Q - S)
    · rw [e, ob_us]; exact hl
    · rw [ob_un e]; exact g6 h hh hz hc
/-- the evacuating half: one object goes to its slot -/
theorem ob_F_evac {H S Q b lo : Nat} {q tg xp pl sz : Nat → Nat} (hF : ob_F H S Q b lo q tg xp pl sz) (hS : 0 < S) (hSQ : Q < S) (hl : lo ≤ 512) :
    ob_F H (S - 1) Q b lo q tg (ob_u xp (q (2 * Q - S)) (512 + 16 * q (2 * Q - S))) pl sz := by
  obtain ⟨f1, f2, f3, f4, f5⟩ := hF
  obtain ⟨g1, g2, g3, g4, g5, g6⟩ := f5 hS
  have gi := g2 (2 * Q - S) (by omega)
  have qne : ∀ i, i < Q → i ≠ 2 * Q - S → q i ≠ q (2 * Q - S) := by
    intro i hi hne
    rcases Nat.lt_or_ge i (2 * Q - S) with w | w
    · exact g3 i (2 * Q - S) w (by omega)
    · exact fun z => g3 (2 * Q - S) i (by omega) hi z.symm
  have eva : ∀ i, i + (S - 1) < 2 * Q → ob_u xp (q (2 * Q - S)) (512 + 16 * q (2 * Q - S)) (q i) = 512 + 16 * q i := by
    intro i hlt
    by_cases e : i = 2 * Q - S
    · rw [e, ob_us]
    · rw [ob_un (qne i (by omega) e)]
      exact g4 (by omega) i (by omega)
  refine ⟨fun h hh hz => ?_, fun h hh hz hc => ?_, by omega, f4, fun hS1 => ⟨g1, g2, g3, fun _ => eva, fun hQ i hi => ⟨fun hlt => absurd hlt (by omega), fun hge => eva i (by omega)⟩, fun h hh hz hc => ?_⟩⟩
  · by_cases e : h = q (2 * Q - S)
    · rw [e, ob_us]
      exact Or.inl rfl
    · rw [ob_un e]
      exact f1 h hh hz
  · have cb : ob_cls (sz h) < b := by
      rcases hc with z | z
      · omega
      · exact z
    have e : h ≠ q (2 * Q - S) := by
      intro e
      rw [e] at cb
      omega
    rw [ob_un e]
    exact f2 h hh hz (Or.inr cb)
  · by_cases e : h = q (2 * Q - S)
    · rw [e, ob_us]; omega
    · rw [ob_un e]; exact g6 h hh hz hc
/-- the words of a slot are free, but for its own object -/
theorem ob_slot_free {H S Q b lo h : Nat} {mem wd : Nat → Int32} {own q tg xp pl sz : Nat → Nat} (hO : ob_O H mem own xp sz wd) (hF : ob_F H S Q b lo q tg xp pl sz) (hH : H ≤ 16) (h16 : ∀ i, i < H → sz i ≤ 16) (hh : h < H)
    (hne : 0 < sz h → xp h ≠ 512 + 16 * h) {n : Nat} (hn : n ≤ 16) : ∀ i, i < n → own (512 + 16 * h + i) = 0 := by
  intro i hi
  by_cases z : own (512 + 16 * h + i) = 0
  · exact z
  · exfalso
    obtain ⟨j, j1, j2, j3, j4⟩ := hO.2 _ (by omega) z
    have s := h16 j j1
    rcases hF.1 j j1 (by omega) with w | w
    · have e : j = h := by omega
      subst e
      exact hne (by omega) w
    · omega
/-- the words of a target are free -/
theorem ob_place_free {H S Q b lo : Nat} {mem wd : Nat → Int32} {own q tg xp pl sz : Nat → Nat} (hO : ob_O H mem own xp sz wd) (hF : ob_F H S Q b lo q tg xp pl sz) (hS : 0 < S) (hSQ : S ≤ Q)
    (hend : ∀ h, h < H → 0 < sz h → pl h + sz h ≤ 256)
    (hdis : ∀ h h', h < H → h' < H → h ≠ h' → 0 < sz h → 0 < sz h' → pl h + sz h ≤ pl h' ∨ pl h' + sz h' ≤ pl h) : ∀ i, i < sz (q (Q - S)) → own (pl (q (Q - S)) + i) = 0 := by
  intro i hi
  obtain ⟨f1, f2, f3, f4, f5⟩ := hF
  obtain ⟨g1, g2, g3, g4, g5, g6⟩ := f5 hS
  have gi := g2 (Q - S) (by omega)
  have ge := hend _ gi.1 gi.2.1
  by_cases z : own (pl (q (Q - S)) + i) = 0
  · exact z
  · exfalso
    obtain ⟨j, j1, j2, j3, j4⟩ := hO.2 _ (by omega) z
    have same : xp j = pl j → j ≠ q (Q - S) → False := by
      intro w ne
      have := hdis j (q (Q - S)) j1 gi.1 ne (by omega) gi.2.1
      omega
    by_cases cb : ob_cls (sz j) < b
    · refine same (f2 j j1 (by omega) (Or.inr cb)) ?_
      intro e
      rw [e] at cb
      omega
    · obtain ⟨m, m1, m2⟩ := g1 j j1 (by omega) (by omega)
      have w := g5 hSQ m m1
      rw [m2] at w
      by_cases lt : m + S < Q
      · refine same (w.1 lt) ?_
        intro e
        rw [← m2] at e
        exact g3 m (Q - S) (by omega) (by omega) e
      · have := w.2 (by omega)
        omega
section
variable {L H D V Q S b mv ch : Nat} {mem : Nat → Int32} {own sz cl xp P U M q tg : Nat → Nat}

theorem xw_adv {post : SX → Prop} {lo : Nat} {pl : Nat → Nat} {wd : Nat → Int32} (hH : H ≤ 16) (h16 : ∀ i, i < H → sz i ≤ 16) (hS : 0 < S) (hO : ob_O H mem own xp sz wd) (hF : ob_F H S Q b lo q tg xp pl sz)
    (hend : ∀ h, h < H → 0 < sz h → pl h + sz h ≤ 256)
    (hdis : ∀ h h', h < H → h' < H → h ≠ h' → 0 < sz h → 0 < sz h' → pl h + sz h ≤ pl h' ∨ pl h' + sz h' ≤ pl h)
    (hlo : ∀ h, h < H → 0 < sz h → b ≤ ob_cls (sz h) → lo ≤ pl h) (hlo5 : lo ≤ 512)
    (K : ∀ mem' own' xp', ob_O H mem' own' xp' sz wd → ob_F H (S - 1) Q b lo q tg xp' pl sz → post (ob_X L H D V Q (S - 1) b mv ch mem' own' sz cl xp' P U M q tg)) : wpX_advance post (ob_X L H D V Q S b mv ch mem own sz cl xp P U M q tg) := by
  have hSQ2 := hF.2.2.1
  have hQ16 := hF.2.2.2.1
  obtain ⟨g1, g2, g3, g4, g5, g6⟩ := hF.2.2.2.2 hS
  unfold wpX_advance; dsimp only
  refine nm_r (e' := nI (2 * Q - S)) (by
    have e : (2 : Int32) * nI Q = nI (2 * Q) := pk_mul 2 Q
    rw [e, pk_sub hSQ2]) (pk_le Q (2 * Q - S) (fun z => ?_) (fun z => ?_))
  · have ei : 2 * Q - S - Q = Q - S := by omega
    have gi := g2 (Q - S) (by omega)
    have ge := hend _ gi.1 gi.2.1
    have gz := h16 _ gi.1
    have gx := ob_O_end hO gi.1 gi.2.1
    have fr := ob_place_free hO hF hS (by omega) hend hdis
    refine ⟨pk_in (Q - S) 16 (by omega) (by rw [pk_sub (by omega), ei]), nm_r (e' := nI (q (Q - S))) (by rw [pk_sub (by omega), ei, ob_r (by omega)]) ⟨pk_in (q (Q - S)) 16 (by omega), ?_⟩⟩
    rw [ob_r (f := tg) (by omega), gi.2.2.1]
    refine xw_move (by omega) gz (by omega) gx (fun _ => ob_O_dis hO gi.1 fr) (fun e => ?_) (fun _ => ?_)
    · refine nm_r (pk_sub (b := 1) (by omega)) ?_
      have F := ob_F_place hF hS (by omega) (by omega) (hlo _ gi.1 gi.2.1 gi.2.2.2)
      rw [← e, ob_ux] at F
      exact K mem own xp hO F
    · exact nm_r (pk_sub (b := 1) (by omega)) (K _ _ _ (ob_O_move hO gi.1 (by omega) fr) (ob_F_place hF hS (by omega) (by omega) (hlo _ gi.1 gi.2.1 gi.2.2.2)))
  · have gi := g2 (2 * Q - S) (by omega)
    have gz := h16 _ gi.1
    have gx := ob_O_end hO gi.1 gi.2.1
    refine ⟨pk_in (2 * Q - S) 16 (by omega), nm_r (e' := nI (q (2 * Q - S))) (ob_r (by omega)) ?_⟩
    refine xw_slot ?_
    have fr : xp (q (2 * Q - S)) ≠ 512 + 16 * q (2 * Q - S) → ∀ i, i < sz (q (2 * Q - S)) → own (512 + 16 * q (2 * Q - S) + i) = 0 := fun ne => ob_slot_free hO hF hH h16 gi.1 (fun _ => ne) gz
    refine xw_move (by omega) gz (by omega) gx (fun ne => ob_O_dis hO gi.1 (fr (fun w => ne w.symm))) (fun e => ?_) (fun ne => ?_)
    · refine nm_r (pk_sub (b := 1) (by omega)) ?_
      have F := ob_F_evac hF hS (by omega) hlo5
      rw [← e, ob_ux] at F
      exact K mem own xp hO F
    · exact nm_r (pk_sub (b := 1) (by omega)) (K _ _ _ (ob_O_move hO gi.1 (by omega) (fr ne)) (ob_F_evac hF hS (by omega) hlo5))
theorem xw_step_lp {post : Int32 → SX → Prop} {lo : Nat} {pl : Nat → Nat} {wd : Nat → Int32} {c : Nat} (hc : c ≤ S) (hH : H ≤ 16) (hS32 : S ≤ 32) (h16 : ∀ i, i < H → sz i ≤ 16)
    (hend : ∀ h, h < H → 0 < sz h → pl h + sz h ≤ 256)
    (hdis : ∀ h h', h < H → h' < H → h ≠ h' → 0 < sz h → 0 < sz h' → pl h + sz h ≤ pl h' ∨ pl h' + sz h' ≤ pl h)
    (hlo : ∀ h, h < H → 0 < sz h → b ≤ ob_cls (sz h) → lo ≤ pl h) (hlo5 : lo ≤ 512)
    (K : ∀ mem' own' xp', ob_O H mem' own' xp' sz wd → ob_F H (S - c) Q b lo q tg xp' pl sz → post (nI (S - c)) (ob_X L H D V Q (S - c) b mv ch mem' own' sz cl xp' P U M q tg)) : ∀ d i mem own xp, i + d = c →
    ob_O H mem own xp sz wd → ob_F H (S - i) Q b lo q tg xp pl sz → wX_step_28 post (nI c) (d + 1) (nI i) (nI L) (nI H) (nI D) 512 (nI V) (nI Q) (nI (S - i)) (nI b) (nI mv) (nI ch) mem (ob_f own) (ob_f sz) (ob_f cl) (ob_f xp) (ob_f P) (ob_f (ob_b P D)) (ob_f U) (ob_f M) (ob_f q) (ob_f tg) := by
  intro d
  induction d with
  | zero =>
    intro i mem own xp hi hO hF
    have e : i = c := by omega
    subst e
    exact pk_le i i (fun _ => K mem own xp hO hF) (fun z => absurd z (by omega))
  | succ d ih =>
    intro i mem own xp hi hO hF
    refine pk_le c i (fun z => absurd z (by omega)) (fun _ => ?_)
    refine xw_adv hH h16 (by omega) hO hF hend hdis hlo hlo5 (fun mem' own' xp' hO' hF' => ?_)
    rw [Nat.sub_sub] at hF' ⊢
    exact nm_r (nI_1 i) (ih (i + 1) mem' own' xp' (by omega) hO' hF')
theorem xw_step {post : Int32 → SX → Prop} {lo : Nat} {pl : Nat → Nat} {wd : Nat → Int32} {c : Nat} (hc : c ≤ S) (hH : H ≤ 16) (hS32 : S ≤ 32) (h16 : ∀ i, i < H → sz i ≤ 16)
    (hend : ∀ h, h < H → 0 < sz h → pl h + sz h ≤ 256)
    (hdis : ∀ h h', h < H → h' < H → h ≠ h' → 0 < sz h → 0 < sz h' → pl h + sz h ≤ pl h' ∨ pl h' + sz h' ≤ pl h)
    (hO : ob_O H mem own xp sz wd) (hF : ob_F H S Q b lo q tg xp pl sz)
    (hlo : ∀ h, h < H → 0 < sz h → b ≤ ob_cls (sz h) → lo ≤ pl h) (hlo5 : lo ≤ 512)
    (K : ∀ mem' own' xp', ob_O H mem' own' xp' sz wd → ob_F H (S - c) Q b lo q tg xp' pl sz → post (nI (S - c)) (ob_X L H D V Q (S - c) b mv ch mem' own' sz cl xp' P U M q tg)) : ∃ n, wX_step_28 post (nI c) n 0 (nI L) (nI H) (nI D) 512 (nI V) (nI Q) (nI S) (nI b) (nI mv) (nI ch) mem (ob_f own) (ob_f sz) (ob_f cl) (ob_f xp) (ob_f P) (ob_f (ob_b P D)) (ob_f U) (ob_f M) (ob_f q) (ob_f tg) :=
  ⟨_, xw_step_lp hc hH hS32 h16 hend hdis hlo hlo5 K c 0 mem own xp (by omega) hO hF⟩
end
end
section
/-! Y's reading methods, and put -/
section
variable {L H D S b mv ch : Nat} {sz pl : Nat → Nat} {wd : Nat → Int32} {it P : Nat → Nat}

theorem yw_live_y {post : Int32 → Prop} {h : Nat} (hh : h < H) (hH : H ≤ 16) (hz : 0 < sz h) (hz16 : sz h ≤ 16) (K : post 1) : wpY_isLive post (ob_Y L H D S b mv ch sz pl wd it P) (nI h) := by
  unfold wpY_isLive; dsimp only
  exact br_f (nI_pos (by omega)) (pk_le H h (fun z => absurd z (by omega)) (fun _ => ⟨pk_in h 16 (by omega), pk_le (sz h) 0 (fun z => absurd z (by omega)) (fun _ => K) (ob_r (by omega))⟩))
theorem yw_live_n {post : Int32 → Prop} {x : Int32} (hH : H ≤ 16) (hd : ob_dead H sz x) (K : post 0) : wpY_isLive post (ob_Y L H D S b mv ch sz pl wd it P) x := by
  unfold wpY_isLive; dsimp only
  rcases pk_ix x (n := H) (by omega) with h | h | ⟨j, hj, e⟩
  · exact br_t h K
  · exact br_c (fun _ => K) (fun _ => br_t h K)
  · have z := hd j hj e
    subst e
    exact br_f (nI_pos (by omega)) (pk_le H j (fun w => absurd w (by omega)) (fun _ => ⟨pk_in j 16 (by omega), pk_le (sz j) 0 (fun _ => K) (fun w => absurd w (by omega)) (ob_r (by omega))⟩))
theorem yw_cls_lp {post : Int32 → Prop} {n : Nat} (hn : n ≤ 16) (K : post (nI (ob_cls n))) : ∀ d c, c + d = 4 → (c = 0 ∨ 2 ^ (c - 1) < n) → wY_classOf_2 post (nI n) (nI L) (nI H) (nI D) (nI S) (nI b) (nI mv) (nI ch) (ob_f sz) (ob_f pl) wd (ob_f it) (ob_f P) (d + 1) (nI c) := by
  intro d
  induction d with
  | zero =>
    intro c hc h2
    have e : c = 4 := by omega
    subst e
    have w : ob_cls n = 4 := ob_cls_4 (by rcases h2 with z | z; omega; simpa using z)
    rw [w] at K
    exact pk_le 4 4 (fun _ => K) (fun z => absurd z (by omega))
  | succ d ih =>
    intro c hc h2
    have p16 : 2 ^ c < 17 := by
      have e : c = 0 ∨ c = 1 ∨ c = 2 ∨ c = 3 := by omega
      rcases e with e | e | e | e <;> subst e <;> decide
    refine pk_le 4 c (fun z => absurd z (by omega)) (fun _ => pk_lt (2 ^ c) n (fun z => nm_r (nI_1 c) (ih (c + 1) (by omega) (Or.inr z))) (fun z => ?_) (ob_sh c (by omega)))
    rw [ob_cls_le (by omega) z h2] at K
    exact K
theorem yw_cls {post : Int32 → Prop} {n : Nat} (hn : n ≤ 16) (K : post (nI (ob_cls n))) : wpY_classOf post (ob_Y L H D S b mv ch sz pl wd it P) (nI n) := by
  unfold wpY_classOf; dsimp only
  exact ⟨_, yw_cls_lp hn K 4 0 rfl (Or.inl rfl)⟩
theorem yw_start_lp {post : Int32 → Prop} {k : Nat} (hk : k ≤ 5) (hD : 2 ≤ D) (hD4 : D ≤ 4) (hb : ob_st P D k ≤ 256) (K : post (nI (ob_st P D k))) : ∀ d j, j + d = k →
    wY_start_4 post (nI k) (nI L) (nI H) (nI D) (nI S) (nI b) (nI mv) (nI ch) (ob_f sz) (ob_f pl) wd (ob_f it) (ob_f P) (d + 1) (nI (ob_st P D j)) (nI j) := by
  intro d
  induction d with
  | zero =>
    intro j hj
    have e : j = k := by omega
    subst e
    exact pk_le j j (fun _ => K) (fun z => absurd z (by omega))
  | succ d ih =>
    intro j hj
    have s := ob_st_in P D (k := j) (n := k) (by omega)
    refine pk_le k j (fun z => absurd z (by omega)) (fun _ => pk_le 5 j (fun z => absurd z (by omega)) (fun _ => ⟨pk_in j 5 (by omega), pk_in j 5 (by omega), nI_ne0 (by omega) (by omega), nm_r (e' := nI (ob_st P D (j + 1))) ?_ (nm_r (nI_1 j) (ih (j + 1) (by omega)))⟩))
    rw [ob_r (by omega), ob_dv (by omega) hD hD4, nI_add, nI_add]
    rfl
theorem yw_start {post : Int32 → Prop} {k : Nat} (hk : k ≤ 5) (hD : 2 ≤ D) (hD4 : D ≤ 4) (hb : ob_st P D k ≤ 256) (K : post (nI (ob_st P D k))) : wpY_start post (ob_Y L H D S b mv ch sz pl wd it P) (nI k) := by
  unfold wpY_start; dsimp only
  exact ⟨_, yw_start_lp hk hD hD4 hb K k 0 (by omega)⟩
theorem yw_taken_lp {post : Int32 → Prop} {f B u : Nat} (hu : u ≤ B) (hB : f + B ≤ 256) (h1 : ∀ a, f ≤ a → a < f + u → 1 ≤ it a ∧ it a ≤ 5) (h2 : ∀ a, f + u ≤ a → a < f + B → it a = 0) (K : post (nI u)) : ∀ d j, j + d = B →
    wY_taken_33 post (nI (f + B)) (nI L) (nI H) (nI D) (nI S) (nI b) (nI mv) (nI ch) (ob_f sz) (ob_f pl) wd (ob_f it) (ob_f P) (d + 1) (nI (min j u)) (nI (f + j)) := by
  intro d
  induction d with
  | zero =>
    intro j hj
    have e : j = B := by omega
    subst e
    rw [Nat.min_eq_right hu]
    exact pk_le (f + j) (f + j) (fun _ => K) (fun z => absurd z (by omega))
  | succ d ih =>
    intro j hj
    have l := ih (j + 1) (by omega)
    have e1 : nI (f + j) + 1 = nI (f + (j + 1)) := nI_1 (f + j)
    refine pk_le (f + B) (f + j) (fun z => absurd z (by omega)) (fun _ => pk_le 256 (f + j) (fun z => absurd z (by omega)) (fun _ => ⟨pk_in (f + j) 256 (by omega), ?_⟩))
    by_cases w : j < u
    · have a := h1 (f + j) (by omega) (by omega)
      refine pk_eq (it (f + j)) 0 (fun z => absurd z (by omega)) (fun _ => nm_r (e' := nI (min (j + 1) u)) ?_ (nm_r e1 l)) (ob_r (by omega))
      rw [nI_1, Nat.min_eq_left (by omega), Nat.min_eq_left (by omega)]
    · have a := h2 (f + j) (by omega) (by omega)
      rw [Nat.min_eq_right (by omega)] at l ⊢
      exact pk_eq (it (f + j)) 0 (fun _ => nm_r e1 l) (fun z => absurd a z) (ob_r (by omega))
theorem yw_taken {post : Int32 → Prop} {U M : Nat → Nat} {k : Nat} (hk : k < 5) (hD : 2 ≤ D) (hD4 : D ≤ 4) (hb : ob_st P D 5 ≤ 256) (hu : ob_buf D P U M it k) (K : post (nI (U k))) : wpY_taken post (ob_Y L H D S b mv ch sz pl wd it P) (nI k) := by
  unfold wpY_taken; dsimp only
  have s := ob_st_in P D hk
  have m := ob_st_mono P D (m := k) (n := 5) (by omega)
  obtain ⟨b1, b2, b3, b4, b5, b6⟩ := hu
  refine yw_start (by omega) hD hD4 (by omega) ?_
  refine ⟨pk_in k 5 hk, nm_r (e' := nI (ob_st P D k + P k)) (by rw [ob_r (by omega), nI_add]) ⟨pk_in k 5 hk, nI_ne0 (by omega) (by omega), nm_r (e' := nI (ob_st P D k + P k + ob_b P D k)) (by rw [ob_r (by omega), ob_dv (by omega) hD hD4, nI_add]) ?_⟩⟩
  have l := yw_taken_lp (post := post) (L := L) (H := H) (D := D) (S := S) (b := b) (mv := mv) (ch := ch) (sz := sz) (pl := pl) (wd := wd) (it := it) (P := P) (f := ob_st P D k + P k) (B := ob_b P D k) (u := U k) b1 (by omega) (fun a h1 h2 => by have := b3 a h1 h2; omega) b4 K (ob_b P D k) 0 (by omega)
  rw [Nat.zero_min] at l
  exact ⟨_, l⟩
theorem yw_least_lp {post : Int32 → Prop} {f B u m : Nat} (hu : u ≤ B) (hB : f + B ≤ 256) (h1 : ∀ a, f ≤ a → a < f + u → m + 1 ≤ it a ∧ it a ≤ 5) (h2 : ∀ a, f + u ≤ a → a < f + B → it a = 0)
    (h3 : u = 0 → m = 5) (h4 : 0 < u → ob_wit it f u (m + 1)) (K : post (nI m)) : ∀ d j r, j + d = B → m ≤ r → r ≤ 5 → (∀ a, f ≤ a → a < f + j → 0 < it a → r + 1 ≤ it a) →
    wY_least_33 post (nI (f + B)) (nI L) (nI H) (nI D) (nI S) (nI b) (nI mv) (nI ch) (ob_f sz) (ob_f pl) wd (ob_f it) (ob_f P) (d + 1) (nI r) (nI (f + j)) := by
  intro d
  induction d with
  | zero =>
    intro j r hj hr hr5 hi
    have e : j = B := by omega
    subst e
    have er : r = m := by
      by_cases z : u = 0
      · have := h3 z; omega
      · obtain ⟨a, a1, a2, a3⟩ := h4 (by omega)
        have := hi a a1 (by omega) (by omega)
        omega
    rw [er]
    exact pk_le (f + j) (f + j) (fun _ => K) (fun z => absurd z (by omega))
  | succ d ih =>
    intro j r hj hr hr5 hi
    have e1 : nI (f + j) + 1 = nI (f + (j + 1)) := nI_1 (f + j)
    refine pk_le (f + B) (f + j) (fun z => absurd z (by omega)) (fun _ => pk_le 256 (f + j) (fun z => absurd z (by omega)) (fun _ => ⟨pk_in (f + j) 256 (by omega), ?_⟩))
    by_cases w : j < u
    · have a := h1 (f + j) (by omega) (by omega)
      have es : ob_f it (nI (f + j)).toNatClampNeg - 1 = nI (it (f + j) - 1) := by
        rw [ob_r (by omega)]
        exact pk_sub (b := 1) (by omega)
      refine pk_eq (it (f + j)) 0 (fun z => absurd z (by omega)) (fun _ => ⟨pk_in (f + j) 256 (by omega), pk_le r (it (f + j) - 1) (fun le => nm_r e1 (ih (j + 1) r (by omega) hr hr5 ?_)) (fun le => ⟨pk_in (f + j) 256 (by omega), nm_r es (nm_r e1 (ih (j + 1) (it (f + j) - 1) (by omega) (by omega) (by omega) ?_))⟩) rfl es⟩) (ob_r (by omega))
      · intro x x1 x2 x3
        by_cases e : x = f + j
        · rw [e]; omega
        · exact hi x x1 (by omega) x3
      · intro x x1 x2 x3
        by_cases e : x = f + j
        · rw [e]; omega
        · have := hi x x1 (by omega) x3
          omega
    · have a := h2 (f + j) (by omega) (by omega)
      refine pk_eq (it (f + j)) 0 (fun _ => nm_r e1 (ih (j + 1) r (by omega) hr hr5 ?_)) (fun z => absurd a z) (ob_r (by omega))
      intro x x1 x2 x3
      by_cases e : x = f + j
      · rw [e] at x3; omega
      · exact hi x x1 (by omega) x3
theorem yw_least {post : Int32 → Prop} {U M : Nat → Nat} {k : Nat} (hk : k < 5) (hD : 2 ≤ D) (hD4 : D ≤ 4) (hb : ob_st P D 5 ≤ 256) (hu : ob_buf D P U M it k) (K : post (nI (M k))) : wpY_least post (ob_Y L H D S b mv ch sz pl wd it P) (nI k) := by
  unfold wpY_least; dsimp only
  have s := ob_st_in P D hk
  have m := ob_st_mono P D (m := k) (n := 5) (by omega)
  obtain ⟨b1, b2, b3, b4, b5, b6⟩ := hu
  refine yw_start (by omega) hD hD4 (by omega) ?_
  refine ⟨pk_in k 5 hk, nm_r (e' := nI (ob_st P D k + P k)) (by rw [ob_r (by omega), nI_add]) ⟨pk_in k 5 hk, nI_ne0 (by omega) (by omega), nm_r (e' := nI (ob_st P D k + P k + ob_b P D k)) (by rw [ob_r (by omega), ob_dv (by omega) hD hD4, nI_add]) ?_⟩⟩
  exact ⟨_, yw_least_lp (f := ob_st P D k + P k) (B := ob_b P D k) (u := U k) (m := M k) b1 (by omega) b3 b4 b5 b6 K (ob_b P D k) 0 5 (by omega) b2 (Nat.le_refl 5) (fun a a1 a2 => absurd a2 (by omega))⟩
theorem yw_put_53 {post : Int32 → SY → Prop} {n c t : Nat} (hn : n ≤ 16) (hc : c < 5) (ht : t + n ≤ 256) (K : post (nI t) (ob_Y L H D S b mv ch sz pl wd (ob_fl it t n (c + 1)) P)) : ∀ d j, j + d = n →
    wY_put_53 post (nI n) (nI c) (nI t) (nI L) (nI H) (nI D) (nI S) (nI b) (nI mv) (nI ch) (d + 1) (nI (t + j)) (ob_f sz) (ob_f pl) wd (ob_f (ob_fl it t j (c + 1))) (ob_f P) := by
  intro d
  induction d with
  | zero =>
    intro j hj
    have e : j = n := by omega
    subst e
    exact pk_le (t + j) (t + j) (fun _ => K) (fun z => absurd z (by omega)) (nI_add t j)
  | succ d ih =>
    intro j hj
    refine pk_le (t + n) (t + j) (fun z => absurd z (by omega)) (fun _ => pk_le 256 (t + j) (fun z => absurd z (by omega)) (fun _ => ⟨pk_in (t + j) 256 (by omega), nm_r (e' := ob_f (ob_fl it t (j + 1) (c + 1))) ?_ (nm_r (nI_1 (t + j)) (ih (j + 1) (by omega)))⟩)) (nI_add t n)
    rw [nI_1, ob_w (by omega), ob_fl1]
theorem yw_put_lp {post : Int32 → SY → Prop} {U M : Nat → Nat} {k n c : Nat} (hk : k ≤ 5) (hc : c < 5) (hn : n ≤ 16) (hD : 2 ≤ D) (hD4 : D ≤ 4) (hP : ob_st P D 5 ≤ 256) (hbuf : ∀ j, j < 5 → ob_buf D P U M it j)
    (h1 : ∀ j, c ≤ j → j < k → ob_b P D j < U j + n) (h2 : k < 5 → U k + n ≤ ob_b P D k)
    (K1 : k < 5 → post (nI (ob_st P D k + P k + U k)) (ob_Y L H D S b mv ch sz pl wd (ob_fl it (ob_st P D k + P k + U k) n (c + 1)) P)) (K2 : k = 5 → post (-1) (ob_Y L H D S b mv ch sz pl wd it P)) : ∀ d j, c ≤ j → j + d = k →
    wY_put_2 post (nI n) (nI c) (nI L) (nI H) (nI D) (nI S) (nI b) (nI mv) (nI ch) (ob_f sz) (ob_f pl) wd (ob_f it) (ob_f P) (d + 1) (nI j) := by
  intro d
  induction d with
  | zero =>
    intro j hcj hj
    have e : j = k := by omega
    subst e
    refine pk_le 5 j (fun z => K2 (by omega)) (fun z => ?_)
    have s := ob_st_in P D z
    have m := ob_st_mono P D (m := j) (n := 5) (by omega)
    have u := (hbuf j z).1
    refine yw_taken z hD hD4 hP (hbuf j z) ?_
    refine ⟨pk_in j 5 z, nI_ne0 (by omega) (by omega), pk_lt (ob_b P D j - U j) n (fun w => absurd (h2 z) (by omega)) (fun _ => ?_) (by rw [ob_r (by omega), ob_dv (by omega) hD hD4, pk_sub u])⟩
    refine yw_start (by omega) hD hD4 (by omega) ?_
    refine ⟨pk_in j 5 z, nm_r (e' := nI (ob_st P D j + P j + U j)) (by rw [ob_r (by omega), nI_add, nI_add]) ?_⟩
    have l := yw_put_53 (post := post) (L := L) (H := H) (D := D) (S := S) (b := b) (mv := mv) (ch := ch) (sz := sz) (pl := pl) (wd := wd) (it := it) (P := P) (c := c) (t := ob_st P D j + P j + U j) hn hc (by have := h2 z; omega) (K1 z) n 0 (by omega)
    rw [ob_fl0] at l
    exact ⟨_, l⟩
  | succ d ih =>
    intro j hcj hj
    refine pk_le 5 j (fun z => absurd z (by omega)) (fun z => ?_)
    have s := ob_st_in P D z
    have a := h1 j hcj (by omega)
    have u := (hbuf j z).1
    refine yw_taken z hD hD4 hP (hbuf j z) ?_
    exact ⟨pk_in j 5 z, nI_ne0 (by omega) (by omega), pk_lt (ob_b P D j - U j) n (fun _ => nm_r (nI_1 j) (ih (j + 1) (by omega) (by omega))) (fun w => absurd w (by omega)) (by rw [ob_r (by omega), ob_dv (by omega) hD hD4, pk_sub u])⟩
theorem yw_put {post : Int32 → SY → Prop} {U M : Nat → Nat} {k n c : Nat} (hck : c ≤ k) (hk : k ≤ 5) (hc : c < 5) (hn : n ≤ 16) (hD : 2 ≤ D) (hD4 : D ≤ 4) (hP : ob_st P D 5 ≤ 256) (hbuf : ∀ j, j < 5 → ob_buf D P U M it j)
    (h1 : ∀ j, c ≤ j → j < k → ob_b P D j < U j + n) (h2 : k < 5 → U k + n ≤ ob_b P D k)
    (K1 : k < 5 → post (nI (ob_st P D k + P k + U k)) (ob_Y L H D S b mv ch sz pl wd (ob_fl it (ob_st P D k + P k + U k) n (c + 1)) P)) (K2 : k = 5 → post (-1) (ob_Y L H D S b mv ch sz pl wd it P)) : wpY_put post (ob_Y L H D S b mv ch sz pl wd it P) (nI n) (nI c) := by
  unfold wpY_put; dsimp only
  exact ⟨_, yw_put_lp hk hc hn hD hD4 hP hbuf h1 h2 K1 K2 (k - c) c (Nat.le_refl c) (by omega)⟩
theorem yw_liveV_lp {post : Int32 → Prop} (hH : H ≤ 16) (K : post (nI (ob_sm sz H))) : ∀ d j, j + d = H → wY_live_4 post (nI L) (nI H) (nI D) (nI S) (nI b) (nI mv) (nI ch) (ob_f sz) (ob_f pl) wd (ob_f it) (ob_f P) (d + 1) (nI (ob_sm sz j)) (nI j) := by
  intro d
  induction d with
  | zero =>
    intro j hj
    have e : j = H := by omega
    subst e
    exact pk_le j j (fun _ => K) (fun z => absurd z (by omega))
  | succ d ih =>
    intro j hj
    refine pk_le H j (fun z => absurd z (by omega)) (fun _ => ⟨pk_in j 16 (by omega), nm_r (e' := nI (ob_sm sz (j + 1))) ?_ (nm_r (nI_1 j) (ih (j + 1) (by omega)))⟩)
    rw [ob_r (by omega), nI_add]
    rfl
theorem yw_liveV {post : Int32 → Prop} (hH : H ≤ 16) (K : post (nI (ob_sm sz H))) : wpY_live post (ob_Y L H D S b mv ch sz pl wd it P) := by
  unfold wpY_live; dsimp only
  exact ⟨_, yw_liveV_lp hH K H 0 (by omega)⟩
theorem yw_owner_lp {post : Int32 → Prop} {a : Nat} (ha : a < 256) (hH : H ≤ 16) (h16 : ∀ i, i < H → sz i ≤ 16) (hend : ∀ h, h < H → 0 < sz h → pl h + sz h ≤ 256)
    (K0 : (∀ h, h < H → pl h ≤ a → a < pl h + sz h → False) → post (-5)) (K1 : ∀ h, h < H → 0 < sz h → pl h ≤ a → a < pl h + sz h → post (nI h)) : ∀ d j, j + d = H → (∀ h, h < j → pl h ≤ a → a < pl h + sz h → False) →
    wY_owner_37 post (nI a) (nI L) (nI H) (nI D) (nI S) (nI b) (nI mv) (nI ch) (ob_f sz) (ob_f pl) wd (ob_f it) (ob_f P) (d + 1) (nI j) := by
  intro d
  induction d with
  | zero =>
    intro j hj hi
    have e : j = H := by omega
    subst e
    exact pk_le j j (fun _ => K0 hi) (fun z => absurd z (by omega))
  | succ d ih =>
    intro j hj hi
    have z16 := h16 j (by omega)
    have next : ¬ (pl j ≤ a ∧ a < pl j + sz j) → wY_owner_37 post (nI a) (nI L) (nI H) (nI D) (nI S) (nI b) (nI mv) (nI ch) (ob_f sz) (ob_f pl) wd (ob_f it) (ob_f P) (d + 1) (nI (j + 1)) := fun hn => ih (j + 1) (by omega) (fun h hh h1 h2 => by
      by_cases e : h = j
      · rw [e] at h1 h2
        exact hn ⟨h1, h2⟩
      · exact hi h (by omega) h1 h2)
    refine pk_le H j (fun z => absurd z (by omega)) (fun _ => ⟨pk_in j 16 (by omega), pk_le (sz j) 0 (fun z => nm_r (nI_1 j) (next (by omega))) (fun z => ⟨pk_in j 16 (by omega), ?_⟩) (ob_r (by omega))⟩)
    have e := hend j (by omega) z
    refine pk_lt a (pl j) (fun w => nm_r (nI_1 j) (next (by omega))) (fun w => ⟨pk_in j 16 (by omega), pk_in j 16 (by omega), pk_le (pl j + sz j) a (fun y => nm_r (nI_1 j) (next (by omega))) (fun y => K1 j (by omega) z w y) (by rw [ob_r (by omega), ob_r (by omega), nI_add])⟩) rfl (ob_r (by omega))
theorem yw_own_b {post : Int32 → Prop} {x : Int32} (h : x < 0 ∨ 256 ≤ x) (K : post (-1)) : wpY_owner post (ob_Y L H D S b mv ch sz pl wd it P) x := by
  unfold wpY_owner; dsimp only
  refine br_c (fun _ => K) (fun z => ?_)
  rcases h with h | h
  · exact absurd h z
  · exact br_f (Int32.not_lt.mpr h) K
theorem yw_own_h {post : Int32 → Prop} {a : Nat} (ha : a < 256) (hS : 0 < S) (hS2 : S ≤ 32) (hb : b ≤ 5) (hD : 2 ≤ D) (hD4 : D ≤ 4) (h5 : ob_st P D 5 ≤ 256) (h : ob_st P D b ≤ a) (K : post (-2)) : wpY_owner post (ob_Y L H D S b mv ch sz pl wd it P) (nI a) := by
  unfold wpY_owner; dsimp only
  have m := ob_st_mono P D hb
  refine br_f (nI_pos (by omega)) (pk_lt a 256 (fun _ => pk_le S 0 (fun z => absurd z (by omega)) (fun _ => ?_)) (fun z => absurd z (by omega)))
  refine yw_start hb hD hD4 (by omega) ?_
  exact pk_lt a (ob_st P D b) (fun z => absurd z (by omega)) (fun _ => K)
theorem yw_own_t {post : Int32 → Prop} {a : Nat} (ha : a < 256) (hS2 : S ≤ 32) (hb : b ≤ 5) (hD : 2 ≤ D) (hD4 : D ≤ 4) (h5 : ob_st P D 5 ≤ 256) (h : S = 0 ∨ a < ob_st P D b) (hH : H ≤ 16) (h16 : ∀ i, i < H → sz i ≤ 16) (hend : ∀ h, h < H → 0 < sz h → pl h + sz h ≤ 256)
    (K0 : (∀ h, h < H → pl h ≤ a → a < pl h + sz h → False) → post (-5)) (K1 : ∀ h, h < H → 0 < sz h → pl h ≤ a → a < pl h + sz h → post (nI h)) : wpY_owner post (ob_Y L H D S b mv ch sz pl wd it P) (nI a) := by
  unfold wpY_owner; dsimp only
  have m := ob_st_mono P D hb
  have l := yw_owner_lp (post := post) (L := L) (D := D) (S := S) (b := b) (mv := mv) (ch := ch) (wd := wd) (it := it) (P := P) ha hH h16 hend K0 K1 H 0 (by omega) (fun h hh => absurd hh (by omega))
  refine br_f (nI_pos (by omega)) (pk_lt a 256 (fun _ => pk_le S 0 (fun z => ⟨_, l⟩) (fun _ => ?_)) (fun z => absurd z (by omega)))
  refine yw_start hb hD hD4 (by omega) ?_
  exact pk_lt a (ob_st P D b) (fun _ => ⟨_, l⟩) (fun z => absurd h (by omega))
end
end
section
/-! Y's flush -/
theorem ob_bnd_u {M : Nat → Nat} {c B B' : Nat} (h : ob_bnd M c B) (h' : ob_bnd M c B') : B = B' := by
  rcases Nat.lt_trichotomy B B' with w | w | w
  · exact absurd h'.2.1 (h.2.2 B' w h'.1)
  · exact w
  · exact absurd h.2.1 (h'.2.2 B w h.1)
section
variable {L H D S b mv ch : Nat} {sz pl : Nat → Nat} {wd : Nat → Int32} {it P : Nat → Nat}

theorem yw_160 {post : SY → Prop} {J : Int32 → Int32 → Int32 → (Nat → Int32) → (Nat → Int32) → (Nat → Int32) → (Nat → Int32) → (Nat → Int32) → Prop} {B k s0 : Nat} {P0 : Nat → Nat} (hB : B ≤ k) (hk : k < 5) (hH : H ≤ 16) (hs0 : s0 = ob_st (ob_PP B H 5 P0 sz) D k) (h16 : ∀ i, i < H → sz i ≤ 16)
    (K : J (nI (k + 1)) (nI (2 * ob_ct B H sz (k + 1) 0)) (nI (mv + ob_vs sz k H)) (ob_f sz) (ob_f (ob_pt B H D P0 sz pl (k + 1) 0)) wd (ob_f it) (ob_f (ob_u P k (ob_vs sz k H)))) : ∀ d h, h + d = H →
    wY_flush_160 post J (nI k) (nI s0) (nI L) (nI H) (nI D) (nI b) (nI mv) (nI ch) (d + 1) (nI (ob_vs sz k h)) (nI h) (nI (2 * ob_ct B H sz k h)) (ob_f sz) (ob_f (ob_pt B H D P0 sz pl k h)) wd (ob_f it) (ob_f P) := by
  intro d
  induction d with
  | zero =>
    intro h hh
    have e : h = H := by omega
    subst e
    rw [← ob_ct_c (fun i => ob_met_n (i := i)), ← ob_pt_c (fun i => ob_met_n (i := i))] at K
    exact pk_le h h (fun _ => ⟨pk_in k 5 hk, nm_r (ob_w (by omega)) (nm_r (nI_add mv _) (nm_r (nI_1 k) K))⟩) (fun z => absurd z (by omega))
  | succ d ih =>
    intro h hh
    have z16 := h16 h (by omega)
    have l := ih (h + 1) (by omega)
    refine pk_le H h (fun z => absurd z (by omega)) (fun _ => ⟨pk_in h 16 (by omega), pk_le (sz h) 0 (fun z => nm_r (nI_1 h) ?_) (fun z => ⟨pk_in h 16 (by omega), ?_⟩) (ob_r (by omega))⟩)
    · have n : sz h = 0 ∨ ob_cls (sz h) ≠ k := Or.inl (by omega)
      rw [ob_vs_n n, ← ob_ct_c (ob_met_sn n), ← ob_pt_c (ob_met_sn n)] at l
      exact l
    · have c5 := ob_cls5 (sz h)
      rw [ob_r (f := sz) (by omega)]
      refine yw_cls z16 ?_
      refine pk_eq (ob_cls (sz h)) k (fun e => ?_) (fun e => nm_r (nI_1 h) ?_)
      · have c1 := ob_ct_s hH (by omega) z hB e
        have en : s0 + ob_vs sz k h = ob_nl B H D P0 sz h := by
          unfold ob_nl
          rw [e, hs0]
        refine ⟨pk_in h 16 (by omega), nm_r (e' := ob_f (ob_pt B H D P0 sz pl k (h + 1))) ?_ ⟨pk_in h 16 (by omega), nm_r (e' := nI (ob_vs sz k (h + 1))) ?_ (nm_r (e' := nI (2 * ob_ct B H sz k (h + 1))) ?_ (nm_r (nI_1 h) l))⟩⟩
        · rw [nI_add, en, ob_w (by omega), ob_pt_s (by omega) z hB e]
        · rw [ob_vs_y e, nI_add]
        · rw [c1]
          exact nI_add (2 * ob_ct B H sz k h) 2
      · have n : sz h = 0 ∨ ob_cls (sz h) ≠ k := Or.inr e
        rw [ob_vs_n n, ← ob_ct_c (ob_met_sn n), ← ob_pt_c (ob_met_sn n)] at l
        exact l
theorem yw_142 {post : SY → Prop} {B : Nat} (hD : 2 ≤ D) (hD4 : D ≤ 4) (hH : H ≤ 16) (h192 : ob_st (ob_PP B H 5 P sz) D 5 ≤ 192) (h16 : ∀ i, i < H → sz i ≤ 16)
    (K : post (ob_Y L H D (2 * ob_ct B H sz 5 0) b (ob_mv B H sz 5) ch sz (ob_pt B H D P sz pl 5 0) wd it (ob_PP B H 5 P sz))) : ∀ d k, k + d = 5 → B ≤ k →
    wY_flush_142 post (nI L) (nI H) (nI D) (nI b) (nI ch) (d + 1) (nI k) (nI (2 * ob_ct B H sz k 0)) (nI (ob_mv B H sz k)) (ob_f sz) (ob_f (ob_pt B H D P sz pl k 0)) wd (ob_f it) (ob_f (ob_PP B H k P sz)) := by
  intro d
  induction d with
  | zero =>
    intro k hk hB
    have e : k = 5 := by omega
    subst e
    exact pk_le 5 5 (fun _ => K) (fun z => absurd z (by omega))
  | succ d ih =>
    intro k hk hB
    have l := ih (k + 1) (by omega) (by omega)
    have m := ob_st_mono (ob_PP B H 5 P sz) D (m := k) (n := 5) (by omega)
    refine pk_le 5 k (fun z => absurd z (by omega)) (fun _ => ?_)
    refine yw_start (by omega) hD hD4 (by rw [ob_PP_st (by omega)]; omega) ?_
    rw [ob_PP_st (by omega)]
    refine ⟨_, yw_160 (P0 := P) hB (by omega) hH rfl h16 ?_ H 0 (by omega)⟩
    rw [ob_PP_s hB, ← ob_mv_s hB]
    exact l
theorem yw_117 {post : SY → Prop} {t : Nat} (ht : t ≤ 256) (K : ∃ n, wY_flush_142 post (nI L) (nI H) (nI D) (nI b) (nI ch) n (nI b) (nI S) (nI mv) (ob_f sz) (ob_f pl) wd (ob_f (ob_fl it t (256 - t) 0)) (ob_f P)) : ∀ d j, t + j + d = 256 →
    wY_flush_117 post (nI L) (nI H) (nI D) (nI S) (nI b) (nI mv) (nI ch) (d + 1) (nI (t + j)) (ob_f sz) (ob_f pl) wd (ob_f (ob_fl it t j 0)) (ob_f P) := by
  intro d
  induction d with
  | zero =>
    intro j hj
    have e : j = 256 - t := by omega
    subst e
    exact pk_le 256 (t + (256 - t)) (fun _ => K) (fun z => absurd z (by omega))
  | succ d ih =>
    intro j hj
    refine pk_le 256 (t + j) (fun z => absurd z (by omega)) (fun _ => ⟨pk_in (t + j) 256 (by omega), nm_r (e' := ob_f (ob_fl it t (j + 1) 0)) ?_ (nm_r (nI_1 (t + j)) (ih (j + 1) (by omega)))⟩)
    exact (ob_w (x := 0) (by omega)).trans (congrArg ob_f ob_fl1)
theorem yw_73 {post : SY → Prop} {U M : Nat → Nat} (hb5 : b ≤ 5) (hD : 2 ≤ D) (hD4 : D ≤ 4) (hP : ob_st P D 5 ≤ 256) (hbuf : ∀ j, j < 5 → ob_buf D P U M it j) : ∀ d k ch, k + d = 5 →
    (∃ n, wY_flush_142 post (nI L) (nI H) (nI D) (nI b) (nI (ch + ob_rs U k d)) n (nI b) (nI 0) (nI 0) (ob_f sz) (ob_f pl) wd (ob_f (ob_fl it (ob_st P D b) (256 - ob_st P D b) 0)) (ob_f P)) →
    wY_flush_73 post (nI L) (nI H) (nI D) (nI S) (nI b) (nI mv) (ob_f sz) (ob_f pl) wd (ob_f it) (ob_f P) (d + 1) (nI k) (nI ch) := by
  intro d
  induction d with
  | zero =>
    intro k ch hk K
    have e : k = 5 := by omega
    subst e
    have m := ob_st_mono P D (m := b) (n := 5) hb5
    refine pk_le 5 5 (fun _ => ?_) (fun z => absurd z (by omega))
    refine yw_start (S := 0) (mv := 0) hb5 hD hD4 (by omega) ?_
    have l := yw_117 (post := post) (L := L) (H := H) (D := D) (S := 0) (b := b) (mv := 0) (ch := ch) (sz := sz) (pl := pl) (wd := wd) (it := it) (P := P) (t := ob_st P D b) (by omega) K (256 - ob_st P D b) 0 (by omega)
    rw [ob_fl0] at l
    exact ⟨_, l⟩
  | succ d ih =>
    intro k ch hk K
    refine pk_le 5 k (fun z => absurd z (by omega)) (fun z => ?_)
    refine yw_taken z hD hD4 hP (hbuf k z) ?_
    refine nm_r (nI_add ch _) (nm_r (nI_1 k) (ih (k + 1) (ch + U k) (by omega) ?_))
    rw [Nat.add_assoc]
    exact K
theorem yw_18 {post : SY → Prop} {J : Int32 → Int32 → Prop} {U M : Nat → Nat} {x1 x2 : Int32} {t : Nat} (ht : t ≤ 5) (hD : 2 ≤ D) (hD4 : D ≤ 4) (hP : ob_st P D 5 ≤ 256) (hbuf : ∀ j, j < 5 → ob_buf D P U M it j)
    (K1 : (∀ k, t ≤ k → k < 5 → t ≤ M k) → J (nI (t + 1)) (nI t)) (K0 : ¬ (∀ k, t ≤ k → k < 5 → t ≤ M k) → J (nI (t + 1)) (nI b)) : ∀ d j e, j + d = 5 → t ≤ j → e ≤ 1 → (e = 1 ↔ ∀ k, t ≤ k → k < j → t ≤ M k) →
    wY_flush_18 post J x1 x2 (nI t) (nI L) (nI H) (nI D) (nI S) (nI b) (nI mv) (nI ch) (ob_f sz) (ob_f pl) wd (ob_f it) (ob_f P) (d + 1) (nI e) (nI j) := by
  intro d
  induction d with
  | zero =>
    intro j e hj htj he hi
    have q : j = 5 := by omega
    subst q
    exact pk_le 5 5 (fun _ => pk_eq e 0 (fun z => nm_r (nI_1 t) (K0 (fun w => by have := hi.mpr w; omega))) (fun z => nm_r (nI_1 t) (K1 (hi.mp (by omega))))) (fun z => absurd z (by omega))
  | succ d ih =>
    intro j e hj htj he hi
    refine pk_le 5 j (fun z => absurd z (by omega)) (fun z => ?_)
    have m5 := (hbuf j z).2.1
    refine yw_least z hD hD4 hP (hbuf j z) ?_
    refine pk_le t (M j) (fun w => nm_r (nI_1 j) (ih (j + 1) e (by omega) (by omega) he ?_)) (fun w => nm_r (nI_1 j) (ih (j + 1) 0 (by omega) (by omega) (by omega) ?_))
    · rw [hi]
      constructor
      · intro h k k1 k2
        by_cases q : k = j
        · rw [q]; exact w
        · exact h k k1 (by omega)
      · intro h k k1 k2
        exact h k k1 (by omega)
    · constructor
      · intro h
        exact absurd h (by omega)
      · intro h
        have := h j htj (by omega)
        omega
theorem yw_7 {post : SY → Prop} {U M : Nat → Nat} {n c B : Nat} (hc : c < 5) (hbB : ob_bnd M c B) (hD : 2 ≤ D) (hD4 : D ≤ 4) (hP : ob_st P D 5 ≤ 256) (hbuf : ∀ j, j < 5 → ob_buf D P U M it j)
    (K : ∃ m, wY_flush_73 post (nI L) (nI H) (nI D) (nI S) (nI B) (nI mv) (ob_f sz) (ob_f pl) wd (ob_f it) (ob_f P) m (nI B) (nI n)) : ∀ d t b, t + d = c + 1 → b < t → (∀ k, b ≤ k → k < 5 → b ≤ M k) → (∀ t', b < t' → t' < t → ¬ (∀ k, t' ≤ k → k < 5 → t' ≤ M k)) →
    wY_flush_7 post (nI n) (nI c) (nI L) (nI H) (nI D) (nI S) (nI mv) (nI ch) (ob_f sz) (ob_f pl) wd (ob_f it) (ob_f P) (d + 1) (nI t) (nI b) := by
  intro d
  induction d with
  | zero =>
    intro t b ht hbt h1 h2
    have e : b = B := ob_bnd_u ⟨by omega, h1, fun t' a1 a2 => h2 t' a1 (by omega)⟩ hbB
    subst e
    exact pk_lt c t (fun _ => K) (fun z => absurd z (by omega))
  | succ d ih =>
    intro t b ht hbt h1 h2
    refine pk_lt c t (fun z => absurd z (by omega)) (fun z => ?_)
    refine ⟨_, yw_18 (t := t) (by omega) hD hD4 hP hbuf (fun ok => ih (t + 1) t (by omega) (by omega) ok (fun t' a1 a2 => absurd a2 (by omega))) (fun no => ih (t + 1) b (by omega) (by omega) h1 (fun t' a1 a2 => ?_)) (5 - t) t 1 (by omega) (Nat.le_refl t) (Nat.le_refl 1) ⟨fun _ k k1 k2 => absurd k2 (by omega), fun _ => rfl⟩⟩
    by_cases q : t' = t
    · rw [q]; exact no
    · exact h2 t' a1 (by omega)
theorem yw_flush {post : SY → Prop} {U M : Nat → Nat} {n c B : Nat} (hc : c < 5) (hbB : ob_bnd M c B) (hD : 2 ≤ D) (hD4 : D ≤ 4) (hH : H ≤ 16) (hP : ob_st P D 5 ≤ 256) (h192 : ob_st (ob_PP B H 5 P sz) D 5 ≤ 192) (h16 : ∀ i, i < H → sz i ≤ 16)
    (hbuf : ∀ j, j < 5 → ob_buf D P U M it j)
    (K : post (ob_Y L H D (2 * ob_ct B H sz 5 0) B (ob_mv B H sz 5) (n + ob_rs U B (5 - B)) sz (ob_pt B H D P sz pl 5 0) wd (ob_fl it (ob_st P D B) (256 - ob_st P D B) 0) (ob_PP B H 5 P sz))) :
    wpY_flush post (ob_Y L H D S b mv ch sz pl wd it P) (nI n) (nI c) := by
  unfold wpY_flush; dsimp only
  have hB5 : B ≤ 5 := by have := hbB.1; omega
  have l := yw_142 (post := post) (L := L) (b := B) (ch := n + ob_rs U B (5 - B)) (pl := pl) (wd := wd) (it := ob_fl it (ob_st P D B) (256 - ob_st P D B) 0) (P := P) hD hD4 hH h192 h16 K (5 - B) B (by omega) (Nat.le_refl B)
  rw [ob_ct_0, ob_mv_0, ob_PP_0, ob_pt_0] at l
  have l2 := yw_73 (post := post) (L := L) (H := H) (S := S) (b := B) (mv := mv) (sz := sz) (pl := pl) (wd := wd) (U := U) (M := M) hB5 hD hD4 hP hbuf (5 - B) B n (by omega) ⟨_, l⟩
  exact ⟨_, yw_7 hc hbB hD hD4 hP hbuf ⟨_, l2⟩ c 1 0 (by omega) (by omega) (fun _ _ _ => Nat.zero_le _) (fun t' a1 a2 => absurd a2 (by omega))⟩
end
end
section
/-! alloc and free, each side by its cases -/
section
variable {L H D V Q S b mv ch : Nat} {mem : Nat → Int32} {own sz cl xp P U M q tg : Nat → Nat}

theorem xa_bad {post : Int32 → SX → Prop} {x v : Int32} (hx : x < 1 ∨ ¬ x ≤ 16) (K : post (-1) (ob_X L H D V Q S b mv ch mem own sz cl xp P U M q tg)) : wpX_alloc post (ob_X L H D V Q S b mv ch mem own sz cl xp P U M q tg) x v := by
  unfold wpX_alloc; dsimp only
  refine br_c (fun _ => K) (fun z => ?_)
  rcases hx with h | h
  · exact absurd h z
  · exact br_f h K
theorem xa_busy {post : Int32 → SX → Prop} {n : Nat} {v : Int32} (hn : 1 ≤ n) (hn16 : n ≤ 16) (hS : 0 < S) (hS2 : S ≤ 32) (K : post (-2) (ob_X L H D V Q S b mv ch mem own sz cl xp P U M q tg)) : wpX_alloc post (ob_X L H D V Q S b mv ch mem own sz cl xp P U M q tg) (nI n) v := by
  unfold wpX_alloc; dsimp only
  exact pk_lt n 1 (fun z => absurd z (by omega)) (fun _ => pk_le n 16 (fun _ => pk_le S 0 (fun z => absurd z (by omega)) (fun _ => K)) (fun z => absurd z (by omega)))
theorem xa_full {post : Int32 → SX → Prop} {n : Nat} {v : Int32} (hn : 1 ≤ n) (hn16 : n ≤ 16) (hS : S = 0) (hV : V ≤ 64) (hL : L ≤ 64) (hf : L < V + n) (K : post (-3) (ob_X L H D V Q S b mv ch mem own sz cl xp P U M q tg)) : wpX_alloc post (ob_X L H D V Q S b mv ch mem own sz cl xp P U M q tg) (nI n) v := by
  unfold wpX_alloc; dsimp only
  exact pk_lt n 1 (fun z => absurd z (by omega)) (fun _ => pk_le n 16 (fun _ => pk_le S 0 (fun _ => pk_le (V + n) L (fun z => absurd z (by omega)) (fun _ => K) (nI_add V n)) (fun z => absurd z (by omega))) (fun z => absurd z (by omega)))
theorem xa_noh {post : Int32 → SX → Prop} {n : Nat} {v : Int32} (hn : 1 ≤ n) (hn16 : n ≤ 16) (hS : S = 0) (hV : V + n ≤ L) (hL : L ≤ 64) (hH : H ≤ 16) (hl : ∀ i, i < H → 0 < sz i) (h16 : ∀ i, i < H → sz i ≤ 16) (K : post (-4) (ob_X L H D V Q S b mv ch mem own sz cl xp P U M q tg)) : wpX_alloc post (ob_X L H D V Q S b mv ch mem own sz cl xp P U M q tg) (nI n) v := by
  unfold wpX_alloc; dsimp only
  refine pk_lt n 1 (fun z => absurd z (by omega)) (fun _ => pk_le n 16 (fun _ => pk_le S 0 (fun _ => pk_le (V + n) L (fun _ => ?_) (fun z => absurd z (by omega)) (nI_add V n)) (fun z => absurd z (by omega))) (fun z => absurd z (by omega)))
  refine xw_free (h := H) hH (Nat.le_refl H) hl h16 (fun z => absurd z (by omega)) (fun z => absurd z (by omega)) (fun _ => ?_)
  exact br_f (by decide) K
theorem xa_buf {post : Int32 → SX → Prop} {n h k : Nat} {v : Int32} (hn : 1 ≤ n) (hn16 : n ≤ 16) (hS : S = 0) (hV : V + n ≤ L) (hL : L ≤ 64) (hH : H ≤ 16) (hh : h < H) (hl : ∀ i, i < h → 0 < sz i) (h16 : ∀ i, i < H → sz i ≤ 16) (hz : sz h = 0)
    (hck : ob_cls n ≤ k) (hk : k < 5) (hP : ob_st P D 5 ≤ 256) (hu : ∀ j, j < 5 → U j ≤ ob_b P D j) (hM : ∀ j, j < 5 → M j ≤ 5) (h1 : ∀ j, ob_cls n ≤ j → j < k → ob_b P D j < U j + n) (h2 : U k + n ≤ ob_b P D k)
    (K : post (nI h) (ob_X L H D (V + n) Q S b mv ch (ob_wr mem (ob_st P D k + P k + U k) n (fun i => (v + nI i) &&& 65535)) (ob_fl own (ob_st P D k + P k + U k) n (h + 1)) (ob_u sz h n) (ob_u cl h (ob_cls n)) (ob_u xp h (ob_st P D k + P k + U k)) P (ob_u U k (U k + n)) (ob_u M k (min (M k) (ob_cls n))) q tg)) :
    wpX_alloc post (ob_X L H D V Q S b mv ch mem own sz cl xp P U M q tg) (nI n) v := by
  unfold wpX_alloc; dsimp only
  have s := ob_st_in P D hk
  refine pk_lt n 1 (fun z => absurd z (by omega)) (fun _ => pk_le n 16 (fun _ => pk_le S 0 (fun _ => pk_le (V + n) L (fun _ => ?_) (fun z => absurd z (by omega)) (nI_add V n)) (fun z => absurd z (by omega))) (fun z => absurd z (by omega)))
  refine xw_free (h := h) hH (by omega) hl h16 (fun _ => hz) (fun _ => ?_) (fun z => absurd z (by omega))
  refine br_t (nI_pos' (by omega)) ?_
  refine xw_cls hn16 ?_
  refine xw_room hck (by omega) hn16 hP hu h1 (fun _ => h2) ?_
  refine pk_le 5 k (fun z => absurd z (by omega)) (fun _ => ?_)
  refine xw_itemsEnd hk hP ?_
  refine xw_create (by omega) hn16 (by omega) ?_
  refine xw_item hk (ob_cls5 n) (hM k hk) ?_
  exact K
theorem xa_fl {post : Int32 → SX → Prop} {n h B : Nat} {v : Int32} (hn : 1 ≤ n) (hn16 : n ≤ 16) (hS : S = 0) (hV : V + n ≤ L) (hL : L ≤ 64) (hH : H ≤ 16) (hh : h < H) (hl : ∀ i, i < h → 0 < sz i) (h16 : ∀ i, i < H → sz i ≤ 16) (hz : sz h = 0)
    (hD : 2 ≤ D) (hD4 : D ≤ 4) (hP : ob_st P D 5 ≤ 256) (hu : ∀ j, j < 5 → U j ≤ ob_b P D j) (hM : ∀ j, j < 5 → M j ≤ 5) (h1 : ∀ j, ob_cls n ≤ j → j < 5 → ob_b P D j < U j + n)
    (hb : ob_bnd M (ob_cls n) B) (h192 : ob_st (ob_PP B H 5 P (ob_u sz h n)) D 5 ≤ 192) (h16' : ∀ i, i < H → ob_u sz h n i ≤ 16) (hcl : ∀ i, i < H → 0 < ob_u sz h n i → ob_u cl h (ob_cls n) i = ob_cls (ob_u sz h n i))
    (K : ∀ q', ob_qu B H (ob_u sz h n) q' 5 0 → post (nI h) (ob_X L H D (V + n) (ob_ct B H (ob_u sz h n) 5 0) (2 * ob_ct B H (ob_u sz h n) 5 0) B (ob_mv B H (ob_u sz h n) 5) (n + ob_rs U B (5 - B)) (ob_wr mem (512 + 16 * h) n (fun i => (v + nI i) &&& 65535)) (ob_fl own (512 + 16 * h) n (h + 1)) (ob_u sz h n) (ob_u cl h (ob_cls n)) (ob_u xp h (512 + 16 * h)) (ob_PP B H 5 P (ob_u sz h n)) (ob_rs2 B 5 0 U) (ob_rs2 B 5 5 M) q' (ob_pt B H D P (ob_u sz h n) tg 5 0))) :
    wpX_alloc post (ob_X L H D V Q S b mv ch mem own sz cl xp P U M q tg) (nI n) v := by
  unfold wpX_alloc; dsimp only
  have c5 := ob_cls5 n
  refine pk_lt n 1 (fun z => absurd z (by omega)) (fun _ => pk_le n 16 (fun _ => pk_le S 0 (fun _ => pk_le (V + n) L (fun _ => ?_) (fun z => absurd z (by omega)) (nI_add V n)) (fun z => absurd z (by omega))) (fun z => absurd z (by omega)))
  refine xw_free (h := h) hH (by omega) hl h16 (fun _ => hz) (fun _ => ?_) (fun z => absurd z (by omega))
  refine br_t (nI_pos' (by omega)) ?_
  refine xw_cls hn16 ?_
  refine xw_room (k := 5) (by omega) (Nat.le_refl 5) hn16 hP hu h1 (fun z => absurd z (by omega)) ?_
  refine pk_le 5 5 (fun _ => ?_) (fun z => absurd z (by omega))
  refine xw_slot ?_
  refine xw_create (by omega) hn16 (by omega) ?_
  refine xw_flush c5 hb hM hD hD4 hH hP h192 h16' hcl (fun q' hq' => ?_)
  exact K q' hq'
theorem xf_bad {post : Int32 → SX → Prop} {x : Int32} (hH : H ≤ 16) (hd : ob_dead H sz x) (K : post (-1) (ob_X L H D V Q S b mv ch mem own sz cl xp P U M q tg)) : wpX_free post (ob_X L H D V Q S b mv ch mem own sz cl xp P U M q tg) x := by
  unfold wpX_free; dsimp only
  refine xw_live_n hH hd ?_
  exact br_t rfl K
theorem xf_busy {post : Int32 → SX → Prop} {h : Nat} (hh : h < H) (hH : H ≤ 16) (hz : 0 < sz h) (hz16 : sz h ≤ 16) (hS : 0 < S) (hS2 : S ≤ 32) (K : post (-2) (ob_X L H D V Q S b mv ch mem own sz cl xp P U M q tg)) : wpX_free post (ob_X L H D V Q S b mv ch mem own sz cl xp P U M q tg) (nI h) := by
  unfold wpX_free; dsimp only
  refine xw_live_y hh hH hz hz16 ?_
  exact br_f (by decide) (pk_le S 0 (fun z => absurd z (by omega)) (fun _ => K))
theorem xf_go {post : Int32 → SX → Prop} {h : Nat} (hh : h < H) (hH : H ≤ 16) (hz : 0 < sz h) (hz16 : sz h ≤ 16) (hS : S = 0) (hcl : cl h = ob_cls (sz h)) (hP : ob_st P D 5 ≤ 256) (hx : xp h + sz h ≤ 768) (hV : sz h ≤ V)
    (K0 : ob_st P D (ob_cls (sz h)) + P (ob_cls (sz h)) ≤ xp h → post 0 (ob_X L H D (V - sz h) Q S b mv ch mem (ob_fl own (xp h) (sz h) 0) (ob_u sz h 0) cl xp P U M q tg))
    (K1 : xp h < ob_st P D (ob_cls (sz h)) + P (ob_cls (sz h)) → ∀ post' : SX → Prop, (∀ u, post 0 u → post' u) → wpX_addMarker post' (ob_X L H D (V - sz h) Q S b mv ch mem (ob_fl own (xp h) (sz h) 0) (ob_u sz h 0) cl xp P U M q tg) (nI (sz h)) (nI (ob_cls (sz h)))) : wpX_free post (ob_X L H D V Q S b mv ch mem own sz cl xp P U M q tg) (nI h) := by
  unfold wpX_free; dsimp only
  have c5 := ob_cls5 (sz h)
  refine xw_live_y hh hH hz hz16 ?_
  refine br_f (by decide) (pk_le S 0 (fun _ => ⟨pk_in h 16 (by omega), nm_r (ob_r (by omega)) ⟨pk_in h 16 (by omega), nm_r (e' := nI (ob_cls (sz h))) (by rw [ob_r (by omega), hcl]) ?_⟩⟩) (fun z => absurd z (by omega)))
  refine xw_inPay (by omega) (by omega) hP (by omega) (fun w => ?_) (fun w => ?_)
  · rw [hcl] at w
    refine xw_destroy (by omega) hz16 hx hV ?_
    exact br_t rfl (K0 w)
  · rw [hcl] at w
    refine xw_destroy (by omega) hz16 hx hV ?_
    exact br_f (by decide) (K1 w _ (by intro u hu; obtain ⟨a1, a2, a3, a4, a5, a6, a7, a8, a9, a10, a11, a12, a13, a14, a15, a16, a17, a18, a19, a20, a21⟩ := u; exact hu))
theorem xm_buf {post : SX → Prop} {n c k : Nat} (hn16 : n ≤ 16) (hck : c ≤ k) (hk : k < 5) (hP : ob_st P D 5 ≤ 256) (hu : ∀ j, j < 5 → U j ≤ ob_b P D j) (hM : ∀ j, j < 5 → M j ≤ 5) (h1 : ∀ j, c ≤ j → j < k → ob_b P D j < U j + n) (h2 : U k + n ≤ ob_b P D k)
    (K : post (ob_X L H D V Q S b mv ch mem own sz cl xp P (ob_u U k (U k + n)) (ob_u M k (min (M k) c)) q tg)) : wpX_addMarker post (ob_X L H D V Q S b mv ch mem own sz cl xp P U M q tg) (nI n) (nI c) := by
  unfold wpX_addMarker; dsimp only
  refine xw_room hck (by omega) hn16 hP hu h1 (fun _ => h2) ?_
  refine pk_le 5 k (fun z => absurd z (by omega)) (fun _ => ?_)
  refine xw_item hk (by omega) (hM k hk) ?_
  exact K
theorem xm_fl {post : SX → Prop} {n c B : Nat} (hn16 : n ≤ 16) (hc : c < 5) (hb : ob_bnd M c B) (hM : ∀ k, k < 5 → M k ≤ 5) (hD : 2 ≤ D) (hD4 : D ≤ 4) (hH : H ≤ 16) (hP : ob_st P D 5 ≤ 256) (h192 : ob_st (ob_PP B H 5 P sz) D 5 ≤ 192) (h16 : ∀ i, i < H → sz i ≤ 16)
    (hcl : ∀ i, i < H → 0 < sz i → cl i = ob_cls (sz i)) (hu : ∀ j, j < 5 → U j ≤ ob_b P D j) (h1 : ∀ j, c ≤ j → j < 5 → ob_b P D j < U j + n)
    (K : ∀ q', ob_qu B H sz q' 5 0 → post (ob_X L H D V (ob_ct B H sz 5 0) (2 * ob_ct B H sz 5 0) B (ob_mv B H sz 5) (n + ob_rs U B (5 - B)) mem own sz cl xp (ob_PP B H 5 P sz) (ob_rs2 B 5 0 U) (ob_rs2 B 5 5 M) q' (ob_pt B H D P sz tg 5 0))) : wpX_addMarker post (ob_X L H D V Q S b mv ch mem own sz cl xp P U M q tg) (nI n) (nI c) := by
  unfold wpX_addMarker; dsimp only
  refine xw_room (k := 5) (by omega) (Nat.le_refl 5) hn16 hP hu h1 (fun z => absurd z (by omega)) ?_
  refine pk_le 5 5 (fun _ => ?_) (fun z => absurd z (by omega))
  refine xw_flush hc hb hM hD hD4 hH hP h192 h16 hcl (fun q' hq' => ?_)
  exact K q' hq'
end
section
variable {L H D S b mv ch : Nat} {sz pl : Nat → Nat} {wd : Nat → Int32} {it P : Nat → Nat}

theorem ya_bad {post : Int32 → SY → Prop} {x v : Int32} (hx : x < 1 ∨ ¬ x ≤ 16) (K : post (-1) (ob_Y L H D S b mv ch sz pl wd it P)) : wpY_alloc post (ob_Y L H D S b mv ch sz pl wd it P) x v := by
  unfold wpY_alloc; dsimp only
  refine br_c (fun _ => K) (fun z => ?_)
  rcases hx with h | h
  · exact absurd h z
  · exact br_f h K
theorem ya_busy {post : Int32 → SY → Prop} {n : Nat} {v : Int32} (hn : 1 ≤ n) (hn16 : n ≤ 16) (hS : 0 < S) (hS2 : S ≤ 32) (K : post (-2) (ob_Y L H D S b mv ch sz pl wd it P)) : wpY_alloc post (ob_Y L H D S b mv ch sz pl wd it P) (nI n) v := by
  unfold wpY_alloc; dsimp only
  exact pk_lt n 1 (fun z => absurd z (by omega)) (fun _ => pk_le n 16 (fun _ => pk_le S 0 (fun z => absurd z (by omega)) (fun _ => K)) (fun z => absurd z (by omega)))
theorem ya_full {post : Int32 → SY → Prop} {n : Nat} {v : Int32} (hn : 1 ≤ n) (hn16 : n ≤ 16) (hS : S = 0) (hH : H ≤ 16) (hV : ob_sm sz H ≤ 64) (hL : L ≤ 64) (hf : L < ob_sm sz H + n) (K : post (-3) (ob_Y L H D S b mv ch sz pl wd it P)) : wpY_alloc post (ob_Y L H D S b mv ch sz pl wd it P) (nI n) v := by
  unfold wpY_alloc; dsimp only
  refine pk_lt n 1 (fun z => absurd z (by omega)) (fun _ => pk_le n 16 (fun _ => pk_le S 0 (fun _ => ?_) (fun z => absurd z (by omega))) (fun z => absurd z (by omega)))
  refine yw_liveV hH ?_
  exact pk_le (ob_sm sz H + n) L (fun z => absurd z (by omega)) (fun _ => K) (nI_add _ n)
theorem ya_41 {post : Int32 → SY → Prop} {x1 x2 : Int32} {h : Nat} (hH : H ≤ 16) (hh : h ≤ H) (hl : ∀ i, i < h → 0 < sz i) (h16 : ∀ i, i < H → sz i ≤ 16) (hz : h < H → sz h = 0) (K : wY_alloc_64 post x1 x2 (nI h) (nI L) (nI H) (nI D) (nI S) (nI b) (nI mv) (nI ch) (ob_f sz) (ob_f pl) wd (ob_f it) (ob_f P)) : ∀ d j, j + d = h →
    wY_alloc_41 post x1 x2 (nI L) (nI H) (nI D) (nI S) (nI b) (nI mv) (nI ch) (ob_f sz) (ob_f pl) wd (ob_f it) (ob_f P) (d + 1) (nI j) := by
  intro d
  induction d with
  | zero =>
    intro j hj
    have e : j = h := by omega
    subst e
    exact pk_le H j (fun _ => K) (fun z => ⟨pk_in j 16 (by omega), pk_le (sz j) 0 (fun _ => K) (fun w => absurd (hz z) (by omega)) (ob_r (by omega)) rfl (by have := h16 j z; omega) (by omega)⟩)
  | succ d ih =>
    intro j hj
    have a := hl j (by omega)
    have c := h16 j (by omega)
    exact pk_le H j (fun z => absurd z (by omega)) (fun _ => ⟨pk_in j 16 (by omega), pk_le (sz j) 0 (fun z => absurd z (by omega)) (fun _ => nm_r (nI_1 j) (ih (j + 1) (by omega))) (ob_r (by omega))⟩)
theorem ya_to {post : Int32 → SY → Prop} {n h : Nat} {v : Int32} (hn : 1 ≤ n) (hn16 : n ≤ 16) (hS : S = 0) (hV : ob_sm sz H + n ≤ L) (hL : L ≤ 64) (hH : H ≤ 16) (hh : h ≤ H) (hl : ∀ i, i < h → 0 < sz i) (h16 : ∀ i, i < H → sz i ≤ 16) (hz : h < H → sz h = 0)
    (K : wY_alloc_64 post (nI n) v (nI h) (nI L) (nI H) (nI D) (nI S) (nI b) (nI mv) (nI ch) (ob_f sz) (ob_f pl) wd (ob_f it) (ob_f P)) : wpY_alloc post (ob_Y L H D S b mv ch sz pl wd it P) (nI n) v := by
  unfold wpY_alloc; dsimp only
  refine pk_lt n 1 (fun z => absurd z (by omega)) (fun _ => pk_le n 16 (fun _ => pk_le S 0 (fun _ => ?_) (fun z => absurd z (by omega))) (fun z => absurd z (by omega)))
  refine yw_liveV hH ?_
  exact pk_le (ob_sm sz H + n) L (fun _ => ⟨_, ya_41 hH hh hl h16 hz K h 0 (by omega)⟩) (fun z => absurd z (by omega)) (nI_add _ n)
theorem ya_noh {post : Int32 → SY → Prop} {n : Nat} {v : Int32} (hn : 1 ≤ n) (hn16 : n ≤ 16) (hS : S = 0) (hV : ob_sm sz H + n ≤ L) (hL : L ≤ 64) (hH : H ≤ 16) (hl : ∀ i, i < H → 0 < sz i) (h16 : ∀ i, i < H → sz i ≤ 16) (K : post (-4) (ob_Y L H D S b mv ch sz pl wd it P)) : wpY_alloc post (ob_Y L H D S b mv ch sz pl wd it P) (nI n) v := by
  refine ya_to hn hn16 hS hV hL hH (Nat.le_refl H) hl h16 (fun z => absurd z (by omega)) ?_
  unfold wY_alloc_64
  exact pk_lt H H (fun z => absurd z (by omega)) (fun _ => K)
theorem ya_85 {post : Int32 → SY → Prop} {n h : Nat} {v : Int32} (hn16 : n ≤ 16) (hh : h < 16)
    (K : wY_alloc_85 post (nI n) v (nI h) (nI L) (nI H) (nI D) (nI S) (nI b) (nI mv) (nI ch) 1 (nI n) (ob_f sz) (ob_f pl) (ob_wr wd (16 * h) n (fun i => (v + nI i) &&& 65535)) (ob_f it) (ob_f P)) : ∀ d j, j + d = n →
    wY_alloc_85 post (nI n) v (nI h) (nI L) (nI H) (nI D) (nI S) (nI b) (nI mv) (nI ch) (d + 1) (nI j) (ob_f sz) (ob_f pl) (ob_wr wd (16 * h) j (fun i => (v + nI i) &&& 65535)) (ob_f it) (ob_f P) := by
  intro d
  have e16 : ∀ j, 16 * nI h + nI j = nI (16 * h + j) := by
    intro j
    have e : (16 : Int32) * nI h = nI (16 * h) := pk_mul 16 h
    rw [e, nI_add]
  induction d with
  | zero =>
    intro j hj
    have e : j = n := by omega
    subst e
    exact K
  | succ d ih =>
    intro j hj
    refine pk_le n j (fun z => absurd z (by omega)) (fun _ => ⟨pk_in (16 * h + j) 256 (by omega) (e16 j), nm_r (e' := ob_wr wd (16 * h) (j + 1) (fun i => (v + nI i) &&& 65535)) ?_ (nm_r (nI_1 j) (ih (j + 1) (by omega)))⟩)
    rw [e16, nI_clamp (by omega)]
    exact ob_wr1 (g := fun i => (v + nI i) &&& 65535)
theorem ya_go {post : Int32 → SY → Prop} {n h k : Nat} {v : Int32} {U M : Nat → Nat} (hn : 1 ≤ n) (hn16 : n ≤ 16) (hS : S = 0) (hV : ob_sm sz H + n ≤ L) (hL : L ≤ 64) (hH : H ≤ 16) (hh : h < H) (hl : ∀ i, i < h → 0 < sz i) (h16 : ∀ i, i < H → sz i ≤ 16) (hz : sz h = 0)
    (hck : ob_cls n ≤ k) (hk : k ≤ 5) (hD : 2 ≤ D) (hD4 : D ≤ 4) (hP : ob_st P D 5 ≤ 256) (hbuf : ∀ j, j < 5 → ob_buf D P U M it j) (h1 : ∀ j, ob_cls n ≤ j → j < k → ob_b P D j < U j + n) (h2 : k < 5 → U k + n ≤ ob_b P D k)
    (K1 : k < 5 → post (nI h) (ob_Y L H D S b mv ch (ob_u sz h n) (ob_u pl h (ob_st P D k + P k + U k)) (ob_wr wd (16 * h) n (fun i => (v + nI i) &&& 65535)) (ob_fl it (ob_st P D k + P k + U k) n (ob_cls n + 1)) P))
    (K2 : k = 5 → ∀ post' : SY → Prop, (∀ u, post (nI h) u → post' u) → wpY_flush post' (ob_Y L H D S b mv ch (ob_u sz h n) pl (ob_wr wd (16 * h) n (fun i => (v + nI i) &&& 65535)) it P) (nI n) (nI (ob_cls n))) : wpY_alloc post (ob_Y L H D S b mv ch sz pl wd it P) (nI n) v := by
  have c5 := ob_cls5 n
  refine ya_to hn hn16 hS hV hL hH (by omega) hl h16 (fun _ => hz) ?_
  unfold wY_alloc_64
  refine pk_lt h H (fun _ => ⟨pk_in h 16 (by omega), nm_r (ob_w (by omega)) ?_⟩) (fun z => absurd z (by omega))
  have l := ya_85 (post := post) (L := L) (H := H) (D := D) (S := S) (b := b) (mv := mv) (ch := ch) (sz := ob_u sz h n) (pl := pl) (wd := wd) (it := it) (P := P) (n := n) (h := h) (v := v) hn16 (by omega) (by
    refine pk_le n n (fun _ => ?_) (fun z => absurd z (by omega))
    refine yw_cls hn16 ?_
    refine yw_put hck hk c5 hn16 hD hD4 hP hbuf h1 h2 (fun z => ?_) (fun z => ?_)
    · have s := ob_st_in P D z
      have u := h2 z
      exact br_f (nI_pos (by omega)) ⟨pk_in h 16 (by omega), nm_r (ob_w (by omega)) (K1 z)⟩
    · exact br_t (by decide) (K2 z _ (by intro u hu; obtain ⟨a1, a2, a3, a4, a5, a6, a7, a8, a9, a10, a11, a12⟩ := u; exact hu))) n 0 (by omega)
  rw [ob_wr0] at l
  exact ⟨_, l⟩
theorem yf_bad {post : Int32 → SY → Prop} {x : Int32} (hH : H ≤ 16) (hd : ob_dead H sz x) (K : post (-1) (ob_Y L H D S b mv ch sz pl wd it P)) : wpY_free post (ob_Y L H D S b mv ch sz pl wd it P) x := by
  unfold wpY_free; dsimp only
  refine yw_live_n hH hd ?_
  exact br_t rfl K
theorem yf_busy {post : Int32 → SY → Prop} {h : Nat} (hh : h < H) (hH : H ≤ 16) (hz : 0 < sz h) (hz16 : sz h ≤ 16) (hS : 0 < S) (hS2 : S ≤ 32) (K : post (-2) (ob_Y L H D S b mv ch sz pl wd it P)) : wpY_free post (ob_Y L H D S b mv ch sz pl wd it P) (nI h) := by
  unfold wpY_free; dsimp only
  refine yw_live_y hh hH hz hz16 ?_
  exact br_f (by decide) (pk_le S 0 (fun z => absurd z (by omega)) (fun _ => K))
theorem yf_go {post : Int32 → SY → Prop} {h k : Nat} {U M : Nat → Nat} (hh : h < H) (hH : H ≤ 16) (hz : 0 < sz h) (hz16 : sz h ≤ 16) (hS : S = 0) (hD : 2 ≤ D) (hD4 : D ≤ 4) (hP : ob_st P D 5 ≤ 256) (hpl : pl h ≤ 256)
    (hck : ob_cls (sz h) ≤ k) (hk : k ≤ 5) (hbuf : ∀ j, j < 5 → ob_buf D P U M it j) (h1 : ∀ j, ob_cls (sz h) ≤ j → j < k → ob_b P D j < U j + sz h) (h2 : k < 5 → U k + sz h ≤ ob_b P D k)
    (K0 : ob_st P D (ob_cls (sz h)) + P (ob_cls (sz h)) ≤ pl h → post 0 (ob_Y L H D S b mv ch (ob_u sz h 0) pl wd it P))
    (K1 : pl h < ob_st P D (ob_cls (sz h)) + P (ob_cls (sz h)) → k < 5 → post 0 (ob_Y L H D S b mv ch (ob_u sz h 0) pl wd (ob_fl it (ob_st P D k + P k + U k) (sz h) (ob_cls (sz h) + 1)) P))
    (K2 : pl h < ob_st P D (ob_cls (sz h)) + P (ob_cls (sz h)) → k = 5 → ∀ post' : SY → Prop, (∀ u, post 0 u → post' u) → wpY_flush post' (ob_Y L H D S b mv ch (ob_u sz h 0) pl wd it P) (nI (sz h)) (nI (ob_cls (sz h)))) : wpY_free post (ob_Y L H D S b mv ch sz pl wd it P) (nI h) := by
  unfold wpY_free; dsimp only
  have c5 := ob_cls5 (sz h)
  have s := ob_st_in P D c5
  refine yw_live_y hh hH hz hz16 ?_
  refine br_f (by decide) (pk_le S 0 (fun _ => ⟨pk_in h 16 (by omega), nm_r (ob_r (by omega)) ?_⟩) (fun z => absurd z (by omega)))
  refine yw_cls hz16 ?_
  refine ⟨pk_in h 16 (by omega), nm_r (ob_w (x := 0) (by omega)) ⟨pk_in h 16 (by omega), ?_⟩⟩
  refine yw_start (sz := ob_u sz h 0) (by omega) hD hD4 (by omega) ?_
  refine ⟨pk_in (ob_cls (sz h)) 5 c5, pk_lt (pl h) (ob_st P D (ob_cls (sz h)) + P (ob_cls (sz h))) (fun w => ?_) (fun w => K0 w) (ob_r (by omega)) (by rw [ob_r (by omega), nI_add])⟩
  refine yw_put (sz := ob_u sz h 0) hck hk c5 hz16 hD hD4 hP hbuf h1 h2 (fun z => ?_) (fun z => ?_)
  · have s2 := ob_st_in P D z
    have u := h2 z
    exact br_t (nI_pos' (by omega)) (K1 w z)
  · exact br_f (by decide) (K2 w z _ (by intro u hu; obtain ⟨a1, a2, a3, a4, a5, a6, a7, a8, a9, a10, a11, a12⟩ := u; exact hu))
end
end
section
/-! the relation's facts and how calls keep them -/
theorem ob_O_new {H h n t : Nat} {mem wd gg : Nat → Int32} {own xp sz : Nat → Nat} (hO : ob_O H mem own xp sz wd) (hh : h < H) (hz : sz h = 0) (hn : n ≤ 16) (h16 : ∀ i, i < H → sz i ≤ 16) (ht : t + n ≤ 768) (hf : ∀ i, i < n → own (t + i) = 0) :
    ob_O H (ob_wr mem t n gg) (ob_fl own t n (h + 1)) (ob_u xp h t) (ob_u sz h n) (ob_wr wd (16 * h) n gg) := by
  have hf' : ∀ a, t ≤ a → a < t + n → own a = 0 := by
    intro a h1 h2
    have := hf (a - t) (by omega)
    rw [show t + (a - t) = a by omega] at this
    exact this
  refine ⟨fun i j hi hj => ?_, fun a ha hne => ?_⟩
  · by_cases e : i = h
    · subst e
      rw [ob_us] at hj
      rw [ob_us]
      refine ⟨by omega, ?_, ?_⟩
      · rw [ob_fl_i (by omega) (by omega)]
      · rw [ob_wr_i (by omega) (by omega), ob_wr_i (by omega) (by omega), show t + j - t = j by omega, show 16 * i + j - 16 * i = j by omega]
    · rw [ob_un e] at hj
      rw [ob_un e]
      obtain ⟨a1, a2, a3⟩ := hO.1 i j hi hj
      have z16 := h16 i hi
      have n1 : ¬ (t ≤ xp i + j ∧ xp i + j < t + n) := by
        intro z
        have := hf' _ z.1 z.2
        omega
      refine ⟨a1, ?_, ?_⟩
      · rw [ob_fl_o (by omega)]; exact a2
      · rw [ob_wr_o (by omega), ob_wr_o (by omega)]; exact a3
  · by_cases w : t ≤ a ∧ a < t + n
    · rw [ob_fl_i w.1 w.2]
      exact ⟨h, hh, rfl, by rw [ob_us]; exact w.1, by rw [ob_us, ob_us]; exact w.2⟩
    · rw [ob_fl_o (by omega)] at hne ⊢
      obtain ⟨i, i1, i2, i3, i4⟩ := hO.2 a ha hne
      have e : i ≠ h := by
        intro e
        rw [e, hz] at i4
        rw [e] at i3
        omega
      exact ⟨i, i1, i2, by rw [ob_un e]; exact i3, by rw [ob_un e, ob_un e]; exact i4⟩
theorem ob_O_del {H h : Nat} {mem wd : Nat → Int32} {own xp sz : Nat → Nat} (hO : ob_O H mem own xp sz wd) (hh : h < H) : ob_O H mem (ob_fl own (xp h) (sz h) 0) xp (ob_u sz h 0) wd := by
  have hx' : ∀ a, xp h ≤ a → a < xp h + sz h → own a = h + 1 := by
    intro a h1 h2
    have := (hO.1 h (a - xp h) hh (by omega)).2.1
    rw [show xp h + (a - xp h) = a by omega] at this
    exact this
  refine ⟨fun i j hi hj => ?_, fun a ha hne => ?_⟩
  · have e : i ≠ h := by
      intro e
      rw [e, ob_us] at hj
      omega
    rw [ob_un e] at hj
    obtain ⟨a1, a2, a3⟩ := hO.1 i j hi hj
    have n2 : ¬ (xp h ≤ xp i + j ∧ xp i + j < xp h + sz h) := by
      intro z
      have := hx' _ z.1 z.2
      omega
    exact ⟨a1, by rw [ob_fl_o (by omega)]; exact a2, a3⟩
  · by_cases w : xp h ≤ a ∧ a < xp h + sz h
    · rw [ob_fl_i w.1 w.2] at hne
      exact absurd rfl hne
    · rw [ob_fl_o (by omega)] at hne ⊢
      obtain ⟨i, i1, i2, i3, i4⟩ := hO.2 a ha hne
      have e : i ≠ h := by
        intro e
        rw [e] at i3 i4
        exact w ⟨i3, i4⟩
      exact ⟨i, i1, i2, i3, by rw [ob_un e]; exact i4⟩
theorem ob_O_write {H h i : Nat} {x : Int32} {mem wd : Nat → Int32} {own xp sz : Nat → Nat} (hO : ob_O H mem own xp sz wd) (h16 : ∀ i, i < H → sz i ≤ 16) (hh : h < H) (hi : i < sz h) : ob_O H (upd mem (xp h + i) x) own xp sz (upd wd (16 * h + i) x) := by
  refine ⟨fun g j hg hj => ?_, hO.2⟩
  obtain ⟨a1, a2, a3⟩ := hO.1 g j hg hj
  obtain ⟨c1, c2, c3⟩ := hO.1 h i hh hi
  refine ⟨a1, a2, ?_⟩
  have z1 := h16 g hg
  have z2 := h16 h hh
  by_cases e : g = h ∧ j = i
  · rw [e.1, e.2, pk_us, pk_us]
  · have n1 : xp g + j ≠ xp h + i := by
      intro z
      rw [z] at a2
      have q : g = h := by omega
      rw [q] at z
      exact e ⟨q, by omega⟩
    have n2 : 16 * g + j ≠ 16 * h + i := by
      intro z
      exact e (by omega)
    rw [pk_un n1, pk_un n2]
    exact a3
theorem ob_F_0 {H Q b lo : Nat} {q tg xp pl sz : Nat → Nat} (h1 : ∀ h, h < H → 0 < sz h → xp h = pl h) (h2 : ∀ h, h < H → 0 < sz h → pl h + sz h ≤ 512) (hQ : Q ≤ 16) : ob_F H 0 Q b lo q tg xp pl sz :=
  ⟨fun h hh hz => Or.inr (by rw [h1 h hh hz]; exact h2 h hh hz), fun h hh hz _ => h1 h hh hz, Nat.zero_le _, hQ, fun z => absurd z (by omega)⟩
theorem ob_F_start {B H D lo : Nat} {P q tg xp pl sz : Nat → Nat} (h1 : ∀ h, h < H → 0 < sz h → xp h = 512 + 16 * h ∨ xp h + sz h ≤ 512) (h2 : ∀ h, h < H → 0 < sz h → ob_cls (sz h) < B → xp h = pl h) (h3 : ∀ h, h < H → 0 < sz h → B ≤ ob_cls (sz h) → lo ≤ xp h) (hq : ob_qu B H sz q 5 0) :
    ob_F H (2 * ob_ct B H sz 5 0) (ob_ct B H sz 5 0) B lo q (ob_pt B H D P sz tg 5 0) xp (ob_pt B H D P sz pl 5 0) sz := by
  have met : ∀ h, h < H → 0 < sz h → B ≤ ob_cls (sz h) → ob_met B H sz 5 0 h := fun h hh hz hc => ⟨hh, hz, hc, Or.inl (ob_cls5 _)⟩
  refine ⟨h1, fun h hh hz hc => ?_, Nat.le_refl _, ob_ct_16, fun hS => ⟨fun h hh hz hc => hq.1 h (met h hh hz hc), fun i hi => ?_, hq.2.2, fun _ i hi => absurd hi (by omega), fun hs i hi => absurd hi (by omega), h3⟩⟩
  · by_cases cb : ob_cls (sz h) < B
    · rw [ob_pt_n (fun m => by have := m.2.2.1; omega)]
      exact h2 h hh hz cb
    · obtain ⟨j, j1, j2⟩ := hq.1 h (met h hh hz (by omega))
      omega
  · have m := hq.2.1 i hi
    rw [ob_pt_y m, ob_pt_y m]
    exact ⟨m.1, m.2.1, rfl, m.2.2.1⟩
theorem ob_first (H : Nat) (sz : Nat → Nat) : ∃ h, h ≤ H ∧ (∀ i, i < h → 0 < sz i) ∧ (h < H → sz h = 0) := by
  induction H with
  | zero => exact ⟨0, Nat.le_refl 0, fun i hi => absurd hi (by omega), fun z => absurd z (by omega)⟩
  | succ H ih =>
    obtain ⟨h, h1, h2, h3⟩ := ih
    by_cases e : h < H
    · exact ⟨h, by omega, h2, fun _ => h3 e⟩
    · by_cases z : sz h = 0
      · exact ⟨h, by omega, h2, fun _ => z⟩
      · refine ⟨h + 1, by omega, fun i hi => ?_, fun w => absurd w (by omega)⟩
        by_cases q : i = h
        · rw [q]; omega
        · exact h2 i (by omega)
theorem ob_room (P U : Nat → Nat) (D n : Nat) : ∀ d c, c + d = 5 → ∃ k, c ≤ k ∧ k ≤ 5 ∧ (∀ j, c ≤ j → j < k → ob_b P D j < U j + n) ∧ (k < 5 → U k + n ≤ ob_b P D k) := by
  intro d
  induction d with
  | zero => intro c hc; exact ⟨5, by omega, Nat.le_refl 5, fun j h1 h2 => absurd h2 (by omega), fun z => absurd z (by omega)⟩
  | succ d ih =>
    intro c hc
    by_cases e : U c + n ≤ ob_b P D c
    · exact ⟨c, Nat.le_refl c, by omega, fun j h1 h2 => absurd h2 (by omega), fun _ => e⟩
    · obtain ⟨k, k1, k2, k3, k4⟩ := ih (c + 1) (by omega)
      refine ⟨k, by omega, k2, fun j h1 h2 => ?_, k4⟩
      by_cases q : j = c
      · rw [q]; omega
      · exact k3 j (by omega) h2
theorem ob_bnd_ex (M : Nat → Nat) (c : Nat) : ∃ B, ob_bnd M c B := by
  induction c with
  | zero => exact ⟨0, Nat.le_refl 0, fun _ _ _ => Nat.zero_le _, fun t h1 h2 => absurd h2 (by omega)⟩
  | succ c ih =>
    by_cases e : ∀ k, c + 1 ≤ k → k < 5 → c + 1 ≤ M k
    · exact ⟨c + 1, Nat.le_refl _, e, fun t h1 h2 => absurd h2 (by omega)⟩
    · obtain ⟨B, b1, b2, b3⟩ := ih
      refine ⟨B, by omega, b2, fun t h1 h2 => ?_⟩
      by_cases q : t = c + 1
      · rw [q]; exact e
      · exact b3 t h1 (by omega)
theorem ob_arg (x : Int32) : (x < 1 ∨ ¬ x ≤ 16) ∨ ∃ n, 1 ≤ n ∧ n ≤ 16 ∧ x = nI n := by
  rcases pk_ix x (n := 17) (by omega) with h | h | ⟨j, hj, e⟩
  · refine Or.inl (Or.inl ?_)
    exact Int32.lt_of_lt_of_le h (by decide)
  · refine Or.inl (Or.inr ?_)
    intro z
    have q : nI 17 ≤ (16 : Int32) := Int32.le_trans h z
    exact absurd q (by decide)
  · by_cases z : j = 0
    · subst z
      refine Or.inl (Or.inl ?_)
      rw [e]; decide
    · exact Or.inr ⟨j, by omega, by omega, e⟩
theorem ob_case (H : Nat) (sz : Nat → Nat) (x : Int32) : ob_dead H sz x ∨ ∃ h, h < H ∧ 0 < sz h ∧ x = nI h := by
  by_cases e : ∃ h, h < H ∧ 0 < sz h ∧ x = nI h
  · exact Or.inr e
  · refine Or.inl (fun h hh hx => ?_)
    by_cases z : sz h = 0
    · exact z
    · exact absurd ⟨h, hh, by omega, hx⟩ e
theorem ob_sm_new {sz : Nat → Nat} {H h n : Nat} (hh : h < H) (hz : sz h = 0) : ob_sm (ob_u sz h n) H = ob_sm sz H + n := by
  have a := ob_sm_at (f := sz) (g := ob_u sz h n) hh (fun i _ e => ob_un e)
  rw [ob_us, hz] at a
  omega
theorem ob_sm_del {sz : Nat → Nat} {H h : Nat} (hh : h < H) : ob_sm (ob_u sz h 0) H = ob_sm sz H - sz h ∧ sz h ≤ ob_sm sz H := by
  have a := ob_sm_at (f := sz) (g := ob_u sz h 0) hh (fun i _ e => ob_un e)
  rw [ob_us] at a
  omega
/-- all that the relation says of a pair of states -/
def ob_R (L H D V Q S b : Nat) (mem wd : Nat → Int32) (own sz cl xp P U M q tg pl it : Nat → Nat) (g : Nat → Nat → Nat) : Prop :=
  L ≤ 64 ∧ H ≤ 16 ∧ 2 ≤ D ∧ D ≤ 4 ∧ V = ob_sm sz H ∧ V ≤ L ∧ b < 5 ∧ (∀ h, h < H → sz h ≤ 16) ∧ (∀ h, h < H → 0 < sz h → cl h = ob_cls (sz h)) ∧
  ob_L 5 H D P U M it sz pl g ∧ ob_O H mem own xp sz wd ∧ ob_F H S Q b (ob_st P D b) q tg xp pl sz
section
variable {L H D V Q S b : Nat} {mem wd : Nat → Int32} {own sz cl xp P U M q tg pl it : Nat → Nat} {g : Nat → Nat → Nat}
theorem ob_R_192 (R : ob_R L H D V Q S b mem wd own sz cl xp P U M q tg pl it g) : ob_st P D 5 ≤ 192 := by
  obtain ⟨r1, r2, r3, r4, r5, r6, r7, r8, r9, rL, rO, rF⟩ := R
  exact ob_bound r3 rL.1 (by omega)
theorem ob_R_end (R : ob_R L H D V Q S b mem wd own sz cl xp P U M q tg pl it g) : ∀ h, h < H → 0 < sz h → pl h + sz h ≤ 256 := by
  intro h hh hz
  have a := ob_R_192 R
  have e := ob_locend R.2.2.2.2.2.2.2.2.2.1 hh hz
  omega
theorem ob_R_dis (R : ob_R L H D V Q S b mem wd own sz cl xp P U M q tg pl it g) : ∀ h h', h < H → h' < H → h ≠ h' → 0 < sz h → 0 < sz h' → pl h + sz h ≤ pl h' ∨ pl h' + sz h' ≤ pl h :=
  fun h h' a1 a2 a3 a4 a5 => R.2.2.2.2.2.2.2.2.2.1.2.2.2 h h' a1 a2 a3 a4 a5 (ob_cls5 _) (ob_cls5 _)
theorem ob_R_S (R : ob_R L H D V Q S b mem wd own sz cl xp P U M q tg pl it g) : S ≤ 32 := by
  have a := R.2.2.2.2.2.2.2.2.2.2.2.2.2.1
  have c := R.2.2.2.2.2.2.2.2.2.2.2.2.2.2.1
  omega
theorem ob_R_own (R : ob_R L H D V Q S b mem wd own sz cl xp P U M q tg pl it g) {a : Nat} (ha : a < 768) : own a ≤ 16 := by
  by_cases z : own a = 0
  · omega
  · obtain ⟨h, h1, h2, _⟩ := R.2.2.2.2.2.2.2.2.2.2.1.2 a ha z
    have := R.2.1
    omega
/-- an object of a kind at or above B lies at or behind region B's start -/
theorem ob_R_lo {B i : Nat} (rL : ob_L 5 H D P U M it sz pl g) (hi : i < H) (hz : 0 < sz i) (hc : B ≤ ob_cls (sz i)) : ob_st P D B ≤ pl i := by
  have m := ob_st_mono P D hc
  rcases rL.2.2.1 i hi hz (ob_cls5 _) with l | ⟨k, k1, k2, k3, k4, k5⟩
  · omega
  · have m2 := ob_st_mono P D k1
    omega
/-- a new object in buffer k -/
theorem ob_R_new {n h k : Nat} {gg : Nat → Int32} (R : ob_R L H D V Q 0 b mem wd own sz cl xp P U M q tg pl it g) (hn : 1 ≤ n) (hn16 : n ≤ 16) (hV : V + n ≤ L) (hh : h < H) (hz : sz h = 0) (hck : ob_cls n ≤ k) (hk : k < 5) (h2 : U k + n ≤ ob_b P D k) :
    ob_R L H D (V + n) Q 0 b (ob_wr mem (ob_st P D k + P k + U k) n gg) (ob_wr wd (16 * h) n gg) (ob_fl own (ob_st P D k + P k + U k) n (h + 1)) (ob_u sz h n) (ob_u cl h (ob_cls n)) (ob_u xp h (ob_st P D k + P k + U k)) P (ob_u U k (U k + n)) (ob_u M k (min (M k) (ob_cls n))) q tg (ob_u pl h (ob_st P D k + P k + U k)) (ob_fl it (ob_st P D k + P k + U k) n (ob_cls n + 1)) g := by
  have h192 := ob_R_192 R
  have s := ob_st_in P D hk
  obtain ⟨r1, r2, r3, r4, r5, r6, r7, r8, r9, rL, rO, rF⟩ := R
  have L' := ob_new rL (by omega) hz hck hk h2
  have e16 : ∀ i, i < H → ob_u sz h n i ≤ 16 := by
    intro i hi
    by_cases e : i = h
    · rw [e, ob_us]; exact hn16
    · rw [ob_un e]; exact r8 i hi
  have xe : ∀ i, i < H → 0 < ob_u sz h n i → ob_u xp h (ob_st P D k + P k + U k) i = ob_u pl h (ob_st P D k + P k + U k) i := by
    intro i hi hzi
    by_cases e : i = h
    · rw [e, ob_us, ob_us]
    · rw [ob_un e] at hzi
      rw [ob_un e, ob_un e]
      exact rF.2.1 i hi hzi (Or.inl rfl)
  refine ⟨r1, r2, r3, r4, ?_, hV, r7, e16, fun i hi hzi => ?_, L', ?_, ob_F_0 xe (fun i hi hzi => ?_) rF.2.2.2.1⟩
  · rw [ob_sm_new hh hz, r5]
  · by_cases e : i = h
    · rw [e, ob_us, ob_us]
    · rw [ob_un e] at hzi
      rw [ob_un e, ob_un e]
      exact r9 i hi hzi
  · refine ob_O_new rO hh hz hn16 r8 (by omega) (fun i hi => ?_)
    by_cases z : own (ob_st P D k + P k + U k + i) = 0
    · exact z
    · exfalso
      obtain ⟨j, j1, j2, j3, j4⟩ := rO.2 _ (by omega) z
      have jz : 0 < sz j := by omega
      have jx := rF.2.1 j j1 jz (Or.inl rfl)
      have e : j ≠ h := by
        intro e
        rw [e] at jz
        omega
      have d := L'.2.2.2 j h j1 hh e (by rw [ob_un e]; exact jz) (by rw [ob_us]; omega) (ob_cls5 _) (ob_cls5 _)
      rw [ob_us, ob_us, ob_un e, ob_un e] at d
      omega
  · have a := ob_locend L' hi hzi
    omega
/-- an object goes, out of a buffer -/
theorem ob_R_del {h : Nat} (R : ob_R L H D V Q 0 b mem wd own sz cl xp P U M q tg pl it g) (hh : h < H) (ho : ob_st P D (ob_cls (sz h)) + P (ob_cls (sz h)) ≤ pl h) :
    ob_R L H D (V - sz h) Q 0 b mem wd (ob_fl own (xp h) (sz h) 0) (ob_u sz h 0) cl xp P U M q tg pl it g := by
  have hend := ob_R_end R
  obtain ⟨r1, r2, r3, r4, r5, r6, r7, r8, r9, rL, rO, rF⟩ := R
  have q : ∀ i, 0 < ob_u sz h 0 i → i ≠ h := by
    intro i hz e
    rw [e, ob_us] at hz
    omega
  refine ⟨r1, r2, r3, r4, ?_, by omega, r7, fun i hi => ?_, fun i hi hzi => ?_, ob_del rL hh ho, ob_O_del rO hh, ob_F_0 (fun i hi hzi => ?_) (fun i hi hzi => ?_) rF.2.2.2.1⟩
  · rw [(ob_sm_del hh).1, r5]
  · by_cases e : i = h
    · rw [e, ob_us]; omega
    · rw [ob_un e]; exact r8 i hi
  · have e := q i hzi
    rw [ob_un e] at hzi
    rw [ob_un e]
    exact r9 i hi hzi
  · have e := q i hzi
    rw [ob_un e] at hzi
    exact rF.2.1 i hi hzi (Or.inl rfl)
  · have e := q i hzi
    rw [ob_un e] at hzi
    rw [ob_un e]
    have := hend i hi hzi
    omega
/-- an object goes, out of its payload, and leaves a marker in buffer k -/
theorem ob_R_mark {h k : Nat} (R : ob_R L H D V Q 0 b mem wd own sz cl xp P U M q tg pl it g) (hh : h < H) (hz : 0 < sz h) (hk : k < 5) (h2 : U k + sz h ≤ ob_b P D k) :
    ob_R L H D (V - sz h) Q 0 b mem wd (ob_fl own (xp h) (sz h) 0) (ob_u sz h 0) cl xp P (ob_u U k (U k + sz h)) (ob_u M k (min (M k) (ob_cls (sz h)))) q tg pl (ob_fl it (ob_st P D k + P k + U k) (sz h) (ob_cls (sz h) + 1))
      (fun j i => if j = k ∧ i = ob_cls (sz h) then g j i + sz h else g j i) := by
  have hend := ob_R_end R
  obtain ⟨r1, r2, r3, r4, r5, r6, r7, r8, r9, rL, rO, rF⟩ := R
  have q : ∀ i, 0 < ob_u sz h 0 i → i ≠ h := by
    intro i hz e
    rw [e, ob_us] at hz
    omega
  refine ⟨r1, r2, r3, r4, ?_, by omega, r7, fun i hi => ?_, fun i hi hzi => ?_, ob_mark rL hh hz hk h2, ob_O_del rO hh, ob_F_0 (fun i hi hzi => ?_) (fun i hi hzi => ?_) rF.2.2.2.1⟩
  · rw [(ob_sm_del hh).1, r5]
  · by_cases e : i = h
    · rw [e, ob_us]; omega
    · rw [ob_un e]; exact r8 i hi
  · have e := q i hzi
    rw [ob_un e] at hzi
    rw [ob_un e]
    exact r9 i hi hzi
  · have e := q i hzi
    rw [ob_un e] at hzi
    exact rF.2.1 i hi hzi (Or.inl rfl)
  · have e := q i hzi
    rw [ob_un e] at hzi
    rw [ob_un e]
    have := hend i hi hzi
    omega
/-- the new layout's bound, ahead of the flush -/
theorem ob_R_f192 {h n B : Nat} (R : ob_R L H D V Q 0 b mem wd own sz cl xp P U M q tg pl it g) (hV : ob_sm (ob_u sz h n) H ≤ 64) (hB : B < 5) (hb : ∀ k, B ≤ k → k < 5 → B ≤ M k) (h1 : sz h = 0 ∨ B ≤ ob_cls (sz h)) (h2 : n = 0 ∨ B ≤ ob_cls n) :
    ob_st (ob_PP B H 5 P (ob_u sz h n)) D 5 ≤ 192 := by
  obtain ⟨r1, r2, r3, r4, r5, r6, r7, r8, r9, rL, rO, rF⟩ := R
  have c := ob_cut (n := n) rL (by omega) hb h1 h2
  exact ob_bound r3 (ob_flushN c.1 (by omega)) hV
/-- a flush, with a new object -/
theorem ob_R_fnew {h n B : Nat} {q' : Nat → Nat} {gg : Nat → Int32} (R : ob_R L H D V Q 0 b mem wd own sz cl xp P U M q tg pl it g) (hn : 1 ≤ n) (hn16 : n ≤ 16) (hV : V + n ≤ L) (hh : h < H) (hz : sz h = 0) (hB : B < 5) (hb : ∀ k, B ≤ k → k < 5 → B ≤ M k) (hc : B ≤ ob_cls n)
    (hq : ob_qu B H (ob_u sz h n) q' 5 0) :
    ob_R L H D (V + n) (ob_ct B H (ob_u sz h n) 5 0) (2 * ob_ct B H (ob_u sz h n) 5 0) B (ob_wr mem (512 + 16 * h) n gg) (ob_wr wd (16 * h) n gg) (ob_fl own (512 + 16 * h) n (h + 1)) (ob_u sz h n) (ob_u cl h (ob_cls n)) (ob_u xp h (512 + 16 * h))
      (ob_PP B H 5 P (ob_u sz h n)) (ob_rs2 B 5 0 U) (ob_rs2 B 5 5 M) q' (ob_pt B H D P (ob_u sz h n) tg 5 0) (ob_pt B H D P (ob_u sz h n) pl 5 0) (ob_fl it (ob_st P D B) (256 - ob_st P D B) 0) (fun j k => if j < B ∧ k < B then g j k else 0) := by
  have hVV : ob_sm (ob_u sz h n) H = V + n := by rw [ob_sm_new hh hz, R.2.2.2.2.1]
  have f192 := ob_R_f192 (n := n) R (by have := R.1; omega) hB hb (Or.inl hz) (Or.inr hc)
  have h192 := ob_R_192 R
  obtain ⟨r1, r2, r3, r4, r5, r6, r7, r8, r9, rL, rO, rF⟩ := R
  have c := ob_cut (n := n) rL (by omega) hb (Or.inl hz) (Or.inr hc)
  refine ⟨r1, r2, r3, r4, hVV.symm, hV, hB, fun i hi => ?_, fun i hi hzi => ?_, ob_flushL c (by omega) f192, ob_O_new rO hh hz hn16 r8 (by omega) (ob_slot_free rO rF r2 r8 hh (fun z => absurd z (by omega)) hn16), ob_F_start (fun i hi hzi => ?_) (fun i hi hzi hci => ?_) (fun i hi hzi hci => ?_) hq⟩
  · by_cases e : i = h
    · rw [e, ob_us]; exact hn16
    · rw [ob_un e]; exact r8 i hi
  · by_cases e : i = h
    · rw [e, ob_us, ob_us]
    · rw [ob_un e] at hzi
      rw [ob_un e, ob_un e]
      exact r9 i hi hzi
  · by_cases e : i = h
    · rw [e, ob_us]; exact Or.inl rfl
    · rw [ob_un e] at hzi
      rw [ob_un e, ob_un e]
      exact rF.1 i hi hzi
  · by_cases e : i = h
    · rw [e, ob_us] at hci
      omega
    · rw [ob_un e] at hzi
      rw [ob_un e]
      exact rF.2.1 i hi hzi (Or.inl rfl)
  · rw [ob_stB (Nat.le_refl B)]
    by_cases e : i = h
    · have m := ob_st_mono P D (m := B) (n := 5) (by omega)
      rw [e, ob_us]
      omega
    · rw [ob_un e] at hzi hci
      rw [ob_un e, rF.2.1 i hi hzi (Or.inl rfl)]
      exact ob_R_lo rL hi hzi hci
/-- a flush, with an object gone -/
theorem ob_R_fdel {h B : Nat} {q' : Nat → Nat} (R : ob_R L H D V Q 0 b mem wd own sz cl xp P U M q tg pl it g) (hh : h < H) (hB : B < 5) (hb : ∀ k, B ≤ k → k < 5 → B ≤ M k) (hc : B ≤ ob_cls (sz h))
    (hq : ob_qu B H (ob_u sz h 0) q' 5 0) :
    ob_R L H D (V - sz h) (ob_ct B H (ob_u sz h 0) 5 0) (2 * ob_ct B H (ob_u sz h 0) 5 0) B mem wd (ob_fl own (xp h) (sz h) 0) (ob_u sz h 0) cl xp
      (ob_PP B H 5 P (ob_u sz h 0)) (ob_rs2 B 5 0 U) (ob_rs2 B 5 5 M) q' (ob_pt B H D P (ob_u sz h 0) tg 5 0) (ob_pt B H D P (ob_u sz h 0) pl 5 0) (ob_fl it (ob_st P D B) (256 - ob_st P D B) 0) (fun j k => if j < B ∧ k < B then g j k else 0) := by
  have hVV : ob_sm (ob_u sz h 0) H = V - sz h := by rw [(ob_sm_del hh).1, R.2.2.2.2.1]
  have f192 := ob_R_f192 (n := 0) R (by have := R.1; have := R.2.2.2.2.2.1; omega) hB hb (Or.inr hc) (Or.inl rfl)
  obtain ⟨r1, r2, r3, r4, r5, r6, r7, r8, r9, rL, rO, rF⟩ := R
  have c := ob_cut (n := 0) rL (by omega) hb (Or.inr hc) (Or.inl rfl)
  have q : ∀ i, 0 < ob_u sz h 0 i → i ≠ h := by
    intro i hz e
    rw [e, ob_us] at hz
    omega
  refine ⟨r1, r2, r3, r4, hVV.symm, by omega, hB, fun i hi => ?_, fun i hi hzi => ?_, ob_flushL c (by omega) f192, ob_O_del rO hh, ob_F_start (fun i hi hzi => ?_) (fun i hi hzi hci => ?_) (fun i hi hzi hci => ?_) hq⟩
  · by_cases e : i = h
    · rw [e, ob_us]; omega
    · rw [ob_un e]; exact r8 i hi
  · have e := q i hzi
    rw [ob_un e] at hzi
    rw [ob_un e]
    exact r9 i hi hzi
  · have e := q i hzi
    rw [ob_un e] at hzi
    rw [ob_un e]
    exact rF.1 i hi hzi
  · have e := q i hzi
    rw [ob_un e] at hzi
    exact rF.2.1 i hi hzi (Or.inl rfl)
  · rw [ob_stB (Nat.le_refl B)]
    have e := q i hzi
    rw [ob_un e] at hzi hci
    rw [rF.2.1 i hi hzi (Or.inl rfl)]
    exact ob_R_lo rL hi hzi hci
end
end
section
/-! what is owed -/
def i_Rel (_ : Nat) (u : SX) (v : SY) : Prop := ∀ C : SX → SY → Prop,
  (∀ (L H D V Q S b mv ch : Nat) (mem wd : Nat → Int32) (own sz cl xp P U M q tg pl it : Nat → Nat) (g : Nat → Nat → Nat), ob_R L H D V Q S b mem wd own sz cl xp P U M q tg pl it g → C (ob_X L H D V Q S b mv ch mem own sz cl xp P U M q tg) (ob_Y L H D S b mv ch sz pl wd it P)) → C u v
theorem i_up {k : Nat} {u : SX} {v : SY} (h : i_Rel k u v) : i_Rel (k + 4) u v := h
theorem ob_i {k L H D V Q S b mv ch : Nat} {mem wd : Nat → Int32} {own sz cl xp P U M q tg pl it : Nat → Nat} {g : Nat → Nat → Nat} (R : ob_R L H D V Q S b mem wd own sz cl xp P U M q tg pl it g) : i_Rel k (ob_X L H D V Q S b mv ch mem own sz cl xp P U M q tg) (ob_Y L H D S b mv ch sz pl wd it P) :=
  fun _ h => h L H D V Q S b mv ch mem wd own sz cl xp P U M q tg pl it g R

/-! the constructors -/
def ob_c3 (x : Int32) (lo hi n : Nat) : Prop := (nI lo ≤ x ∧ x ≤ nI hi ∧ x = nI n) ∨ (nI lo ≤ x ∧ ¬ x ≤ nI hi ∧ n = hi) ∨ (¬ nI lo ≤ x ∧ n = lo)
theorem ob_c3_ex (x : Int32) (lo hi : Nat) (h : lo ≤ hi) (h31 : hi < 2 ^ 31) : ∃ n, lo ≤ n ∧ n ≤ hi ∧ ob_c3 x lo hi n := by
  by_cases a : nI lo ≤ x
  · by_cases c : x ≤ nI hi
    · have nn : ¬ x < 0 := by
        intro z
        have q : nI lo < 0 := Int32.lt_of_le_of_lt a z
        exact nI_pos (by omega) q
      obtain ⟨j, hj, e⟩ := nI_of nn
      refine ⟨j, ?_, ?_, Or.inl ⟨a, c, e⟩⟩
      · rw [e] at a
        exact (nI_leI (by omega) hj).mp a
      · rw [e] at c
        exact (nI_leI hj h31).mp c
    · exact ⟨hi, h, Nat.le_refl hi, Or.inr (Or.inl ⟨a, c, rfl⟩)⟩
  · exact ⟨lo, Nat.le_refl lo, h, Or.inr (Or.inr ⟨a, rfl⟩)⟩
theorem ob_c3_w {x : Int32} {lo hi n : Nat} {W : Int32 → Prop} (h : ob_c3 x lo hi n) (K : W (nI n)) : (nI lo ≤ x → ((x ≤ nI hi → W x) ∧ (¬ x ≤ nI hi → W (nI hi)))) ∧ (¬ nI lo ≤ x → W (nI lo)) := by
  rcases h with ⟨a, c, e⟩ | ⟨a, c, e⟩ | ⟨a, e⟩
  · exact br_t a (br_t c (by rw [e]; exact K))
  · exact br_t a (br_f c (by rw [← e]; exact K))
  · exact br_f a (by rw [← e]; exact K)
theorem xw_clamp {post : Int32 → Prop} {u : SX} {x : Int32} {lo hi n : Nat} (h : ob_c3 x lo hi n) (K : post (nI n)) : wpX_clamp post u x (nI lo) (nI hi) := by
  obtain ⟨a1, a2, a3, a4, a5, a6, a7, a8, a9, a10, a11, a12, a13, a14, a15, a16, a17, a18, a19, a20, a21⟩ := u
  exact ob_c3_w h K
theorem xw_init_lp {post : SX → Prop} {L H D : Nat} (K : post (ob_X L H D 0 0 0 0 0 0 (fun _ => 0) (fun _ => 0) (fun _ => 0) (fun _ => 0) (fun _ => 0) (fun _ => 0) (fun _ => 0) (ob_fl (fun _ => 0) 0 5 5) (fun _ => 0) (fun _ => 0))) : ∀ d j, j + d = 5 →
    wX_init_136 post (nI L) (nI H) (nI D) 512 0 0 0 0 0 0 (d + 1) (nI j) (fun _ => 0) (fun _ => 0) (fun _ => 0) (fun _ => 0) (fun _ => 0) (fun _ => 0) (fun _ => 0) (fun _ => 0) (ob_f (ob_fl (fun _ => 0) 0 j 5)) (fun _ => 0) (fun _ => 0) := by
  intro d
  induction d with
  | zero =>
    intro j hj
    have e : j = 5 := by omega
    subst e
    refine pk_le 5 5 (fun _ => ?_) (fun z => absurd z (by omega))
    have e0 : ob_f (ob_b (fun _ => 0) D) = (fun _ => 0) := by
      funext j
      show nI (0 / D) = 0
      rw [Nat.zero_div]; rfl
    unfold ob_X at K
    rw [e0] at K
    exact K
  | succ d ih =>
    intro j hj
    refine pk_le 5 j (fun z => absurd z (by omega)) (fun _ => ⟨pk_in j 5 (by omega), nm_r (e' := ob_f (ob_fl (fun _ => 0) 0 (j + 1) 5)) ?_ (nm_r (nI_1 j) (ih (j + 1) (by omega)))⟩)
    refine (ob_w (x := 5) (by omega)).trans (congrArg ob_f ?_)
    have e := ob_fl1 (f := fun _ => 0) (t := 0) (n := j) (x := 5)
    rw [Nat.zero_add] at e
    exact e
theorem ob_R_0 {L H D : Nat} (hL : L ≤ 64) (hH : H ≤ 16) (hD : 2 ≤ D) (hD4 : D ≤ 4) : ob_R L H D 0 0 0 0 (fun _ => 0) (fun _ => 0) (fun _ => 0) (fun _ => 0) (fun _ => 0) (fun _ => 0) (fun _ => 0) (fun _ => 0) (ob_fl (fun _ => 0) 0 5 5) (fun _ => 0) (fun _ => 0) (fun _ => 0) (fun _ => 0) (fun _ _ => 0) := by
  refine ⟨hL, hH, hD, hD4, (ob_sm_z (fun _ _ => rfl)).symm, Nat.zero_le _, by omega, fun _ _ => Nat.zero_le _, fun h _ z => absurd z (Nat.lt_irrefl 0), ⟨⟨fun k _ => Nat.zero_le _, fun j _ => ?_, fun _ _ _ _ => rfl, fun j _ => Nat.zero_le _⟩, fun j hj => ?_, fun h _ z => absurd z (Nat.lt_irrefl 0), fun h h' _ _ _ z => absurd z (Nat.lt_irrefl 0)⟩, ⟨fun h i _ z => absurd z (Nat.not_lt_zero i), fun a _ z => absurd rfl z⟩, ob_F_0 (fun h _ z => absurd z (Nat.lt_irrefl 0)) (fun h _ z => absurd z (Nat.lt_irrefl 0)) (Nat.zero_le _)⟩
  · rw [ob_sm_z (fun _ _ => rfl)]
    exact Nat.zero_le _
  · have m : ob_fl (fun _ => 0) 0 5 5 j = 5 := ob_fl_i (Nat.zero_le _) (by omega)
    unfold ob_buf
    rw [m]
    exact ⟨Nat.zero_le _, Nat.le_refl 5, fun a h1 h2 => absurd (Nat.lt_of_le_of_lt h1 h2) (Nat.lt_irrefl _), fun a _ _ => rfl, fun _ => rfl, fun z => absurd z (Nat.lt_irrefl 0)⟩
theorem yw_init {post : SY → Prop} {k0 k1 k2 : Int32} {L H D : Nat} (hL : ob_c3 k0 16 64 L) (hH : ob_c3 k1 4 16 H) (hD : ob_c3 k2 2 4 D)
    (K : post (ob_Y L H D 0 0 0 0 (fun _ => 0) (fun _ => 0) (fun _ => 0) (fun _ => 0) (fun _ => 0))) : wpY_init post k0 k1 k2 := by
  have h3 : ∀ f_limit f_handles f_divisor f_left f_boundary f_moved f_charge : Int32, wY_init_94 post k2 (nI H) (nI L) f_handles f_divisor 0 0 0 0 (fun _ => 0) (fun _ => 0) (fun _ => 0) (fun _ => 0) (fun _ => 0) := by
    intro f_limit f_handles f_divisor f_left f_boundary f_moved f_charge
    exact ob_c3_w (W := fun z => post (nI L, nI H, z, 0, 0, 0, 0, (fun _ => 0), (fun _ => 0), (fun _ => 0), (fun _ => 0), (fun _ => 0))) hD K
  have h2 : wY_init_69 post k1 k2 (nI L) 0 0 0 0 0 0 0 (fun _ => 0) (fun _ => 0) (fun _ => 0) (fun _ => 0) (fun _ => 0) :=
    ob_c3_w (W := fun z => wY_init_94 post k2 z (nI L) 0 0 0 0 0 0 (fun _ => 0) (fun _ => 0) (fun _ => 0) (fun _ => 0) (fun _ => 0)) hH (h3 0 0 0 0 0 0 0)
  exact ob_c3_w (W := fun z => wY_init_69 post k1 k2 z 0 0 0 0 0 0 0 (fun _ => 0) (fun _ => 0) (fun _ => 0) (fun _ => 0) (fun _ => 0)) hL h2
theorem i_vc0 (k0 : Int32) (k1 : Int32) (k2 : Int32) : wpX_init (fun u => wpY_init (fun v => i_Rel 3 u v) k0 k1 k2) k0 k1 k2 := by
  obtain ⟨L, l1, l2, hL⟩ := ob_c3_ex k0 16 64 (by omega) (by omega)
  obtain ⟨H, n1, n2, hH⟩ := ob_c3_ex k1 4 16 (by omega) (by omega)
  obtain ⟨D, d1, d2, hD⟩ := ob_c3_ex k2 2 4 (by omega) (by omega)
  unfold wpX_init
  refine xw_clamp (lo := 16) (hi := 64) hL ?_
  refine xw_clamp (lo := 4) (hi := 16) hH ?_
  refine xw_clamp (lo := 2) (hi := 4) hD ?_
  have l := xw_init_lp (L := L) (H := H) (D := D) (post := fun u => wpY_init (fun v => i_Rel 3 u v) k0 k1 k2) (by
    refine yw_init hL hH hD ?_
    exact ob_i (mv := 0) (ch := 0) (ob_R_0 l2 n2 d1 d2)) 5 0 (by omega)
  rw [ob_fl0] at l
  exact ⟨_, l⟩
theorem i_vc_lastMoved {k : Nat} {u : SX} {v : SY} (I : i_Rel k u v) (hk : k + 4 ≤ 2051) : wpX_lastMoved (fun r => wpY_lastMoved (fun r' => r' = r ∧ i_Rel (k + 4) u v) v) u := by
  refine I (fun u v => wpX_lastMoved (fun r => wpY_lastMoved (fun r' => r' = r ∧ i_Rel (k + 4) u v) v) u) ?_
  intro L H D V Q S b mv ch mem wd own sz cl xp P U M q tg pl it g R
  have h192 := ob_R_192 R
  have hend := ob_R_end R
  have hdis := ob_R_dis R
  have hS32 := ob_R_S R
  have I' : i_Rel (k + 4) (ob_X L H D V Q S b mv ch mem own sz cl xp P U M q tg) (ob_Y L H D S b mv ch sz pl wd it P) := ob_i R
  obtain ⟨r1, r2, r3, r4, r5, r6, r7, r8, r9, rL, rO, rF⟩ := R
  have hP : ob_st P D 5 ≤ 256 := by omega
  unfold wpX_lastMoved wpY_lastMoved; dsimp only
  exact ⟨rfl, I'⟩
theorem i_vc_lastCharge {k : Nat} {u : SX} {v : SY} (I : i_Rel k u v) (hk : k + 4 ≤ 2051) : wpX_lastCharge (fun r => wpY_lastCharge (fun r' => r' = r ∧ i_Rel (k + 4) u v) v) u := by
  refine I (fun u v => wpX_lastCharge (fun r => wpY_lastCharge (fun r' => r' = r ∧ i_Rel (k + 4) u v) v) u) ?_
  intro L H D V Q S b mv ch mem wd own sz cl xp P U M q tg pl it g R
  have h192 := ob_R_192 R
  have hend := ob_R_end R
  have hdis := ob_R_dis R
  have hS32 := ob_R_S R
  have I' : i_Rel (k + 4) (ob_X L H D V Q S b mv ch mem own sz cl xp P U M q tg) (ob_Y L H D S b mv ch sz pl wd it P) := ob_i R
  obtain ⟨r1, r2, r3, r4, r5, r6, r7, r8, r9, rL, rO, rF⟩ := R
  have hP : ob_st P D 5 ≤ 256 := by omega
  unfold wpX_lastCharge wpY_lastCharge; dsimp only
  exact ⟨rfl, I'⟩
theorem i_vc_live {k : Nat} {u : SX} {v : SY} (I : i_Rel k u v) (hk : k + 4 ≤ 2051) : wpX_live (fun r => wpY_live (fun r' => r' = r ∧ i_Rel (k + 4) u v) v) u := by
  refine I (fun u v => wpX_live (fun r => wpY_live (fun r' => r' = r ∧ i_Rel (k + 4) u v) v) u) ?_
  intro L H D V Q S b mv ch mem wd own sz cl xp P U M q tg pl it g R
  have h192 := ob_R_192 R
  have hend := ob_R_end R
  have hdis := ob_R_dis R
  have hS32 := ob_R_S R
  have I' : i_Rel (k + 4) (ob_X L H D V Q S b mv ch mem own sz cl xp P U M q tg) (ob_Y L H D S b mv ch sz pl wd it P) := ob_i R
  obtain ⟨r1, r2, r3, r4, r5, r6, r7, r8, r9, rL, rO, rF⟩ := R
  have hP : ob_st P D 5 ≤ 256 := by omega
  unfold wpX_live; dsimp only
  refine yw_liveV r2 ?_
  rw [r5]
  rw [r5] at I'
  exact ⟨rfl, I'⟩
theorem i_vc_footprint {k : Nat} {u : SX} {v : SY} (I : i_Rel k u v) (hk : k + 4 ≤ 2051) : wpX_footprint (fun r => wpY_footprint (fun r' => r' = r ∧ i_Rel (k + 4) u v) v) u := by
  refine I (fun u v => wpX_footprint (fun r => wpY_footprint (fun r' => r' = r ∧ i_Rel (k + 4) u v) v) u) ?_
  intro L H D V Q S b mv ch mem wd own sz cl xp P U M q tg pl it g R
  have h192 := ob_R_192 R
  have hend := ob_R_end R
  have hdis := ob_R_dis R
  have hS32 := ob_R_S R
  have I' : i_Rel (k + 4) (ob_X L H D V Q S b mv ch mem own sz cl xp P U M q tg) (ob_Y L H D S b mv ch sz pl wd it P) := ob_i R
  obtain ⟨r1, r2, r3, r4, r5, r6, r7, r8, r9, rL, rO, rF⟩ := R
  have hP : ob_st P D 5 ≤ 256 := by omega
  unfold wpX_footprint; dsimp only
  refine pk_le S 0 (fun z => ?_) (fun z => ?_)
  · refine xw_start (k := 5) (Nat.le_refl 5) hP ?_
    unfold wpY_footprint; dsimp only
    refine pk_le S 0 (fun _ => ?_) (fun w => absurd w (by omega))
    refine yw_start (k := 5) (Nat.le_refl 5) r3 r4 hP ?_
    exact ⟨rfl, I'⟩
  · unfold wpY_footprint; dsimp only
    exact pk_le S 0 (fun w => absurd w (by omega)) (fun _ => ⟨rfl, I'⟩)
theorem i_vc_size {k : Nat} {u : SX} {v : SY} (I : i_Rel k u v) (hk : k + 4 ≤ 2051) (v1 : Int32) : wpX_size (fun r => wpY_size (fun r' => r' = r ∧ i_Rel (k + 4) u v) v v1) u v1 := by
  refine I (fun u v => wpX_size (fun r => wpY_size (fun r' => r' = r ∧ i_Rel (k + 4) u v) v v1) u v1) ?_
  intro L H D V Q S b mv ch mem wd own sz cl xp P U M q tg pl it g R
  have h192 := ob_R_192 R
  have hend := ob_R_end R
  have hdis := ob_R_dis R
  have hS32 := ob_R_S R
  have I' : i_Rel (k + 4) (ob_X L H D V Q S b mv ch mem own sz cl xp P U M q tg) (ob_Y L H D S b mv ch sz pl wd it P) := ob_i R
  obtain ⟨r1, r2, r3, r4, r5, r6, r7, r8, r9, rL, rO, rF⟩ := R
  have hP : ob_st P D 5 ≤ 256 := by omega
  rcases ob_case H sz v1 with hd | ⟨h, hh, hz, rfl⟩
  · unfold wpX_size; dsimp only
    refine xw_live_n r2 hd ?_
    refine br_t rfl ?_
    unfold wpY_size; dsimp only
    refine yw_live_n r2 hd ?_
    exact br_t rfl ⟨rfl, I'⟩
  · unfold wpX_size; dsimp only
    refine xw_live_y hh r2 hz (r8 h hh) ?_
    refine br_f (by decide) ⟨pk_in h 16 (by omega), ?_⟩
    unfold wpY_size; dsimp only
    refine yw_live_y hh r2 hz (r8 h hh) ?_
    exact br_f (by decide) ⟨pk_in h 16 (by omega), rfl, I'⟩
theorem i_vc_address {k : Nat} {u : SX} {v : SY} (I : i_Rel k u v) (hk : k + 4 ≤ 2051) (v1 : Int32) : wpX_address (fun r => wpY_address (fun r' => r' = r ∧ i_Rel (k + 4) u v) v v1) u v1 := by
  refine I (fun u v => wpX_address (fun r => wpY_address (fun r' => r' = r ∧ i_Rel (k + 4) u v) v v1) u v1) ?_
  intro L H D V Q S b mv ch mem wd own sz cl xp P U M q tg pl it g R
  have h192 := ob_R_192 R
  have hend := ob_R_end R
  have hdis := ob_R_dis R
  have hS32 := ob_R_S R
  have I' : i_Rel (k + 4) (ob_X L H D V Q S b mv ch mem own sz cl xp P U M q tg) (ob_Y L H D S b mv ch sz pl wd it P) := ob_i R
  obtain ⟨r1, r2, r3, r4, r5, r6, r7, r8, r9, rL, rO, rF⟩ := R
  have hP : ob_st P D 5 ≤ 256 := by omega
  rcases ob_case H sz v1 with hd | ⟨h, hh, hz, rfl⟩
  · unfold wpX_address; dsimp only
    refine xw_live_n r2 hd ?_
    refine br_t rfl ?_
    unfold wpY_address; dsimp only
    refine yw_live_n r2 hd ?_
    exact br_t rfl ⟨rfl, I'⟩
  · have c5 := ob_cls5 (sz h)
    have z16 := r8 h hh
    unfold wpX_address; dsimp only
    refine xw_live_y hh r2 hz z16 ?_
    refine br_f (by decide) ⟨pk_in h 16 (by omega), ?_⟩
    rw [ob_r (f := cl) (by omega), r9 h hh hz]
    by_cases q1 : S = 0 ∨ ob_cls (sz h) < b
    · have ex := rF.2.1 h hh hz q1
      refine xw_hid_0 hS32 c5 (by omega) q1 ?_
      refine br_t rfl ⟨pk_in h 16 (by omega), ?_⟩
      have an : ob_f pl (nI h).toNatClampNeg = ob_f xp (nI h).toNatClampNeg := by rw [ob_r (by omega), ob_r (by omega), ex]
      unfold wpY_address; dsimp only
      refine yw_live_y hh r2 hz z16 ?_
      refine br_f (by decide) (pk_le S 0 (fun _ => ⟨pk_in h 16 (by omega), an, I'⟩) (fun w => ⟨pk_in h 16 (by omega), ?_⟩))
      rw [ob_r (f := sz) (by omega)]
      refine yw_cls z16 ?_
      exact pk_lt (ob_cls (sz h)) b (fun _ => ⟨pk_in h 16 (by omega), an, I'⟩) (fun w2 => absurd q1 (by omega))
    · refine xw_hid_1 hS32 c5 (by omega) (by omega) (by omega) ?_
      refine br_f (by decide) ?_
      unfold wpY_address; dsimp only
      refine yw_live_y hh r2 hz z16 ?_
      refine br_f (by decide) (pk_le S 0 (fun w => absurd w (by omega)) (fun w => ⟨pk_in h 16 (by omega), ?_⟩))
      rw [ob_r (f := sz) (by omega)]
      refine yw_cls z16 ?_
      exact pk_lt (ob_cls (sz h)) b (fun w2 => absurd w2 (by omega)) (fun _ => ⟨rfl, I'⟩)
theorem ob_reg (x : Int32) : (x < 0 ∨ 5 ≤ x) ∨ ∃ c, c < 5 ∧ x = nI c := by
  rcases pk_ix x (n := 5) (by omega) with h | h | h
  · exact Or.inl (Or.inl h)
  · exact Or.inl (Or.inr h)
  · exact Or.inr h
theorem ob_adr (x : Int32) : (x < 0 ∨ 256 ≤ x) ∨ ∃ a, a < 256 ∧ x = nI a := by
  rcases pk_ix x (n := 256) (by omega) with h | h | h
  · exact Or.inl (Or.inl h)
  · exact Or.inl (Or.inr h)
  · exact Or.inr h
theorem i_vc_payload {k : Nat} {u : SX} {v : SY} (I : i_Rel k u v) (hk : k + 4 ≤ 2051) (v1 : Int32) : wpX_payload (fun r => wpY_payload (fun r' => r' = r ∧ i_Rel (k + 4) u v) v v1) u v1 := by
  refine I (fun u v => wpX_payload (fun r => wpY_payload (fun r' => r' = r ∧ i_Rel (k + 4) u v) v v1) u v1) ?_
  intro L H D V Q S b mv ch mem wd own sz cl xp P U M q tg pl it g R
  have h192 := ob_R_192 R
  have hend := ob_R_end R
  have hdis := ob_R_dis R
  have hS32 := ob_R_S R
  have I' : i_Rel (k + 4) (ob_X L H D V Q S b mv ch mem own sz cl xp P U M q tg) (ob_Y L H D S b mv ch sz pl wd it P) := ob_i R
  obtain ⟨r1, r2, r3, r4, r5, r6, r7, r8, r9, rL, rO, rF⟩ := R
  have hP : ob_st P D 5 ≤ 256 := by omega
  rcases ob_reg v1 with hx | ⟨c, hc, rfl⟩
  · unfold wpX_payload; dsimp only
    refine xw_chk_b hx ?_
    refine br_f (by decide) ?_
    unfold wpY_payload; dsimp only
    refine br_c (fun _ => ⟨rfl, I'⟩) (fun z => ?_)
    rcases hx with h | h
    · exact absurd h z
    · exact br_f (Int32.not_lt.mpr h) ⟨rfl, I'⟩
  · by_cases q1 : S = 0 ∨ c < b
    · unfold wpX_payload; dsimp only
      refine xw_chk_0 hS32 hc (by omega) q1 ?_
      refine br_t rfl ⟨pk_in c 5 hc, ?_⟩
      unfold wpY_payload; dsimp only
      exact br_f (nI_pos (by omega)) (pk_lt c 5 (fun _ => pk_le S 0 (fun w => ⟨pk_in c 5 hc, rfl, I'⟩) (fun _ => pk_lt c b (fun w => ⟨pk_in c 5 hc, rfl, I'⟩) (fun w => absurd q1 (by omega)))) (fun w => absurd w (by omega)))
    · unfold wpX_payload; dsimp only
      refine xw_chk_1 hS32 hc (by omega) (by omega) (by omega) ?_
      refine br_f (by decide) ?_
      unfold wpY_payload; dsimp only
      exact br_f (nI_pos (by omega)) (pk_lt c 5 (fun _ => pk_le S 0 (fun w => absurd w (by omega)) (fun _ => pk_lt c b (fun w => absurd w (by omega)) (fun _ => ⟨rfl, I'⟩))) (fun w => absurd w (by omega)))
theorem i_vc_used {k : Nat} {u : SX} {v : SY} (I : i_Rel k u v) (hk : k + 4 ≤ 2051) (v1 : Int32) : wpX_used (fun r => wpY_used (fun r' => r' = r ∧ i_Rel (k + 4) u v) v v1) u v1 := by
  refine I (fun u v => wpX_used (fun r => wpY_used (fun r' => r' = r ∧ i_Rel (k + 4) u v) v v1) u v1) ?_
  intro L H D V Q S b mv ch mem wd own sz cl xp P U M q tg pl it g R
  have h192 := ob_R_192 R
  have hend := ob_R_end R
  have hdis := ob_R_dis R
  have hS32 := ob_R_S R
  have I' : i_Rel (k + 4) (ob_X L H D V Q S b mv ch mem own sz cl xp P U M q tg) (ob_Y L H D S b mv ch sz pl wd it P) := ob_i R
  obtain ⟨r1, r2, r3, r4, r5, r6, r7, r8, r9, rL, rO, rF⟩ := R
  have hP : ob_st P D 5 ≤ 256 := by omega
  rcases ob_reg v1 with hx | ⟨c, hc, rfl⟩
  · unfold wpX_used; dsimp only
    refine xw_chk_b hx ?_
    refine br_f (by decide) ?_
    unfold wpY_used; dsimp only
    refine br_c (fun _ => ⟨rfl, I'⟩) (fun z => ?_)
    rcases hx with h | h
    · exact absurd h z
    · exact br_f (Int32.not_lt.mpr h) ⟨rfl, I'⟩
  · by_cases q1 : S = 0 ∨ c < b
    · unfold wpX_used; dsimp only
      refine xw_chk_0 hS32 hc (by omega) q1 ?_
      refine br_t rfl ⟨pk_in c 5 hc, ?_⟩
      rw [ob_r (f := U) (by omega)]
      unfold wpY_used; dsimp only
      refine br_f (nI_pos (by omega)) (pk_lt c 5 (fun _ => pk_le S 0 (fun w => ?_) (fun _ => pk_lt c b (fun w => ?_) (fun w => absurd q1 (by omega)))) (fun w => absurd w (by omega)))
      · unfold wY_used_31
        refine yw_taken hc r3 r4 hP (rL.2.1 c hc) ?_
        exact ⟨rfl, I'⟩
      · unfold wY_used_31
        refine yw_taken hc r3 r4 hP (rL.2.1 c hc) ?_
        exact ⟨rfl, I'⟩
    · unfold wpX_used; dsimp only
      refine xw_chk_1 hS32 hc (by omega) (by omega) (by omega) ?_
      refine br_f (by decide) ?_
      unfold wpY_used; dsimp only
      exact br_f (nI_pos (by omega)) (pk_lt c 5 (fun _ => pk_le S 0 (fun w => absurd w (by omega)) (fun _ => pk_lt c b (fun w => absurd w (by omega)) (fun _ => ⟨rfl, I'⟩))) (fun w => absurd w (by omega)))
theorem i_vc_lowest {k : Nat} {u : SX} {v : SY} (I : i_Rel k u v) (hk : k + 4 ≤ 2051) (v1 : Int32) : wpX_lowest (fun r => wpY_lowest (fun r' => r' = r ∧ i_Rel (k + 4) u v) v v1) u v1 := by
  refine I (fun u v => wpX_lowest (fun r => wpY_lowest (fun r' => r' = r ∧ i_Rel (k + 4) u v) v v1) u v1) ?_
  intro L H D V Q S b mv ch mem wd own sz cl xp P U M q tg pl it g R
  have h192 := ob_R_192 R
  have hend := ob_R_end R
  have hdis := ob_R_dis R
  have hS32 := ob_R_S R
  have I' : i_Rel (k + 4) (ob_X L H D V Q S b mv ch mem own sz cl xp P U M q tg) (ob_Y L H D S b mv ch sz pl wd it P) := ob_i R
  obtain ⟨r1, r2, r3, r4, r5, r6, r7, r8, r9, rL, rO, rF⟩ := R
  have hP : ob_st P D 5 ≤ 256 := by omega
  rcases ob_reg v1 with hx | ⟨c, hc, rfl⟩
  · unfold wpX_lowest; dsimp only
    refine xw_chk_b hx ?_
    refine br_f (by decide) ?_
    unfold wpY_lowest; dsimp only
    refine br_c (fun _ => ⟨rfl, I'⟩) (fun z => ?_)
    rcases hx with h | h
    · exact absurd h z
    · exact br_f (Int32.not_lt.mpr h) ⟨rfl, I'⟩
  · by_cases q1 : S = 0 ∨ c < b
    · unfold wpX_lowest; dsimp only
      refine xw_chk_0 hS32 hc (by omega) q1 ?_
      have m5 := (rL.2.1 c hc).2.1
      have yl : ∀ post : Int32 → Prop, (M c = 5 → post (-5)) → (M c ≠ 5 → post (nI (M c))) → wY_lowest_29 post (nI c) (nI L) (nI H) (nI D) (nI S) (nI b) (nI mv) (nI ch) (ob_f sz) (ob_f pl) wd (ob_f it) (ob_f P) := by
        intro post K0 K1
        unfold wY_lowest_29
        refine yw_least hc r3 r4 hP (rL.2.1 c hc) ?_
        exact pk_eq (M c) 5 K0 K1
      refine br_t rfl ⟨pk_in c 5 hc, ?_⟩
      rw [ob_r (f := M) (by omega)]
      refine pk_eq (M c) 5 (fun e => ?_) (fun e => ⟨pk_in c 5 hc, ?_⟩)
      · unfold wpY_lowest; dsimp only
        exact br_f (nI_pos (by omega)) (pk_lt c 5 (fun _ => pk_le S 0 (fun w => yl _ (fun _ => ⟨rfl, I'⟩) (fun z => absurd e z)) (fun _ => pk_lt c b (fun w => yl _ (fun _ => ⟨rfl, I'⟩) (fun z => absurd e z)) (fun w => absurd q1 (by omega)))) (fun w => absurd w (by omega)))
      · unfold wpY_lowest; dsimp only
        exact br_f (nI_pos (by omega)) (pk_lt c 5 (fun _ => pk_le S 0 (fun w => yl _ (fun z => absurd z e) (fun _ => ⟨rfl, I'⟩)) (fun _ => pk_lt c b (fun w => yl _ (fun z => absurd z e) (fun _ => ⟨rfl, I'⟩)) (fun w => absurd q1 (by omega)))) (fun w => absurd w (by omega)))
    · unfold wpX_lowest; dsimp only
      refine xw_chk_1 hS32 hc (by omega) (by omega) (by omega) ?_
      refine br_f (by decide) ?_
      unfold wpY_lowest; dsimp only
      exact br_f (nI_pos (by omega)) (pk_lt c 5 (fun _ => pk_le S 0 (fun w => absurd w (by omega)) (fun _ => pk_lt c b (fun w => absurd w (by omega)) (fun _ => ⟨rfl, I'⟩))) (fun w => absurd w (by omega)))
end
section
/-! what is owed, further -/
theorem ob_e16 (h i : Nat) : (16 : Int32) * nI h + nI i = nI (16 * h + i) := by
  have e : (16 : Int32) * nI h = nI (16 * h) := pk_mul 16 h
  rw [e, nI_add]
theorem i_vc_read {k : Nat} {u : SX} {v : SY} (I : i_Rel k u v) (hk : k + 4 ≤ 2051) (v1 : Int32) (v2 : Int32) : wpX_read (fun r => wpY_read (fun r' => r' = r ∧ i_Rel (k + 4) u v) v v1 v2) u v1 v2 := by
  refine I (fun u v => wpX_read (fun r => wpY_read (fun r' => r' = r ∧ i_Rel (k + 4) u v) v v1 v2) u v1 v2) ?_
  intro L H D V Q S b mv ch mem wd own sz cl xp P U M q tg pl it g R
  have h192 := ob_R_192 R
  have hend := ob_R_end R
  have hdis := ob_R_dis R
  have hS32 := ob_R_S R
  have I' : i_Rel (k + 4) (ob_X L H D V Q S b mv ch mem own sz cl xp P U M q tg) (ob_Y L H D S b mv ch sz pl wd it P) := ob_i R
  have R0 := R
  obtain ⟨r1, r2, r3, r4, r5, r6, r7, r8, r9, rL, rO, rF⟩ := R
  have hP : ob_st P D 5 ≤ 256 := by omega
  rcases ob_case H sz v1 with hd | ⟨h, hh, hz, rfl⟩
  · unfold wpX_read; dsimp only
    refine xw_word_d r2 hd ?_
    refine br_t rfl ?_
    unfold wpY_read; dsimp only
    refine yw_live_n r2 hd ?_
    exact br_t rfl ⟨rfl, I'⟩
  · have z16 := r8 h hh
    rcases pk_ix v2 (n := sz h) (by omega) with w | w | ⟨i, hi, rfl⟩
    · unfold wpX_read; dsimp only
      refine xw_word_n hh r2 hz z16 (Or.inl w) ?_
      refine br_t rfl ?_
      unfold wpY_read; dsimp only
      refine yw_live_y hh r2 hz z16 ?_
      exact br_f (by decide) (br_t w ⟨rfl, I'⟩)
    · unfold wpX_read; dsimp only
      refine xw_word_n hh r2 hz z16 (Or.inr w) ?_
      refine br_t rfl ?_
      unfold wpY_read; dsimp only
      refine yw_live_y hh r2 hz z16 ?_
      refine br_f (by decide) (br_c (fun _ => ⟨rfl, I'⟩) (fun _ => ⟨pk_in h 16 (by omega), ?_⟩))
      rw [ob_r (f := sz) (by omega)]
      exact br_f (Int32.not_lt.mpr w) ⟨rfl, I'⟩
    · obtain ⟨o1, o2, o3⟩ := rO.1 h i hh hi
      have ex : ob_f xp (nI h).toNatClampNeg + nI i = nI (xp h + i) := by rw [ob_r (by omega), nI_add]
      unfold wpX_read; dsimp only
      refine xw_word_y hh r2 z16 hi ?_
      refine br_f (by decide) ⟨pk_in h 16 (by omega), pk_in (xp h + i) 768 o1 ex, ?_⟩
      rw [ex, nI_clamp (by omega), o3]
      unfold wpY_read; dsimp only
      refine yw_live_y hh r2 hz z16 ?_
      refine br_f (by decide) (br_f (nI_pos (by omega)) ⟨pk_in h 16 (by omega), pk_lt i (sz h) (fun _ => ⟨pk_in (16 * h + i) 256 (by omega) (ob_e16 h i), ?_⟩) (fun z => absurd z (by omega)) rfl (ob_r (by omega))⟩)
      rw [ob_e16, nI_clamp (by omega)]
      exact ⟨rfl, I'⟩
theorem i_vc_write {k : Nat} {u : SX} {v : SY} (I : i_Rel k u v) (hk : k + 4 ≤ 2051) (v1 : Int32) (v2 : Int32) (v3 : Int32) : wpX_write (fun r u' => wpY_write (fun r' v' => r' = r ∧ i_Rel (k + 4) u' v') v v1 v2 v3) u v1 v2 v3 := by
  refine I (fun u v => wpX_write (fun r u' => wpY_write (fun r' v' => r' = r ∧ i_Rel (k + 4) u' v') v v1 v2 v3) u v1 v2 v3) ?_
  intro L H D V Q S b mv ch mem wd own sz cl xp P U M q tg pl it g R
  have h192 := ob_R_192 R
  have hend := ob_R_end R
  have hdis := ob_R_dis R
  have hS32 := ob_R_S R
  have I' : i_Rel (k + 4) (ob_X L H D V Q S b mv ch mem own sz cl xp P U M q tg) (ob_Y L H D S b mv ch sz pl wd it P) := ob_i R
  have R0 := R
  obtain ⟨r1, r2, r3, r4, r5, r6, r7, r8, r9, rL, rO, rF⟩ := R
  have hP : ob_st P D 5 ≤ 256 := by omega
  rcases ob_case H sz v1 with hd | ⟨h, hh, hz, rfl⟩
  · unfold wpX_write; dsimp only
    refine xw_word_d r2 hd ?_
    refine br_t rfl ?_
    unfold wpY_write; dsimp only
    refine yw_live_n r2 hd ?_
    exact br_t rfl ⟨rfl, I'⟩
  · have z16 := r8 h hh
    rcases pk_ix v2 (n := sz h) (by omega) with w | w | ⟨i, hi, rfl⟩
    · unfold wpX_write; dsimp only
      refine xw_word_n hh r2 hz z16 (Or.inl w) ?_
      refine br_t rfl ?_
      unfold wpY_write; dsimp only
      refine yw_live_y hh r2 hz z16 ?_
      exact br_f (by decide) (br_t w ⟨rfl, I'⟩)
    · unfold wpX_write; dsimp only
      refine xw_word_n hh r2 hz z16 (Or.inr w) ?_
      refine br_t rfl ?_
      unfold wpY_write; dsimp only
      refine yw_live_y hh r2 hz z16 ?_
      refine br_f (by decide) (br_c (fun _ => ⟨rfl, I'⟩) (fun _ => ⟨pk_in h 16 (by omega), ?_⟩))
      rw [ob_r (f := sz) (by omega)]
      exact br_f (Int32.not_lt.mpr w) ⟨rfl, I'⟩
    · obtain ⟨o1, o2, o3⟩ := rO.1 h i hh hi
      have ex : ob_f xp (nI h).toNatClampNeg + nI i = nI (xp h + i) := by rw [ob_r (by omega), nI_add]
      unfold wpX_write; dsimp only
      refine xw_word_y hh r2 z16 hi ?_
      refine br_f (by decide) ⟨pk_in h 16 (by omega), pk_in (xp h + i) 768 o1 ex, nm_r (e' := upd mem (xp h + i) (v3 &&& 65535)) (by rw [ex, nI_clamp (by omega)]) ?_⟩
      unfold wpY_write; dsimp only
      refine yw_live_y hh r2 hz z16 ?_
      refine br_f (by decide) (br_f (nI_pos (by omega)) ⟨pk_in h 16 (by omega), pk_lt i (sz h) (fun _ => ⟨pk_in (16 * h + i) 256 (by omega) (ob_e16 h i), nm_r (e' := upd wd (16 * h + i) (v3 &&& 65535)) (by rw [ob_e16, nI_clamp (by omega)]) ?_⟩) (fun z => absurd z (by omega)) rfl (ob_r (by omega))⟩)
      exact ⟨rfl, ob_i ⟨r1, r2, r3, r4, r5, r6, r7, r8, r9, rL, ob_O_write rO r8 hh hi, rF⟩⟩
/-- which object covers address a, as far as it is told -/
theorem ob_cov {L H D V Q S b : Nat} {mem wd : Nat → Int32} {own sz cl xp P U M q tg pl it : Nat → Nat} {g : Nat → Nat → Nat} (R : ob_R L H D V Q S b mem wd own sz cl xp P U M q tg pl it g) {a : Nat} (ha : a < 256) (h : S = 0 ∨ a < ob_st P D b) :
    (∀ h, h < H → 0 < sz h → pl h ≤ a → a < pl h + sz h → xp h = pl h ∧ own a = h + 1) ∧ (own a ≠ 0 → ∃ h, h < H ∧ 0 < sz h ∧ pl h ≤ a ∧ a < pl h + sz h ∧ own a = h + 1 ∧ xp h = pl h) := by
  have hdis := ob_R_dis R
  have hend := ob_R_end R
  have h192 := ob_R_192 R
  obtain ⟨r1, r2, r3, r4, r5, r6, r7, r8, r9, rL, rO, rF⟩ := R
  have low : ∀ i, i < H → 0 < sz i → a < ob_st P D b → pl i ≤ a → ob_cls (sz i) < b := by
    intro i hi hz hlt hle
    by_cases w : ob_cls (sz i) < b
    · exact w
    · have := ob_R_lo (B := b) rL hi hz (by omega)
      omega
  constructor
  · intro i hi hz h1 h2
    have e : xp i = pl i := by
      rcases h with z | z
      · exact rF.2.1 i hi hz (Or.inl z)
      · exact rF.2.1 i hi hz (Or.inr (low i hi hz z h1))
    refine ⟨e, ?_⟩
    have o := (rO.1 i (a - pl i) hi (by omega)).2.1
    rw [e, show pl i + (a - pl i) = a by omega] at o
    exact o
  · intro hne
    obtain ⟨i, i1, i2, i3, i4⟩ := rO.2 a (by omega) hne
    have hz : 0 < sz i := by omega
    have e : xp i = pl i := by
      by_cases s0 : S = 0
      · exact rF.2.1 i i1 hz (Or.inl s0)
      · by_cases cb : ob_cls (sz i) < b
        · exact rF.2.1 i i1 hz (Or.inr cb)
        · exfalso
          have g6 := (rF.2.2.2.2 (by omega)).2.2.2.2.2 i i1 hz (by omega)
          omega
    exact ⟨i, i1, hz, by rw [← e]; exact i3, by rw [← e]; exact i4, i2, e⟩
theorem i_vc_peek {k : Nat} {u : SX} {v : SY} (I : i_Rel k u v) (hk : k + 4 ≤ 2051) (v1 : Int32) : wpX_peek (fun r => wpY_peek (fun r' => r' = r ∧ i_Rel (k + 4) u v) v v1) u v1 := by
  refine I (fun u v => wpX_peek (fun r => wpY_peek (fun r' => r' = r ∧ i_Rel (k + 4) u v) v v1) u v1) ?_
  intro L H D V Q S b mv ch mem wd own sz cl xp P U M q tg pl it g R
  have h192 := ob_R_192 R
  have hend := ob_R_end R
  have hdis := ob_R_dis R
  have hS32 := ob_R_S R
  have I' : i_Rel (k + 4) (ob_X L H D V Q S b mv ch mem own sz cl xp P U M q tg) (ob_Y L H D S b mv ch sz pl wd it P) := ob_i R
  have R0 := R
  obtain ⟨r1, r2, r3, r4, r5, r6, r7, r8, r9, rL, rO, rF⟩ := R
  have hP : ob_st P D 5 ≤ 256 := by omega
  rcases ob_adr v1 with hx | ⟨a, ha, rfl⟩
  · unfold wpX_peek; dsimp only
    refine xw_loc_b hx ?_
    refine br_f (by decide) ?_
    unfold wpY_peek; dsimp only
    refine yw_own_b hx ?_
    exact br_f (by decide) ⟨rfl, I'⟩
  · by_cases q1 : S = 0 ∨ a < ob_st P D b
    · have cov := ob_cov R0 ha q1
      have o16 := ob_R_own R0 (a := a) (by omega)
      unfold wpX_peek; dsimp only
      refine xw_loc_t ha hS32 (by omega) hP q1 o16 ?_
      by_cases oz : own a = 0
      · rw [if_pos oz]
        refine br_f (by decide) ?_
        unfold wpY_peek; dsimp only
        refine yw_own_t ha hS32 (by omega) r3 r4 hP q1 r2 r8 hend (fun _ => ?_) (fun h hh hz h1 h2 => ?_)
        · exact br_f (by decide) ⟨rfl, I'⟩
        · have := (cov.1 h hh hz h1 h2).2
          omega
      · rw [if_neg oz]
        refine br_t (nI_pos' (by omega)) ⟨pk_in a 768 (by omega), ?_⟩
        unfold wpY_peek; dsimp only
        refine yw_own_t ha hS32 (by omega) r3 r4 hP q1 r2 r8 hend (fun hno => ?_) (fun h hh hz h1 h2 => ?_)
        · obtain ⟨h, hh, hz, h1, h2, _⟩ := cov.2 oz
          exact absurd (hno h hh h1 h2) (fun z => z)
        · have c := cov.1 h hh hz h1 h2
          have z16 := r8 h hh
          have he := hend h hh hz
          have o := (rO.1 h (a - pl h) hh (by omega)).2.2
          rw [c.1, show pl h + (a - pl h) = a by omega] at o
          have ei : (16 : Int32) * nI h + nI a - ob_f pl (nI h).toNatClampNeg = nI (16 * h + (a - pl h)) := by
            rw [ob_e16, ob_r (by omega), pk_sub (by omega)]
            exact congrArg nI (by omega)
          refine br_t (nI_pos' (by omega)) ⟨pk_in h 16 (by omega), pk_in (16 * h + (a - pl h)) 256 (by omega) ei, ?_, I'⟩
          rw [ei, nI_clamp (by omega), nI_clamp (by omega)]
          exact o.symm
    · unfold wpX_peek; dsimp only
      refine xw_loc_h ha (by omega) hS32 (by omega) hP (by omega) ?_
      refine br_f (by decide) ?_
      unfold wpY_peek; dsimp only
      refine yw_own_h ha (by omega) hS32 (by omega) r3 r4 hP (by omega) ?_
      exact br_f (by decide) ⟨rfl, I'⟩
theorem i_vc_poke {k : Nat} {u : SX} {v : SY} (I : i_Rel k u v) (hk : k + 4 ≤ 2051) (v1 : Int32) (v2 : Int32) : wpX_poke (fun r u' => wpY_poke (fun r' v' => r' = r ∧ i_Rel (k + 4) u' v') v v1 v2) u v1 v2 := by
  refine I (fun u v => wpX_poke (fun r u' => wpY_poke (fun r' v' => r' = r ∧ i_Rel (k + 4) u' v') v v1 v2) u v1 v2) ?_
  intro L H D V Q S b mv ch mem wd own sz cl xp P U M q tg pl it g R
  have h192 := ob_R_192 R
  have hend := ob_R_end R
  have hdis := ob_R_dis R
  have hS32 := ob_R_S R
  have I' : i_Rel (k + 4) (ob_X L H D V Q S b mv ch mem own sz cl xp P U M q tg) (ob_Y L H D S b mv ch sz pl wd it P) := ob_i R
  have R0 := R
  obtain ⟨r1, r2, r3, r4, r5, r6, r7, r8, r9, rL, rO, rF⟩ := R
  have hP : ob_st P D 5 ≤ 256 := by omega
  rcases ob_adr v1 with hx | ⟨a, ha, rfl⟩
  · unfold wpX_poke; dsimp only
    refine xw_loc_b hx ?_
    refine br_t (by decide) ?_
    unfold wpY_poke; dsimp only
    refine yw_own_b hx ?_
    exact br_t (by decide) ⟨rfl, I'⟩
  · by_cases q1 : S = 0 ∨ a < ob_st P D b
    · have cov := ob_cov R0 ha q1
      have o16 := ob_R_own R0 (a := a) (by omega)
      unfold wpX_poke; dsimp only
      refine xw_loc_t ha hS32 (by omega) hP q1 o16 ?_
      by_cases oz : own a = 0
      · rw [if_pos oz]
        refine br_t (by decide) ?_
        unfold wpY_poke; dsimp only
        refine yw_own_t ha hS32 (by omega) r3 r4 hP q1 r2 r8 hend (fun _ => ?_) (fun h hh hz h1 h2 => ?_)
        · exact br_t (by decide) ⟨rfl, I'⟩
        · have := (cov.1 h hh hz h1 h2).2
          omega
      · rw [if_neg oz]
        refine br_f (nI_pos (by omega)) ⟨pk_in a 768 (by omega), nm_r (e' := upd mem a (v2 &&& 65535)) (by rw [nI_clamp (by omega)]) ?_⟩
        unfold wpY_poke; dsimp only
        refine yw_own_t ha hS32 (by omega) r3 r4 hP q1 r2 r8 hend (fun hno => ?_) (fun h hh hz h1 h2 => ?_)
        · obtain ⟨h, hh, hz, h1, h2, _⟩ := cov.2 oz
          exact absurd (hno h hh h1 h2) (fun z => z)
        · have c := cov.1 h hh hz h1 h2
          have z16 := r8 h hh
          have he := hend h hh hz
          have ei : (16 : Int32) * nI h + nI a - ob_f pl (nI h).toNatClampNeg = nI (16 * h + (a - pl h)) := by
            rw [ob_e16, ob_r (by omega), pk_sub (by omega)]
            exact congrArg nI (by omega)
          refine br_f (nI_pos (by omega)) ⟨pk_in h 16 (by omega), pk_in (16 * h + (a - pl h)) 256 (by omega) ei, nm_r (e' := upd wd (16 * h + (a - pl h)) (v2 &&& 65535)) (by rw [ei, nI_clamp (by omega)]) ?_⟩
          have O' := ob_O_write (x := v2 &&& 65535) rO r8 hh (i := a - pl h) (by omega)
          rw [c.1, show pl h + (a - pl h) = a by omega] at O'
          refine ⟨?_, ob_i ⟨r1, r2, r3, r4, r5, r6, r7, r8, r9, rL, O', rF⟩⟩
          rw [c.2]
          rfl
    · unfold wpX_poke; dsimp only
      refine xw_loc_h ha (by omega) hS32 (by omega) hP (by omega) ?_
      refine br_t (by decide) ?_
      unfold wpY_poke; dsimp only
      refine yw_own_h ha (by omega) hS32 (by omega) r3 r4 hP (by omega) ?_
      exact br_t (by decide) ⟨rfl, I'⟩
theorem i_vc_step {k : Nat} {u : SX} {v : SY} (I : i_Rel k u v) (hk : k + 4 ≤ 2051) (v1 : Int32) : wpX_step (fun r u' => wpY_step (fun r' v' => r' = r ∧ i_Rel (k + 4) u' v') v v1) u v1 := by
  refine I (fun u v => wpX_step (fun r u' => wpY_step (fun r' v' => r' = r ∧ i_Rel (k + 4) u' v') v v1) u v1) ?_
  intro L H D V Q S b mv ch mem wd own sz cl xp P U M q tg pl it g R
  have h192 := ob_R_192 R
  have hend := ob_R_end R
  have hdis := ob_R_dis R
  have hS32 := ob_R_S R
  have I' : i_Rel (k + 4) (ob_X L H D V Q S b mv ch mem own sz cl xp P U M q tg) (ob_Y L H D S b mv ch sz pl wd it P) := ob_i R
  have R0 := R
  obtain ⟨r1, r2, r3, r4, r5, r6, r7, r8, r9, rL, rO, rF⟩ := R
  have hP : ob_st P D 5 ≤ 256 := by omega
  have hlo : ∀ h, h < H → 0 < sz h → b ≤ ob_cls (sz h) → ob_st P D b ≤ pl h := fun h hh hz hc => ob_R_lo rL hh hz hc
  have hlo5 : ob_st P D b ≤ 512 := by
    have m := ob_st_mono P D (m := b) (n := 5) (by omega)
    omega
  have same : ∀ mem' own' xp' S', ob_O H mem' own' xp' sz wd → ob_F H S' Q b (ob_st P D b) q tg xp' pl sz → i_Rel (k + 4) (ob_X L H D V Q S' b mv ch mem' own' sz cl xp' P U M q tg) (ob_Y L H D S' b mv ch sz pl wd it P) :=
    fun mem' own' xp' S' O' F' => ob_i ⟨r1, r2, r3, r4, r5, r6, r7, r8, r9, rL, O', F'⟩
  by_cases h0 : 0 < v1
  · have nn : ¬ v1 < 0 := by
      intro z
      exact Int32.lt_irrefl (Int32.lt_trans h0 z)
    obtain ⟨n, hn, rfl⟩ := nI_of nn
    have n0 : 0 < n := (nI_ltI (a := 0) (by omega) hn).mp h0
    unfold wpX_step; dsimp only
    refine br_t h0 (pk_le S n (fun w => ?_) (fun w => ?_))
    · refine xw_step (Nat.le_refl S) r2 hS32 r8 hend hdis rO rF hlo hlo5 (fun mem' own' xp' O' F' => ?_)
      rw [Nat.sub_self] at F' ⊢
      unfold wpY_step; dsimp only
      exact pk_le n 0 (fun z => absurd z (by omega)) (fun _ => pk_le S n (fun _ => ⟨rfl, same mem' own' xp' 0 O' F'⟩) (fun z => absurd z (by omega)))
    · refine xw_step (c := n) (by omega) r2 hS32 r8 hend hdis rO rF hlo hlo5 (fun mem' own' xp' O' F' => ?_)
      unfold wpY_step; dsimp only
      exact pk_le n 0 (fun z => absurd z (by omega)) (fun _ => pk_le S n (fun z => absurd z (by omega)) (fun _ => nm_r (pk_sub (by omega)) ⟨rfl, same mem' own' xp' (S - n) O' F'⟩))
  · unfold wpX_step; dsimp only
    refine br_f h0 ?_
    unfold wpY_step; dsimp only
    exact br_t (Int32.not_lt.mp h0) ⟨rfl, I'⟩
theorem i_vc_alloc {k : Nat} {u : SX} {v : SY} (I : i_Rel k u v) (hk : k + 4 ≤ 2051) (v1 : Int32) (v2 : Int32) : wpX_alloc (fun r u' => wpY_alloc (fun r' v' => r' = r ∧ i_Rel (k + 4) u' v') v v1 v2) u v1 v2 := by
  refine I (fun u v => wpX_alloc (fun r u' => wpY_alloc (fun r' v' => r' = r ∧ i_Rel (k + 4) u' v') v v1 v2) u v1 v2) ?_
  intro L H D V Q S b mv ch mem wd own sz cl xp P U M q tg pl it g R
  have h192 := ob_R_192 R
  have hend := ob_R_end R
  have hdis := ob_R_dis R
  have hS32 := ob_R_S R
  have I' : i_Rel (k + 4) (ob_X L H D V Q S b mv ch mem own sz cl xp P U M q tg) (ob_Y L H D S b mv ch sz pl wd it P) := ob_i R
  have R0 := R
  obtain ⟨r1, r2, r3, r4, r5, r6, r7, r8, r9, rL, rO, rF⟩ := R
  have hP : ob_st P D 5 ≤ 256 := by omega
  have hu : ∀ j, j < 5 → U j ≤ P j / D := rL.1.2.2.2
  have hM : ∀ j, j < 5 → M j ≤ 5 := fun j hj => (rL.2.1 j hj).2.1
  rcases ob_arg v1 with hx | ⟨n, hn, hn16, rfl⟩
  · refine xa_bad hx ?_
    refine ya_bad hx ?_
    exact ⟨rfl, I'⟩
  · by_cases hS : S = 0
    · subst hS
      by_cases hV : V + n ≤ L
      · have hV' : ob_sm sz H + n ≤ L := by rw [← r5]; exact hV
        obtain ⟨h, h1, h2, h3⟩ := ob_first H sz
        by_cases hh : h < H
        · have hz := h3 hh
          obtain ⟨k', k1, k2, k3, k4⟩ := ob_room P U D n (5 - ob_cls n) (ob_cls n) (by have := ob_cls5 n; omega)
          by_cases k5 : k' < 5
          · refine xa_buf hn hn16 rfl hV r1 r2 hh h2 r8 hz k1 k5 hP hu hM k3 (k4 k5) ?_
            refine ya_go hn hn16 rfl hV' r1 r2 hh h2 r8 hz k1 k2 r3 r4 hP rL.2.1 k3 k4 (fun _ => ?_) (fun z => absurd z (by omega))
            exact ⟨rfl, ob_i (ob_R_new R0 hn hn16 hV hh hz k1 k5 (k4 k5))⟩
          · have e5 : k' = 5 := by omega
            subst e5
            obtain ⟨B, hB⟩ := ob_bnd_ex M (ob_cls n)
            have B5 : B < 5 := by have := hB.1; have := ob_cls5 n; omega
            have VV : ob_sm (ob_u sz h n) H ≤ 64 := by rw [ob_sm_new hh hz]; omega
            have f192 := ob_R_f192 R0 VV B5 hB.2.1 (Or.inl hz) (Or.inr hB.1)
            have e16 : ∀ i, i < H → ob_u sz h n i ≤ 16 := by
              intro i hi
              by_cases e : i = h
              · rw [e, ob_us]; exact hn16
              · rw [ob_un e]; exact r8 i hi
            have ecl : ∀ i, i < H → 0 < ob_u sz h n i → ob_u cl h (ob_cls n) i = ob_cls (ob_u sz h n i) := by
              intro i hi hzi
              by_cases e : i = h
              · rw [e, ob_us, ob_us]
              · rw [ob_un e] at hzi
                rw [ob_un e, ob_un e]
                exact r9 i hi hzi
            refine xa_fl hn hn16 rfl hV r1 r2 hh h2 r8 hz r3 r4 hP hu hM k3 hB f192 e16 ecl (fun q' hq' => ?_)
            refine ya_go hn hn16 rfl hV' r1 r2 hh h2 r8 hz k1 k2 r3 r4 hP rL.2.1 k3 k4 (fun z => absurd z (by omega)) (fun _ post' hp => ?_)
            refine yw_flush (ob_cls5 n) hB r3 r4 r2 hP f192 e16 rL.2.1 ?_
            refine hp _ ?_
            exact ⟨rfl, ob_i (ob_R_fnew R0 hn hn16 hV hh hz B5 hB.2.1 hB.1 hq')⟩
        · have e : h = H := by omega
          subst e
          refine xa_noh hn hn16 rfl hV r1 r2 h2 r8 ?_
          refine ya_noh hn hn16 rfl hV' r1 r2 h2 r8 ?_
          exact ⟨rfl, I'⟩
      · refine xa_full hn hn16 rfl (by omega) r1 (by omega) ?_
        refine ya_full hn hn16 rfl r2 (by omega) r1 (by omega) ?_
        exact ⟨rfl, I'⟩
    · refine xa_busy hn hn16 (by omega) hS32 ?_
      refine ya_busy hn hn16 (by omega) hS32 ?_
      exact ⟨rfl, I'⟩
theorem i_vc_free {k : Nat} {u : SX} {v : SY} (I : i_Rel k u v) (hk : k + 4 ≤ 2051) (v1 : Int32) : wpX_free (fun r u' => wpY_free (fun r' v' => r' = r ∧ i_Rel (k + 4) u' v') v v1) u v1 := by
  refine I (fun u v => wpX_free (fun r u' => wpY_free (fun r' v' => r' = r ∧ i_Rel (k + 4) u' v') v v1) u v1) ?_
  intro L H D V Q S b mv ch mem wd own sz cl xp P U M q tg pl it g R
  have h192 := ob_R_192 R
  have hend := ob_R_end R
  have hdis := ob_R_dis R
  have hS32 := ob_R_S R
  have I' : i_Rel (k + 4) (ob_X L H D V Q S b mv ch mem own sz cl xp P U M q tg) (ob_Y L H D S b mv ch sz pl wd it P) := ob_i R
  have R0 := R
  obtain ⟨r1, r2, r3, r4, r5, r6, r7, r8, r9, rL, rO, rF⟩ := R
  have hP : ob_st P D 5 ≤ 256 := by omega
  have hu : ∀ j, j < 5 → U j ≤ P j / D := rL.1.2.2.2
  have hM : ∀ j, j < 5 → M j ≤ 5 := fun j hj => (rL.2.1 j hj).2.1
  rcases ob_case H sz v1 with hd | ⟨h, hh, hz, rfl⟩
  · refine xf_bad r2 hd ?_
    refine yf_bad r2 hd ?_
    exact ⟨rfl, I'⟩
  · have z16 := r8 h hh
    by_cases hS : S = 0
    · subst hS
      have c5 := ob_cls5 (sz h)
      have ex := rF.2.1 h hh hz (Or.inl rfl)
      have he := hend h hh hz
      have hVs : sz h ≤ V := by rw [r5]; exact (ob_sm_del hh).2
      obtain ⟨k', k1, k2, k3, k4⟩ := ob_room P U D (sz h) (5 - ob_cls (sz h)) (ob_cls (sz h)) (by omega)
      refine xf_go hh r2 hz z16 rfl (r9 h hh hz) hP (by omega) hVs (fun w => ?_) (fun w postX hpX => ?_)
      · refine yf_go hh r2 hz z16 rfl r3 r4 hP (by omega) k1 k2 rL.2.1 k3 k4 (fun _ => ?_) (fun w2 => absurd w2 (by omega)) (fun w2 => absurd w2 (by omega))
        exact ⟨rfl, ob_i (ob_R_del R0 hh (by omega))⟩
      · by_cases k5 : k' < 5
        · refine xm_buf z16 k1 k5 hP hu hM k3 (k4 k5) ?_
          refine hpX _ ?_
          refine yf_go hh r2 hz z16 rfl r3 r4 hP (by omega) k1 k2 rL.2.1 k3 k4 (fun w2 => absurd w2 (by omega)) (fun _ _ => ?_) (fun _ w3 => absurd w3 (by omega))
          exact ⟨rfl, ob_i (ob_R_mark R0 hh hz k5 (k4 k5))⟩
        · have e5 : k' = 5 := by omega
          subst e5
          obtain ⟨B, hB⟩ := ob_bnd_ex M (ob_cls (sz h))
          have B5 : B < 5 := by have := hB.1; omega
          have VV : ob_sm (ob_u sz h 0) H ≤ 64 := by rw [(ob_sm_del hh).1]; omega
          have f192 := ob_R_f192 R0 VV B5 hB.2.1 (Or.inr hB.1) (Or.inl rfl)
          have e16 : ∀ i, i < H → ob_u sz h 0 i ≤ 16 := by
            intro i hi
            by_cases e : i = h
            · rw [e, ob_us]; omega
            · rw [ob_un e]; exact r8 i hi
          have ecl : ∀ i, i < H → 0 < ob_u sz h 0 i → cl i = ob_cls (ob_u sz h 0 i) := by
            intro i hi hzi
            have e : i ≠ h := by
              intro e
              rw [e, ob_us] at hzi
              omega
            rw [ob_un e] at hzi
            rw [ob_un e]
            exact r9 i hi hzi
          refine xm_fl z16 c5 hB hM r3 r4 r2 hP f192 e16 ecl hu k3 (fun q' hq' => ?_)
          refine hpX _ ?_
          refine yf_go hh r2 hz z16 rfl r3 r4 hP (by omega) k1 k2 rL.2.1 k3 k4 (fun w2 => absurd w2 (by omega)) (fun _ w3 => absurd w3 (by omega)) (fun _ _ post' hp => ?_)
          refine yw_flush c5 hB r3 r4 r2 hP f192 e16 rL.2.1 ?_
          refine hp _ ?_
          exact ⟨rfl, ob_i (ob_R_fdel R0 hh B5 hB.2.1 hB.1 hq')⟩
    · refine xf_busy hh r2 hz z16 (by omega) hS32 ?_
      refine yf_busy hh r2 hz z16 (by omega) hS32 ?_
      exact ⟨rfl, I'⟩
end
