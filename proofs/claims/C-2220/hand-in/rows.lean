section
/-! from kit/rows (starting text): stores and numbers -/
theorem pk_us {f : Nat → Int32} {k : Nat} {x : Int32} : upd f k x k = x := if_pos rfl
theorem pk_un {f : Nat → Int32} {k j : Nat} {x : Int32} (h : j ≠ k) : upd f k x j = f j := if_neg h
theorem pk_sub {a b : Nat} (h : b ≤ a) : nI a - nI b = nI (a - b) := by
  obtain ⟨c, rfl⟩ : ∃ c, a = c + b := ⟨a - b, by omega⟩
  rw [← nI_add, Int32.add_sub_cancel, Nat.add_sub_cancel]
theorem pk_m1 (n : Nat) : nI (n + 1) + (-1) = nI n := by
  rw [← nI_1, Int32.add_assoc, show (1 : Int32) + (-1) = 0 from rfl, Int32.add_zero]
theorem pk_mul (a b : Nat) : nI a * nI b = nI (a * b) := (Int32.ofNat_mul a b).symm
theorem pk_div {a d : Nat} (ha : a < 2 ^ 31) (h0 : 0 < d) (hd : d < 2 ^ 31) : nI a / nI d = nI (a / d) := by
  apply Int32.toInt_inj.mp
  rw [lg_idiv_nonneg (by rw [nI_toInt ha]; omega) (by rw [nI_toInt hd]; omega), nI_toInt ha, nI_toInt hd, nI_toInt (Nat.lt_of_le_of_lt (Nat.div_le_self a d) ha)]
  first | rfl | exact (Int.natCast_ediv _ _).symm
theorem pk_rem {a d : Nat} (ha : a < 2 ^ 31) (h0 : 0 < d) (hd : d < 2 ^ 31) : nI a - nI a / nI d * nI d = nI (a % d) := by
  rw [pk_div ha h0 hd, pk_mul, pk_sub (Nat.div_mul_le_self a d)]
  exact congrArg nI (by have := Nat.div_add_mod' a d; omega)
theorem pk_sub_toInt {a b : Nat} (ha : a < 2 ^ 30) (hb : b < 2 ^ 30) : (nI a - nI b).toInt = (a : Int) - b := by
  rw [Int32.toInt_sub, nI_toInt (by omega), nI_toInt (by omega)]
  exact Int.bmod_eq_of_le (by omega) (by omega)
theorem pk_sneg {a b : Nat} (hb : b < 2 ^ 30) (h : a < b) : nI a - nI b < 0 := by
  rw [Int32.lt_iff_toInt_lt, pk_sub_toInt (by omega) hb, show (0 : Int32).toInt = 0 from by decide]
  omega
theorem pk_ix (x : Int32) {n : Nat} (hn : n < 2 ^ 31) : x < 0 ∨ nI n ≤ x ∨ ∃ j : Nat, j < n ∧ x = nI j := by
  by_cases h : x < 0
  · exact Or.inl h
  · obtain ⟨j, hj, rfl⟩ := nI_of h
    by_cases h2 : j < n
    · exact Or.inr (Or.inr ⟨j, h2, rfl⟩)
    · exact Or.inr (Or.inl (nI_le (by omega) hj))
theorem pk_le {x y : Int32} {A B : Prop} (a b : Nat) (f : a ≤ b → A) (g : b < a → B) (hx : x = nI a := by rfl) (hy : y = nI b := by rfl) (ha : a < 2 ^ 31 := by omega) (hb : b < 2 ^ 31 := by omega) : (x ≤ y → A) ∧ (¬ x ≤ y → B) := by
  subst hx hy
  rw [nI_leI ha hb]
  exact ⟨f, fun z => g (by omega)⟩
theorem pk_lt {x y : Int32} {A B : Prop} (a b : Nat) (f : a < b → A) (g : b ≤ a → B) (hx : x = nI a := by rfl) (hy : y = nI b := by rfl) (ha : a < 2 ^ 31 := by omega) (hb : b < 2 ^ 31 := by omega) : (x < y → A) ∧ (¬ x < y → B) := by
  subst hx hy
  rw [nI_ltI ha hb]
  exact ⟨f, fun z => g (by omega)⟩
theorem pk_eq {x y : Int32} {A B : Prop} (a b : Nat) (f : a = b → A) (g : a ≠ b → B) (hx : x = nI a := by rfl) (hy : y = nI b := by rfl) (ha : a < 2 ^ 31 := by omega) (hb : b < 2 ^ 31 := by omega) : (x = y → A) ∧ (¬ x = y → B) := by
  subst hx hy
  rw [nI_eq ha hb]
  exact ⟨f, g⟩
theorem pk_in {x : Int32} (n N : Nat) (h : n < N) (hx : x = nI n := by rfl) (hN : N < 2 ^ 31 := by omega) : vp_in x N := by
  subst hx
  exact vp_in_nI h hN
theorem pk_cl {x : Int32} (n : Nat) (hx : x = nI n := by rfl) (h : n < 2 ^ 31 := by omega) : x.toNatClampNeg = n := by
  subst hx
  exact nI_clamp h
end
section
/-! A: numbers of any sign -/
def hI (z : Int) : Int32 := Int32.ofInt z
theorem hI_n (n : Nat) : hI (n : Int) = nI n := Int32.ofInt_eq_ofNat
theorem hI_t {z : Int} (h : -2147483648 ≤ z) (h' : z < 2147483648) : (hI z).toInt = z := Int32.toInt_ofInt_of_le (by omega) (by omega)
theorem hI_le {a b : Int} (ha : -2147483648 ≤ a ∧ a < 2147483648) (hb : -2147483648 ≤ b ∧ b < 2147483648) : hI a ≤ hI b ↔ a ≤ b := by
  rw [Int32.le_iff_toInt_le, hI_t ha.1 ha.2, hI_t hb.1 hb.2]
theorem hI_lt {a b : Int} (ha : -2147483648 ≤ a ∧ a < 2147483648) (hb : -2147483648 ≤ b ∧ b < 2147483648) : hI a < hI b ↔ a < b := by
  rw [Int32.lt_iff_toInt_lt, hI_t ha.1 ha.2, hI_t hb.1 hb.2]
theorem hI_eq {a b : Int} (ha : -2147483648 ≤ a ∧ a < 2147483648) (hb : -2147483648 ≤ b ∧ b < 2147483648) : hI a = hI b ↔ a = b := by
  rw [← Int32.toInt_inj, hI_t ha.1 ha.2, hI_t hb.1 hb.2]
theorem hI_add (a b : Int) : hI a + hI b = hI (a + b) := (Int32.ofInt_add a b).symm
theorem hI_sub (a b : Int) : hI a - hI b = hI (a - b) := (Int32.ofInt_sub a b).symm
theorem hI_mul (a b : Int) : hI a * hI b = hI (a * b) := (Int32.ofInt_mul a b).symm
theorem hI_1 (a : Int) : hI a + 1 = hI (a + 1) := hI_add a 1
theorem hI_m1 (a : Int) : hI a + (-1) = hI (a - 1) := by
  rw [show (-1 : Int32) = hI (-1) from by decide, hI_add]
  rfl
theorem hI_na (n : Nat) (b : Int) : nI n + hI b = hI (n + b) := by rw [← hI_n, hI_add]
theorem hI_an (b : Int) (n : Nat) : hI b + nI n = hI (b + n) := by rw [← hI_n, hI_add]
theorem hI_c {z : Int} {n : Nat} (h : z = n) : hI z = nI n := by rw [h, hI_n]
theorem hx_le {x y : Int32} {a b : Int} (hx : x = hI a) (hy : y = hI b) (ha : -2147483648 ≤ a ∧ a < 2147483648) (hb : -2147483648 ≤ b ∧ b < 2147483648) : x ≤ y ↔ a ≤ b := by
  rw [hx, hy, hI_le ha hb]
theorem hx_lt {x y : Int32} {a b : Int} (hx : x = hI a) (hy : y = hI b) (ha : -2147483648 ≤ a ∧ a < 2147483648) (hb : -2147483648 ≤ b ∧ b < 2147483648) : x < y ↔ a < b := by
  rw [hx, hy, hI_lt ha hb]
theorem hx_eq {x y : Int32} {a b : Int} (hx : x = hI a) (hy : y = hI b) (ha : -2147483648 ≤ a ∧ a < 2147483648) (hb : -2147483648 ≤ b ∧ b < 2147483648) : x = y ↔ a = b := by
  rw [hx, hy, hI_eq ha hb]
theorem hx_n {x : Int32} {n : Nat} (h : x = nI n) : x = hI (n : Int) := by rw [h, hI_n]
theorem hx_a {x y : Int32} {a b : Int} (hx : x = hI a) (hy : y = hI b) : x + y = hI (a + b) := by rw [hx, hy, hI_add]
theorem hx_s {x y : Int32} {a b : Int} (hx : x = hI a) (hy : y = hI b) : x - y = hI (a - b) := by rw [hx, hy, hI_sub]
theorem hx_m {x y : Int32} {a b : Int} (hx : x = hI a) (hy : y = hI b) : x * y = hI (a * b) := by rw [hx, hy, hI_mul]
theorem hx_e {x : Int32} {a b : Int} (hx : x = hI a) (h : a = b) : x = hI b := by rw [hx, h]
/-! B: least and greatest, the sums as a commutative monoid -/
def q_mn (a b : Int32) : Int32 := if a ≤ b then a else b
def q_mx (a b : Int32) : Int32 := if b ≤ a then a else b
theorem q_mn_c (a b : Int32) : q_mn a b = q_mn b a := by
  unfold q_mn
  by_cases h : a ≤ b <;> by_cases h' : b ≤ a <;> simp only [h, h', if_true, if_false]
  · exact Int32.le_antisymm h h'
  · rw [Int32.le_iff_toInt_le] at h h'; omega
theorem q_mx_c (a b : Int32) : q_mx a b = q_mx b a := by
  unfold q_mx
  by_cases h : a ≤ b <;> by_cases h' : b ≤ a <;> simp only [h, h', if_true, if_false]
  · exact Int32.le_antisymm h h'
  · rw [Int32.le_iff_toInt_le] at h h'; omega
theorem q_mn_i (a b : Int32) : (q_mn a b).toInt = if a.toInt ≤ b.toInt then a.toInt else b.toInt := by
  unfold q_mn
  by_cases h : a ≤ b
  · rw [if_pos h, if_pos (Int32.le_iff_toInt_le.mp h)]
  · rw [if_neg h, if_neg (fun z => h (Int32.le_iff_toInt_le.mpr z))]
theorem q_mx_i (a b : Int32) : (q_mx a b).toInt = if b.toInt ≤ a.toInt then a.toInt else b.toInt := by
  unfold q_mx
  by_cases h : b ≤ a
  · rw [if_pos h, if_pos (Int32.le_iff_toInt_le.mp h)]
  · rw [if_neg h, if_neg (fun z => h (Int32.le_iff_toInt_le.mpr z))]
theorem q_mn_a (a b c : Int32) : q_mn (q_mn a b) c = q_mn a (q_mn b c) := by
  apply Int32.toInt_inj.mp
  simp only [q_mn_i]
  generalize a.toInt = x; generalize b.toInt = y; generalize c.toInt = z
  by_cases h1 : x ≤ y <;> by_cases h2 : y ≤ z <;> by_cases h3 : x ≤ z <;> simp only [h1, h2, h3, if_true, if_false] <;> omega
theorem q_mx_a (a b c : Int32) : q_mx (q_mx a b) c = q_mx a (q_mx b c) := by
  apply Int32.toInt_inj.mp
  simp only [q_mx_i]
  generalize a.toInt = x; generalize b.toInt = y; generalize c.toInt = z
  by_cases h1 : y ≤ x <;> by_cases h2 : z ≤ y <;> by_cases h3 : z ≤ x <;> simp only [h1, h2, h3, if_true, if_false] <;> omega
/-- how many less one, sum, least, greatest -/
abbrev Qv : Type := Nat × Int32 × Int32 × Int32
def q_j (x y : Qv) : Qv := (x.1 + y.1 + 1, x.2.1 + y.2.1, q_mn x.2.2.1 y.2.2.1, q_mx x.2.2.2 y.2.2.2)
theorem q_j_c (x y : Qv) : q_j x y = q_j y x := by
  unfold q_j
  rw [Nat.add_comm x.1, Int32.add_comm x.2.1, q_mn_c x.2.2.1, q_mx_c x.2.2.2]
theorem q_j_a (x y z : Qv) : q_j (q_j x y) z = q_j x (q_j y z) := by
  unfold q_j
  dsimp only
  rw [q_mn_a, q_mx_a, Int32.add_assoc, show x.1 + y.1 + 1 + z.1 + 1 = x.1 + (y.1 + z.1 + 1) + 1 by omega]
def q_m : Option Qv → Option Qv → Option Qv
  | none, b => b
  | some x, none => some x
  | some x, some y => some (q_j x y)
theorem q_m_n (a : Option Qv) : q_m a none = a := by cases a <;> rfl
theorem q_m_c (a b : Option Qv) : q_m a b = q_m b a := by
  cases a <;> cases b <;> first | rfl | exact congrArg some (q_j_c _ _)
theorem q_m_a (a b c : Option Qv) : q_m (q_m a b) c = q_m a (q_m b c) := by
  cases a <;> cases b <;> cases c <;> first | rfl | exact congrArg some (q_j_a _ _ _)
def q_n : Option Qv → Nat
  | none => 0
  | some x => x.1 + 1
theorem q_n_m (a b : Option Qv) : q_n (q_m a b) = q_n a + q_n b := by
  cases a with
  | none => exact (Nat.zero_add _).symm
  | some x => cases b with
    | none => rfl
    | some y => show x.1 + y.1 + 1 + 1 = x.1 + 1 + (y.1 + 1); omega
def q_w (P : Nat → Option Qv) (m : Nat) : Nat → Option Qv
  | 0 => none
  | n + 1 => q_m (q_w P m n) (P (m + n))
theorem q_w_n {P : Nat → Option Qv} {m B : Nat} (h : ∀ i, q_n (P i) ≤ B) (n : Nat) : q_n (q_w P m n) ≤ n * B := by
  induction n with
  | zero => exact Nat.zero_le _
  | succ n ih => rw [q_w, q_n_m, Nat.succ_mul]; exact Nat.add_le_add ih (h _)
theorem q_w_0 {P : Nat → Option Qv} {m : Nat} (n : Nat) (h : ∀ i, i < n → P (m + i) = none) : q_w P m n = none := by
  induction n with
  | zero => rfl
  | succ n ih => rw [q_w, ih (fun i hi => h i (by omega)), h n (by omega)]; rfl
theorem q_w_c {P P' : Nat → Option Qv} {m : Nat} (n : Nat) (h : ∀ i, i < n → P' (m + i) = P (m + i)) : q_w P' m n = q_w P m n := by
  induction n with
  | zero => rfl
  | succ n ih => rw [q_w, q_w, ih (fun i hi => h i (by omega)), h n (by omega)]
theorem q_w_u {P P' : Nat → Option Qv} {e : Option Qv} {i m : Nat} (h1 : P' i = q_m (P i) e) (h2 : ∀ j, j ≠ i → P' j = P j) (n : Nat) (h : m ≤ i) (h' : i < m + n) : q_w P' m n = q_m (q_w P m n) e := by
  induction n with
  | zero => omega
  | succ n ih =>
    rw [q_w, q_w]
    by_cases c : i = m + n
    · subst c
      rw [h1, q_w_c n (fun j hj => h2 (m + j) (by omega)), q_m_a]
    · rw [ih (by omega), h2 (m + n) (fun z => c z.symm), q_m_a, q_m_c e, ← q_m_a]
theorem q_w_k {P P' : Nat → Option Qv} {i m : Nat} (h2 : ∀ j, j ≠ i → P' j = P j) (n : Nat) (h : ¬ (m ≤ i ∧ i < m + n)) : q_w P' m n = q_w P m n :=
  q_w_c n (fun j hj => h2 (m + j) (by omega))
/-- a pane of the component -/
def q_X (pc ps pl pm : Nat → Int32) (i : Nat) : Option Qv → Prop
  | none => pc i = 0 ∧ ps i = 0
  | some x => pc i = nI (x.1 + 1) ∧ ps i = x.2.1 ∧ pl i = x.2.2.1 ∧ pm i = x.2.2.2
/-- four cells of the reference -/
def q_Y (no : Nat → Int32) (a : Nat) : Option Qv → Prop
  | none => no a = 0
  | some x => no a = nI (x.1 + 1) ∧ no (a + 1) = x.2.1 ∧ no (a + 2) = x.2.2.1 ∧ no (a + 3) = x.2.2.2
def q_0 : Option Qv → Int32
  | none => 0
  | some x => nI (x.1 + 1)
def q_1 : Option Qv → Int32
  | none => 0
  | some x => x.2.1
def q_2 : Option Qv → Int32
  | none => 0
  | some x => x.2.2.1
def q_3 : Option Qv → Int32
  | none => 0
  | some x => x.2.2.2
theorem q_0n (q : Option Qv) : q_0 q = nI (q_n q) := by cases q <;> rfl
theorem q_Yf {no no' : Nat → Int32} {a : Nat} (h : ∀ j, a ≤ j → j < a + 4 → no' j = no j) : ∀ {q : Option Qv}, q_Y no a q → q_Y no' a q
  | none, hq => (h a (by omega) (by omega)).trans hq
  | some _, hq => ⟨(h a (by omega) (by omega)).trans hq.1, (h (a + 1) (by omega) (by omega)).trans hq.2.1, (h (a + 2) (by omega) (by omega)).trans hq.2.2.1, (h (a + 3) (by omega) (by omega)).trans hq.2.2.2⟩
theorem q_Yn {no : Nat → Int32} {a : Nat} : ∀ {q : Option Qv}, q_Y no a q → no a = nI (q_n q)
  | none, h => h
  | some _, h => h.1
theorem q_Xn {pc ps pl pm : Nat → Int32} {a : Nat} : ∀ {q : Option Qv}, q_X pc ps pl pm a q → pc a = nI (q_n q)
  | none, h => h.1
  | some _, h => h.1
theorem q_n0 : ∀ {q : Option Qv}, q_n q = 0 → q = none
  | none, _ => rfl
  | some x, h => absurd h (by show ¬ x.1 + 1 = 0; omega)
theorem q_n1 : ∀ {q : Option Qv}, q_n q ≠ 0 → ∃ x, q = some x
  | none, h => absurd rfl h
  | some x, _ => ⟨x, rfl⟩
theorem q_Xe {pc ps pl pm pc' ps' pl' pm' : Nat → Int32} {a a' : Nat} (h1 : pc' a' = pc a) (h2 : ps' a' = ps a) (h3 : pl' a' = pl a) (h4 : pm' a' = pm a) : ∀ {q : Option Qv}, q_X pc ps pl pm a q → q_X pc' ps' pl' pm' a' q
  | none, h => ⟨h1.trans h.1, h2.trans h.2⟩
  | some _, h => ⟨h1.trans h.1, h2.trans h.2.1, h3.trans h.2.2.1, h4.trans h.2.2.2⟩
end
section
/-! C: sessions (first, last, sum) and lists of them -/
abbrev Ses : Type := Nat × Nat × Qv
def s_m (a b : Ses) : Ses := (min a.1 b.1, max a.2.1 b.2.1, q_j a.2.2 b.2.2)
theorem s_m_c (a b : Ses) : s_m a b = s_m b a := by
  unfold s_m
  rw [Nat.min_comm, Nat.max_comm, q_j_c]
theorem s_m_a (a b c : Ses) : s_m (s_m a b) c = s_m a (s_m b c) := by
  unfold s_m
  dsimp only
  rw [Nat.min_assoc, Nat.max_assoc, q_j_a]
theorem s_m_x (z x y : Ses) : s_m (s_m z x) y = s_m (s_m z y) x := by
  rw [s_m_a, s_m_c x, ← s_m_a]
def s_f (l : List (Nat × Ses)) (s : Ses) : Ses := l.foldl (fun a x => s_m a x.2) s
theorem s_f_p {l l' : List (Nat × Ses)} (p : l.Perm l') (s : Ses) : s_f l s = s_f l' s :=
  List.Perm.foldl_eq' p (fun x _ y _ z => s_m_x z x.2 y.2) s
def s_tg (k : Nat) (l : List Ses) : List (Nat × Ses) := l.map (Prod.mk k)
def s_g (C : List Ses) (s : Ses) : Ses := C.foldl s_m s
theorem s_f_g (k : Nat) (C : List Ses) (s : Ses) : s_f (s_tg k C) s = s_g C s := by
  unfold s_f s_tg s_g
  rw [List.foldl_map]
theorem s_g_e (C : List Ses) : ∀ e : Ses, ((s_g C e).1 = e.1 ∨ ∃ c ∈ C, (s_g C e).1 = c.1) ∧ ((s_g C e).2.1 = e.2.1 ∨ ∃ c ∈ C, (s_g C e).2.1 = c.2.1) ∧ (s_g C e).1 ≤ e.1 ∧ e.2.1 ≤ (s_g C e).2.1 := by
  induction C with
  | nil => intro e; exact ⟨Or.inl rfl, Or.inl rfl, Nat.le_refl _, Nat.le_refl _⟩
  | cons c C ih =>
    intro e
    have h := ih (s_m e c)
    have e1 : s_g (c :: C) e = s_g C (s_m e c) := rfl
    rw [e1]
    have m1 : (s_m e c).1 = min e.1 c.1 := rfl
    have m2 : (s_m e c).2.1 = max e.2.1 c.2.1 := rfl
    rw [m1, m2] at h
    obtain ⟨h1, h2, h3, h4⟩ := h
    refine ⟨?_, ?_, by clear h1 h2; omega, by clear h1 h2; omega⟩
    · clear h2
      rcases h1 with h1 | ⟨d, hd, h1⟩
      · by_cases z : e.1 ≤ c.1
        · exact Or.inl (by omega)
        · exact Or.inr ⟨c, List.mem_cons_self, by omega⟩
      · exact Or.inr ⟨d, List.mem_cons_of_mem _ hd, h1⟩
    · clear h1
      rcases h2 with h2 | ⟨d, hd, h2⟩
      · by_cases z : c.2.1 ≤ e.2.1
        · exact Or.inl (by omega)
        · exact Or.inr ⟨c, List.mem_cons_self, by omega⟩
      · exact Or.inr ⟨d, List.mem_cons_of_mem _ hd, h2⟩
/-- how many events -/
def s_n : List (Nat × Ses) → Nat
  | [] => 0
  | z :: l => z.2.2.2.1 + 1 + s_n l
theorem s_n_a (A B : List (Nat × Ses)) : s_n (A ++ B) = s_n A + s_n B := by
  induction A with
  | nil => exact (Nat.zero_add _).symm
  | cons z A ih => show z.2.2.2.1 + 1 + s_n (A ++ B) = z.2.2.2.1 + 1 + s_n A + s_n B; omega
theorem s_n_p {A B : List (Nat × Ses)} (p : A.Perm B) : s_n A = s_n B := by
  induction p with
  | nil => rfl
  | cons x _ ih => exact congrArg (x.2.2.2.1 + 1 + ·) ih
  | swap x y l => show y.2.2.2.1 + 1 + (x.2.2.2.1 + 1 + s_n l) = x.2.2.2.1 + 1 + (y.2.2.2.1 + 1 + s_n l); omega
  | trans _ _ h1 h2 => exact h1.trans h2
theorem s_n_l (A : List (Nat × Ses)) : A.length ≤ s_n A := by
  induction A with
  | nil => exact Nat.le_refl _
  | cons z A ih => show A.length + 1 ≤ z.2.2.2.1 + 1 + s_n A; omega
theorem s_n_g (k : Nat) (C : List Ses) : ∀ e : Ses, (s_g C e).2.2.1 + 1 = e.2.2.1 + 1 + s_n (s_tg k C) := by
  induction C with
  | nil => intro e; rfl
  | cons c C ih =>
    intro e
    have h := ih (s_m e c)
    have e1 : s_g (c :: C) e = s_g C (s_m e c) := rfl
    have e2 : (s_m e c).2.2.1 = e.2.2.1 + c.2.2.1 + 1 := rfl
    have e3 : s_n (s_tg k (c :: C)) = c.2.2.1 + 1 + s_n (s_tg k C) := rfl
    rw [e1, e3, h, e2]
    omega
theorem s_n_m {A : List (Nat × Ses)} {z : Nat × Ses} (h : z ∈ A) : z.2.2.2.1 + 1 ≤ s_n A := by
  induction A with
  | nil => cases h
  | cons y A ih =>
    show z.2.2.2.1 + 1 ≤ y.2.2.2.1 + 1 + s_n A
    rcases List.mem_cons.mp h with e | e
    · subst e; omega
    · have := ih e; omega
/-! the lists of the four keys as one -/
def s_fl (L : Nat → List Ses) : List (Nat × Ses) := s_tg 0 (L 0) ++ (s_tg 1 (L 1) ++ (s_tg 2 (L 2) ++ (s_tg 3 (L 3) ++ [])))
def s_st (L : Nat → List Ses) (k : Nat) (l : List Ses) : Nat → List Ses := fun j => if j = k then l else L j
theorem s_st_s {L : Nat → List Ses} {k : Nat} {l : List Ses} : s_st L k l k = l := if_pos rfl
theorem s_st_n {L : Nat → List Ses} {k j : Nat} {l : List Ses} (h : j ≠ k) : s_st L k l j = L j := if_neg h
theorem s_st_e {L : Nat → List Ses} {k : Nat} : s_st L k (L k) = L := by
  funext j
  by_cases h : j = k
  · rw [h, s_st_s]
  · rw [s_st_n h]
theorem s_st_2 {L : Nat → List Ses} {k : Nat} {l l' : List Ses} : s_st (s_st L k l) k l' = s_st L k l' := by
  funext j
  by_cases h : j = k
  · rw [h, s_st_s, s_st_s]
  · rw [s_st_n h, s_st_n h, s_st_n h]
theorem s_md {k : Nat} {A B : List Ses} {s : Ses} (U V : List (Nat × Ses)) : (U ++ (s_tg k (A ++ s :: B) ++ V)).Perm ((k, s) :: (U ++ (s_tg k (A ++ B) ++ V))) := by
  have e1 : U ++ (s_tg k (A ++ s :: B) ++ V) = (U ++ s_tg k A) ++ (k, s) :: (s_tg k B ++ V) := by
    simp only [s_tg, List.map_append, List.map_cons, List.append_assoc, List.cons_append]
  have e2 : U ++ (s_tg k (A ++ B) ++ V) = (U ++ s_tg k A) ++ (s_tg k B ++ V) := by
    simp only [s_tg, List.map_append, List.append_assoc]
  rw [e1, e2]
  exact List.perm_middle
theorem s_fl_i {L : Nat → List Ses} {k : Nat} {A B : List Ses} {s : Ses} (hk : k < 4) : (s_fl (s_st L k (A ++ s :: B))).Perm ((k, s) :: s_fl (s_st L k (A ++ B))) := by
  have h : k = 0 ∨ k = 1 ∨ k = 2 ∨ k = 3 := by omega
  rcases h with rfl | rfl | rfl | rfl
  · exact s_md [] _
  · exact s_md (s_tg 0 (L 0)) _
  · have h := s_md (k := 2) (A := A) (B := B) (s := s) (s_tg 0 (L 0) ++ s_tg 1 (L 1)) (s_tg 3 (L 3) ++ [])
    rw [List.append_assoc, List.append_assoc] at h
    exact h
  · have h := s_md (k := 3) (A := A) (B := B) (s := s) (s_tg 0 (L 0) ++ (s_tg 1 (L 1) ++ s_tg 2 (L 2))) []
    rw [List.append_assoc, List.append_assoc, List.append_assoc, List.append_assoc] at h
    exact h
theorem s_fl_l {L : Nat → List Ses} {k : Nat} {A B : List Ses} (hk : k < 4) : ∀ C : List Ses, (s_fl (s_st L k (A ++ (C ++ B)))).Perm (s_tg k C ++ s_fl (s_st L k (A ++ B)))
  | [] => List.Perm.refl _
  | c :: C => (s_fl_i hk).trans ((s_fl_l hk C).cons (k, c))
theorem s_fl_m {L : Nat → List Ses} {z : Nat × Ses} : z ∈ s_fl L ↔ z.1 < 4 ∧ z.2 ∈ L z.1 := by
  obtain ⟨k, s⟩ := z
  have hm : ∀ j : Nat, (k, s) ∈ s_tg j (L j) ↔ k = j ∧ s ∈ L j := by
    intro j
    unfold s_tg
    rw [List.mem_map]
    constructor
    · rintro ⟨a, ha, e⟩
      have e1 : j = k := congrArg Prod.fst e
      have e2 : a = s := congrArg Prod.snd e
      subst e1 e2
      exact ⟨rfl, ha⟩
    · rintro ⟨rfl, h⟩
      exact ⟨s, h, rfl⟩
  unfold s_fl
  rw [List.mem_append, List.mem_append, List.mem_append, List.mem_append, hm, hm, hm, hm]
  constructor
  · rintro (⟨rfl, h⟩ | ⟨rfl, h⟩ | ⟨rfl, h⟩ | ⟨rfl, h⟩ | h)
    · exact ⟨show (0 : Nat) < 4 by decide, h⟩
    · exact ⟨show (1 : Nat) < 4 by decide, h⟩
    · exact ⟨show (2 : Nat) < 4 by decide, h⟩
    · exact ⟨show (3 : Nat) < 4 by decide, h⟩
    · cases h
  · rintro ⟨hk, h⟩
    have hk' : k < 4 := hk
    have c : k = 0 ∨ k = 1 ∨ k = 2 ∨ k = 3 := by omega
    rcases c with rfl | rfl | rfl | rfl
    · exact Or.inl ⟨rfl, h⟩
    · exact Or.inr (Or.inl ⟨rfl, h⟩)
    · exact Or.inr (Or.inr (Or.inl ⟨rfl, h⟩))
    · exact Or.inr (Or.inr (Or.inr (Or.inl ⟨rfl, h⟩)))
theorem s_fl_0 : s_fl (fun _ => []) = [] := rfl
/-! in order and apart -/
def s_ok (W : Nat) (l : List Ses) : Prop := l.Pairwise (fun a b => a.2.1 + W < b.1) ∧ ∀ s ∈ l, s.1 ≤ s.2.1 ∧ s.2.1 < 64
theorem s_ok_0 {W : Nat} : s_ok W [] := ⟨List.Pairwise.nil, fun _ h => nomatch h⟩
theorem s_len {W : Nat} (hW : 1 ≤ W) : ∀ (l : List Ses) (b : Nat), b ≤ 65 → l.Pairwise (fun a b => a.2.1 + W < b.1) → (∀ s ∈ l, b ≤ s.1 ∧ s.1 ≤ s.2.1 ∧ s.2.1 < 64) → 2 * l.length + b ≤ 65
  | [], b, hb, _, _ => by show 2 * 0 + b ≤ 65; omega
  | s :: l, b, hb, hp, hs => by
    have hp' := List.pairwise_cons.mp hp
    have h0 := hs s List.mem_cons_self
    have h := s_len hW l (b + 2) (by omega) hp'.2 (fun x hx => by
      have h1 := hs x (List.mem_cons_of_mem _ hx)
      have h2 := hp'.1 x hx
      omega)
    show 2 * (l.length + 1) + b ≤ 65
    omega
theorem s_ok_l {W : Nat} (hW : 1 ≤ W) {l : List Ses} (h : s_ok W l) : l.length ≤ 32 := by
  have := s_len hW l 0 (by omega) h.1 (fun s hs => ⟨Nat.zero_le _, h.2 s hs⟩)
  omega
theorem s_ins {W t : Nat} {A C B : List Ses} {q : Qv} (hl : s_ok W (A ++ (C ++ B))) (hA : ∀ a ∈ A, a.2.1 + W < t) (hB : ∀ b ∈ B, t + W < b.1) (ht : t < 64) : s_ok W (A ++ s_g C (t, t, q) :: B) := by
  obtain ⟨h1, h2⟩ := hl
  rw [List.pairwise_append, List.pairwise_append] at h1
  obtain ⟨pA, ⟨pC, pB, cCB⟩, cA⟩ := h1
  obtain ⟨g1, g2, g3, g4⟩ := s_g_e C (t, t, q)
  have g1' : (s_g C (t, t, q)).1 = t ∨ ∃ c ∈ C, (s_g C (t, t, q)).1 = c.1 := g1
  have g2' : (s_g C (t, t, q)).2.1 = t ∨ ∃ c ∈ C, (s_g C (t, t, q)).2.1 = c.2.1 := g2
  have g3' : (s_g C (t, t, q)).1 ≤ t := g3
  have g4' : t ≤ (s_g C (t, t, q)).2.1 := g4
  generalize s_g C (t, t, q) = z at g1' g2' g3' g4'
  have zB : ∀ b ∈ B, z.2.1 + W < b.1 := by
    intro b hb
    clear g1 g2 g1'
    rcases g2' with e | ⟨c, hc, e⟩
    · have := hB b hb; omega
    · have := cCB c hc b hb; omega
  have zA : ∀ a ∈ A, a.2.1 + W < z.1 := by
    intro a ha
    clear g1 g2 g2'
    rcases g1' with e | ⟨c, hc, e⟩
    · have := hA a ha; omega
    · have := cA a ha c (List.mem_append.mpr (Or.inl hc)); omega
  refine ⟨?_, ?_⟩
  · rw [List.pairwise_append, List.pairwise_cons]
    refine ⟨pA, ⟨zB, pB⟩, fun a ha b hb => ?_⟩
    rcases List.mem_cons.mp hb with e | e
    · subst e; exact zA a ha
    · exact cA a ha b (List.mem_append.mpr (Or.inr e))
  · intro s hs
    rcases List.mem_append.mp hs with h | h
    · exact h2 s (List.mem_append.mpr (Or.inl h))
    · rcases List.mem_cons.mp h with e | e
      · subst e
        clear g1 g2 g1'
        refine ⟨Nat.le_trans g3' g4', ?_⟩
        rcases g2' with e | ⟨c, hc, e⟩
        · omega
        · have := h2 c (List.mem_append.mpr (Or.inr (List.mem_append.mpr (Or.inl hc)))); omega
      · exact h2 s (List.mem_append.mpr (Or.inr (List.mem_append.mpr (Or.inr e))))
theorem s_ok_t {W : Nat} {s : Ses} {l : List Ses} (h : s_ok W (s :: l)) : s_ok W l :=
  ⟨(List.pairwise_cons.mp h.1).2, fun x hx => h.2 x (List.mem_cons_of_mem _ hx)⟩
theorem s_ok_h {W : Nat} {s x : Ses} {l : List Ses} (h : s_ok W (s :: l)) (hx : x ∈ s :: l) : x = s ∨ s.2.1 + W < x.1 := by
  rcases List.mem_cons.mp hx with e | e
  · exact Or.inl e
  · exact Or.inr ((List.pairwise_cons.mp h.1).1 x e)
theorem s_ok_u {W : Nat} : ∀ {l : List Ses}, s_ok W l → ∀ {a b : Ses}, a ∈ l → b ∈ l → a.2.1 = b.2.1 → a = b
  | [], _, _, _, ha, _, _ => nomatch ha
  | s :: l, h, a, b, ha, hb, e => by
    have ka := h.2 a ha
    have kb := h.2 b hb
    rcases List.mem_cons.mp ha with ea | ea
    · rcases List.mem_cons.mp hb with eb | eb
      · rw [ea, eb]
      · have := (List.pairwise_cons.mp h.1).1 b eb
        rw [← ea] at this; omega
    · rcases List.mem_cons.mp hb with eb | eb
      · have := (List.pairwise_cons.mp h.1).1 a ea
        rw [← eb] at this; omega
      · exact s_ok_u (s_ok_t h) ea eb e
end
section
/-! D: the component's sessions: arrays -/
abbrev C6 : Type := Int32 × Int32 × Int32 × Int32 × Int32 × Int32
def s_b (ft lt sc su sl sm : Nat → Int32) : Nat → C6 := fun i => (ft i, lt i, sc i, su i, sl i, sm i)
def s_cd (s : Ses) : C6 := (nI s.1, nI s.2.1, nI (s.2.2.1 + 1), s.2.2.2.1, s.2.2.2.2.1, s.2.2.2.2.2)
def s_xs (b : Nat → C6) : Nat → List Ses → Prop
  | _, [] => True
  | o, s :: l => b o = s_cd s ∧ s_xs b (o + 1) l
theorem s_xs_a {b : Nat → C6} : ∀ (A B : List Ses) (o : Nat), s_xs b o (A ++ B) ↔ s_xs b o A ∧ s_xs b (o + A.length) B
  | [], B, o => ⟨fun h => ⟨True.intro, h⟩, fun h => h.2⟩
  | s :: A, B, o => by
    have ih := s_xs_a (b := b) A B (o + 1)
    have e : o + (s :: A).length = o + 1 + A.length := by show o + (A.length + 1) = _; omega
    rw [e]
    show (b o = s_cd s ∧ s_xs b (o + 1) (A ++ B)) ↔ (b o = s_cd s ∧ s_xs b (o + 1) A) ∧ s_xs b (o + 1 + A.length) B
    rw [ih, and_assoc]
theorem s_xs_r {b b' : Nat → C6} : ∀ (l : List Ses) (o o' : Nat), (∀ i, i < l.length → b' (o' + i) = b (o + i)) → s_xs b o l → s_xs b' o' l
  | [], _, _, _, _ => True.intro
  | s :: l, o, o', h, hs => by
    refine ⟨(h 0 (Nat.succ_pos _)).trans hs.1, s_xs_r l (o + 1) (o' + 1) (fun i hi => ?_) hs.2⟩
    have := h (i + 1) (Nat.succ_lt_succ hi)
    rw [show o' + 1 + i = o' + (i + 1) by omega, show o + 1 + i = o + (i + 1) by omega]
    exact this
def s_XL (ss : Nat → Int32) (b : Nat → C6) (L : Nat → List Ses) : Prop := ∀ k, k < 4 → ss k = nI (L k).length ∧ s_xs b (32 * k) (L k)
theorem s_XL_u {ss ss' : Nat → Int32} {b b' : Nat → C6} {L : Nat → List Ses} {K : Nat} {l : List Ses} (h : s_XL ss b L) (hl : ∀ k, k < 4 → (L k).length ≤ 32) (h1 : ss' K = nI l.length) (h2 : ∀ k, k ≠ K → ss' k = ss k) (h3 : s_xs b' (32 * K) l) (h4 : ∀ j, j < 32 * K ∨ 32 * K + 32 ≤ j → b' j = b j) : s_XL ss' b' (s_st L K l) := by
  intro k hk
  by_cases e : k = K
  · subst e
    rw [s_st_s]
    exact ⟨h1, h3⟩
  · rw [s_st_n e, h2 k e]
    refine ⟨(h k hk).1, s_xs_r _ _ _ (fun i hi => h4 _ ?_) (h k hk).2⟩
    have := hl k hk
    omega
def sh_R (a : Nat → Int32) (lo hi : Nat) : Nat → Int32 := fun j => if lo < j ∧ j ≤ hi then a (j - 1) else a j
def sh_L (a : Nat → Int32) (lo hi : Nat) : Nat → Int32 := fun j => if lo ≤ j ∧ j < hi then a (j + 1) else a j
theorem sh_R_0 {a : Nat → Int32} {hi : Nat} : sh_R a hi hi = a := by
  funext j
  exact if_neg (by omega)
theorem sh_R_s {a : Nat → Int32} {k hi : Nat} (h : k < hi) : upd (sh_R a (k + 1) hi) (k + 1) (sh_R a (k + 1) hi k) = sh_R a k hi := by
  funext j
  have e1 : sh_R a (k + 1) hi k = a k := if_neg (by omega)
  by_cases e : j = k + 1
  · rw [e, pk_us, e1]
    exact (if_pos (show k < k + 1 ∧ k + 1 ≤ hi by omega)).symm
  · rw [pk_un e]
    by_cases c : k < j ∧ j ≤ hi
    · exact (if_pos (show k + 1 < j ∧ j ≤ hi by omega)).trans (if_pos c).symm
    · exact (if_neg (show ¬ (k + 1 < j ∧ j ≤ hi) by omega)).trans (if_neg c).symm
theorem sh_L_0 {a : Nat → Int32} {lo : Nat} : sh_L a lo lo = a := by
  funext j
  exact if_neg (by omega)
theorem sh_L_s {a : Nat → Int32} {lo k : Nat} (h : lo ≤ k) : upd (sh_L a lo k) k (sh_L a lo k (k + 1)) = sh_L a lo (k + 1) := by
  funext j
  have e1 : sh_L a lo k (k + 1) = a (k + 1) := if_neg (by omega)
  by_cases e : j = k
  · rw [e, pk_us, e1]
    exact (if_pos (show lo ≤ k ∧ k < k + 1 by omega)).symm
  · rw [pk_un e]
    by_cases c : lo ≤ j ∧ j < k
    · exact (if_pos c).trans (if_pos (show lo ≤ j ∧ j < k + 1 by omega)).symm
    · exact (if_neg c).trans (if_neg (show ¬ (lo ≤ j ∧ j < k + 1) by omega)).symm
theorem sh_R_lo {a : Nat → Int32} {lo hi j : Nat} (h : j ≤ lo ∨ hi < j) : sh_R a lo hi j = a j := if_neg (by omega)
theorem sh_R_in {a : Nat → Int32} {lo hi j : Nat} (h : lo ≤ j) (h' : j < hi) : sh_R a lo hi (j + 1) = a j := if_pos (show lo < j + 1 ∧ j + 1 ≤ hi by omega)
theorem sh_L_lo {a : Nat → Int32} {lo hi j : Nat} (h : j < lo ∨ hi ≤ j) : sh_L a lo hi j = a j := if_neg (by omega)
theorem sh_L_in {a : Nat → Int32} {lo hi j : Nat} (h : lo ≤ j) (h' : j < hi) : sh_L a lo hi j = a (j + 1) := if_pos ⟨h, h'⟩
section XSES
variable {kd wd pn la mk lc nw rc km kl kw kr tc ts tl tm : Int32} {ec et ek ev po gt il pc ps pl pm ss ft lt sc su sl sm re kp kt ki kq ks : Nat → Int32}
variable {yk yt yp yl : Int32} {sz cd vl no cp : Nat → Int32}
theorem x_copy {post : SX → Prop} {p0 p1 : Int32} {a b : Nat} {ft' lt' sc' su' sl' sm' : Nat → Int32} (h0 : p0 = nI a) (h1 : p1 = nI b) (ha : a < 128) (hb : b < 128) (e1 : upd ft b (ft a) = ft') (e2 : upd lt b (lt a) = lt') (e3 : upd sc b (sc a) = sc') (e4 : upd su b (su a) = su') (e5 : upd sl b (sl a) = sl') (e6 : upd sm b (sm a) = sm') (h : post (kd, wd, pn, la, mk, lc, nw, rc, km, kl, kw, kr, tc, ts, tl, tm, ec, et, ek, ev, po, gt, il, pc, ps, pl, pm, ss, ft', lt', sc', su', sl', sm', re, kp, kt, ki, kq, ks)) : wpX_copySession post (kd, wd, pn, la, mk, lc, nw, rc, km, kl, kw, kr, tc, ts, tl, tm, ec, et, ek, ev, po, gt, il, pc, ps, pl, pm, ss, ft, lt, sc, su, sl, sm, re, kp, kt, ki, kq, ks) p0 p1 := by
  subst h0 h1
  have ca : (nI a).toNatClampNeg = a := nI_clamp (by omega)
  have cb : (nI b).toNatClampNeg = b := nI_clamp (by omega)
  have ia : vp_in (nI a) 128 := vp_in_nI ha (by omega)
  have ib : vp_in (nI b) 128 := vp_in_nI hb (by omega)
  unfold wpX_copySession
  exact ⟨ia, ib, nm_r (e' := ft') (by rw [ca, cb, e1]) ⟨ia, ib, nm_r (e' := lt') (by rw [ca, cb, e2]) ⟨ia, ib, nm_r (e' := sc') (by rw [ca, cb, e3]) ⟨ia, ib, nm_r (e' := su') (by rw [ca, cb, e4]) ⟨ia, ib, nm_r (e' := sl') (by rw [ca, cb, e5]) ⟨ia, ib, nm_r (e' := sm') (by rw [ca, cb, e6]) h⟩⟩⟩⟩⟩⟩
theorem x_ins_l {post : SX → Prop} {K ai hi t N : Nat} {v : Int32} (hK : K < 4) (hai : ai < 128) (hhi : hi < 128) (hs : ss K = nI N) (h : post (kd, wd, pn, la, mk, lc, nw, rc, km, kl, kw, kr, tc, ts, tl, tm, ec, et, ek, ev, po, gt, il, pc, ps, pl, pm, upd ss K (nI (N + 1)), upd (sh_R ft ai hi) ai (nI t), upd (sh_R lt ai hi) ai (nI t), upd (sh_R sc ai hi) ai 1, upd (sh_R su ai hi) ai v, upd (sh_R sl ai hi) ai v, upd (sh_R sm ai hi) ai v, re, kp, kt, ki, kq, ks)) : ∀ d, ai + d ≤ hi → wX_insertSession_13 post (nI K) (nI ai) (nI t) v (d + 1) (nI (ai + d)) kd wd pn la mk lc nw rc km kl kw kr tc ts tl tm ec et ek ev po gt il pc ps pl pm ss (sh_R ft (ai + d) hi) (sh_R lt (ai + d) hi) (sh_R sc (ai + d) hi) (sh_R su (ai + d) hi) (sh_R sl (ai + d) hi) (sh_R sm (ai + d) hi) re kp kt ki kq ks := by
  have cK : (nI K).toNatClampNeg = K := nI_clamp (by omega)
  have ca : (nI ai).toNatClampNeg = ai := nI_clamp (by omega)
  have iK : vp_in (nI K) 4 := vp_in_nI hK (by omega)
  have ia : vp_in (nI ai) 128 := vp_in_nI hai (by omega)
  intro d
  induction d with
  | zero =>
    intro hd
    rw [wX_insertSession_13]
    exact br_t (nI_le (by omega) (by omega)) ⟨iK, iK, nm_r (e' := upd ss K (nI (N + 1))) (by rw [cK, hs, nI_1]) ⟨ia, nm_r (by rw [ca]; rfl) ⟨ia, nm_r (by rw [ca]; rfl) ⟨ia, nm_r (by rw [ca]; rfl) ⟨ia, nm_r (by rw [ca]; rfl) ⟨ia, nm_r (by rw [ca]; rfl) ⟨ia, nm_r (by rw [ca]; rfl) h⟩⟩⟩⟩⟩⟩⟩
  | succ d ih =>
    intro hd
    rw [wX_insertSession_13]
    refine br_f (nI_ge (by omega) (by omega)) ?_
    refine x_copy (a := ai + d) (b := ai + d + 1) (nI_pred (ai + d)) rfl (by omega) (by omega) (sh_R_s (k := ai + d) (by omega)) (sh_R_s (k := ai + d) (by omega)) (sh_R_s (k := ai + d) (by omega)) (sh_R_s (k := ai + d) (by omega)) (sh_R_s (k := ai + d) (by omega)) (sh_R_s (k := ai + d) (by omega)) ?_
    exact nm_r (pk_m1 (ai + d)) (ih (by omega))
theorem x_ins {post : SX → Prop} {K ai hi t N : Nat} {v : Int32} (hK : K < 4) (hai : ai ≤ hi) (hhi : hi < 128) (hs : ss K = nI N) (hN : 32 * K + N = hi) (h : post (kd, wd, pn, la, mk, lc, nw, rc, km, kl, kw, kr, tc, ts, tl, tm, ec, et, ek, ev, po, gt, il, pc, ps, pl, pm, upd ss K (nI (N + 1)), upd (sh_R ft ai hi) ai (nI t), upd (sh_R lt ai hi) ai (nI t), upd (sh_R sc ai hi) ai 1, upd (sh_R su ai hi) ai v, upd (sh_R sl ai hi) ai v, upd (sh_R sm ai hi) ai v, re, kp, kt, ki, kq, ks)) : wpX_insertSession post (kd, wd, pn, la, mk, lc, nw, rc, km, kl, kw, kr, tc, ts, tl, tm, ec, et, ek, ev, po, gt, il, pc, ps, pl, pm, ss, ft, lt, sc, su, sl, sm, re, kp, kt, ki, kq, ks) (nI K) (nI ai) (nI t) v := by
  have cK : (nI K).toNatClampNeg = K := nI_clamp (by omega)
  have iK : vp_in (nI K) 4 := vp_in_nI hK (by omega)
  have L := x_ins_l (K := K) (ai := ai) (hi := hi) (t := t) (v := v) hK (by omega) hhi hs h (hi - ai) (by omega)
  rw [show ai + (hi - ai) = hi by omega, sh_R_0, sh_R_0, sh_R_0, sh_R_0, sh_R_0, sh_R_0] at L
  unfold wpX_insertSession
  exact ⟨iK, nm_r (e' := nI hi) (by rw [cK, hs, ← hN]; exact (congrArg (· + nI N) (pk_mul 32 K)).trans (nI_add _ _)) ⟨_, L⟩⟩
theorem x_rem_l {post : SX → Prop} {K lo N : Nat} (hK : K < 4) (hN : N < 32) (hs : ss K = nI N) (h : post (kd, wd, pn, la, mk, lc, nw, rc, km, kl, kw, kr, tc, ts, tl, tm, ec, et, ek, ev, po, gt, il, pc, ps, pl, pm, ss, sh_L ft lo (32 * K + N), sh_L lt lo (32 * K + N), sh_L sc lo (32 * K + N), sh_L su lo (32 * K + N), sh_L sl lo (32 * K + N), sh_L sm lo (32 * K + N), re, kp, kt, ki, kq, ks)) : ∀ d k, k + d = 32 * K + N → lo ≤ k → wX_removeSession_12 post (nI K) (d + 1) (nI k) kd wd pn la mk lc nw rc km kl kw kr tc ts tl tm ec et ek ev po gt il pc ps pl pm ss (sh_L ft lo k) (sh_L lt lo k) (sh_L sc lo k) (sh_L su lo k) (sh_L sl lo k) (sh_L sm lo k) re kp kt ki kq ks := by
  have cK : (nI K).toNatClampNeg = K := nI_clamp (by omega)
  have iK : vp_in (nI K) 4 := vp_in_nI hK (by omega)
  have e0 : 32 * nI K + ss (nI K).toNatClampNeg = nI (32 * K + N) := by rw [cK, hs]; exact (congrArg (· + nI N) (pk_mul 32 K)).trans (nI_add _ _)
  intro d
  induction d with
  | zero =>
    intro k hd hk
    have : k = 32 * K + N := by omega
    subst this
    rw [wX_removeSession_12]
    exact ⟨iK, br_t (by rw [e0]; exact Int32.le_refl _) h⟩
  | succ d ih =>
    intro k hd hk
    rw [wX_removeSession_12]
    refine ⟨iK, br_f (by rw [e0]; exact nI_ge (by omega) (by omega)) ?_⟩
    refine x_copy (a := k + 1) (b := k) (nI_1 k) rfl (by omega) (by omega) (sh_L_s hk) (sh_L_s hk) (sh_L_s hk) (sh_L_s hk) (sh_L_s hk) (sh_L_s hk) ?_
    exact nm_r (nI_1 k) (ih (k + 1) (by omega) (by omega))
theorem x_rem {post : SX → Prop} {K lo N : Nat} (hK : K < 4) (hN : N < 32) (hs : ss K = nI (N + 1)) (hlo : lo ≤ 32 * K + N) (h : post (kd, wd, pn, la, mk, lc, nw, rc, km, kl, kw, kr, tc, ts, tl, tm, ec, et, ek, ev, po, gt, il, pc, ps, pl, pm, upd ss K (nI N), sh_L ft lo (32 * K + N), sh_L lt lo (32 * K + N), sh_L sc lo (32 * K + N), sh_L su lo (32 * K + N), sh_L sl lo (32 * K + N), sh_L sm lo (32 * K + N), re, kp, kt, ki, kq, ks)) : wpX_removeSession post (kd, wd, pn, la, mk, lc, nw, rc, km, kl, kw, kr, tc, ts, tl, tm, ec, et, ek, ev, po, gt, il, pc, ps, pl, pm, ss, ft, lt, sc, su, sl, sm, re, kp, kt, ki, kq, ks) (nI K) (nI lo) := by
  have cK : (nI K).toNatClampNeg = K := nI_clamp (by omega)
  have iK : vp_in (nI K) 4 := vp_in_nI hK (by omega)
  have L := x_rem_l (ss := upd ss K (nI N)) (K := K) (lo := lo) (N := N) hK hN pk_us h (32 * K + N - lo) lo (by omega) (Nat.le_refl _)
  rw [sh_L_0, sh_L_0, sh_L_0, sh_L_0, sh_L_0, sh_L_0] at L
  unfold wpX_removeSession
  exact ⟨iK, iK, nm_r (e' := upd ss K (nI N)) (by rw [cK, hs, nI_pred]) ⟨_, L⟩⟩
theorem x_join {post : SX → Prop} {K ai N : Nat} (hK : K < 4) (hN : N < 32) (hs : ss K = nI (N + 1)) (hlo : ai + 1 ≤ 32 * K + N) (h : post (kd, wd, pn, la, mk, lc, nw, rc, km, kl, kw, kr, tc, ts, tl, tm, ec, et, ek, ev, po, gt, il, pc, ps, pl, pm, upd ss K (nI N), sh_L ft (ai + 1) (32 * K + N), sh_L (upd lt ai (lt (ai + 1))) (ai + 1) (32 * K + N), sh_L (upd sc ai (sc ai + sc (ai + 1))) (ai + 1) (32 * K + N), sh_L (upd su ai (su ai + su (ai + 1))) (ai + 1) (32 * K + N), sh_L (upd sl ai (q_mn (sl ai) (sl (ai + 1)))) (ai + 1) (32 * K + N), sh_L (upd sm ai (q_mx (sm ai) (sm (ai + 1)))) (ai + 1) (32 * K + N), re, kp, kt, ki, kq, ks)) : wpX_joinNext post (kd, wd, pn, la, mk, lc, nw, rc, km, kl, kw, kr, tc, ts, tl, tm, ec, et, ek, ev, po, gt, il, pc, ps, pl, pm, ss, ft, lt, sc, su, sl, sm, re, kp, kt, ki, kq, ks) (nI K) (nI ai) := by
  have ca : (nI ai).toNatClampNeg = ai := nI_clamp (by omega)
  have cb : (nI (ai + 1)).toNatClampNeg = ai + 1 := nI_clamp (by omega)
  have ia : vp_in (nI ai) 128 := vp_in_nI (by omega) (by omega)
  have ib : vp_in (nI (ai + 1)) 128 := vp_in_nI (by omega) (by omega)
  have k117 : ∀ (sl' : Nat → Int32) (w : Int32), sl' = upd sl ai (q_mn (sl ai) (sl (ai + 1))) → w = q_mx (sm ai) (sm (ai + 1)) → wX_joinNext_117 post (nI K) (nI (ai + 1)) w (nI ai) kd wd pn la mk lc nw rc km kl kw kr tc ts tl tm ec et ek ev po gt il pc ps pl pm ss ft (upd lt ai (lt (ai + 1))) (upd sc ai (sc ai + sc (ai + 1))) (upd su ai (su ai + su (ai + 1))) sl' sm re kp kt ki kq ks := by
    intro sl' w e1 e2
    subst e1 e2
    unfold wX_joinNext_117
    refine ⟨ia, nm_r (e' := upd sm ai (q_mx (sm ai) (sm (ai + 1)))) (by rw [ca]) ?_⟩
    exact x_rem hK hN hs hlo h
  have k81 : ∀ w : Int32, w = q_mn (sl ai) (sl (ai + 1)) → wX_joinNext_81 post (nI K) (nI ai) (nI (ai + 1)) w (nI ai) kd wd pn la mk lc nw rc km kl kw kr tc ts tl tm ec et ek ev po gt il pc ps pl pm ss ft (upd lt ai (lt (ai + 1))) (upd sc ai (sc ai + sc (ai + 1))) (upd su ai (su ai + su (ai + 1))) sl sm re kp kt ki kq ks := by
    intro w e1
    subst e1
    unfold wX_joinNext_81
    refine ⟨ia, nm_r (e' := upd sl ai (q_mn (sl ai) (sl (ai + 1)))) (by rw [ca]) ⟨ib, ia, br_c (fun c => ⟨ia, k117 _ _ rfl ?_⟩) (fun c => ⟨ib, k117 _ _ rfl ?_⟩)⟩⟩
    · rw [ca, cb] at c; rw [ca]; exact (if_pos c).symm
    · rw [ca, cb] at c; rw [cb]; exact (if_neg c).symm
  unfold wpX_joinNext
  refine nm_r (nI_1 ai) ⟨ib, ia, nm_r (e' := upd lt ai (lt (ai + 1))) (by rw [ca, cb]) ⟨ia, ib, ia, nm_r (e' := upd sc ai (sc ai + sc (ai + 1))) (by rw [ca, cb]) ⟨ia, ib, ia, nm_r (e' := upd su ai (su ai + su (ai + 1))) (by rw [ca, cb]) ⟨ib, ia, br_c (fun c => ⟨ia, k81 _ ?_⟩) (fun c => ⟨ib, k81 _ ?_⟩)⟩⟩⟩⟩
  · rw [ca, cb] at c; rw [ca]; exact (if_pos c).symm
  · rw [ca, cb] at c; rw [cb]; exact (if_neg c).symm
end XSES
end
section
section XTAKE
variable {kd wd pn la mk lc nw rc km kl kw kr tc ts tl tm : Int32} {ec et ek ev po gt il pc ps pl pm ss ft lt sc su sl sm re kp kt ki kq ks : Nat → Int32}
variable {yk yt yp yl : Int32} {sz cd vl no cp : Nat → Int32}
/-- an event touches the session at ai -/
theorem x_tch {post : SX → Prop} {K W ai E t c N : Nat} {v x6 : Int32} (hK : K < 4) (hw : wd = nI W) (hW : W ≤ 8) (ht : t < 64) (hai : ai < 128) (hE : E = 32 * K + (N + 1)) (hN : N < 32) (hs : ss K = nI (N + 1)) (h6 : ¬ x6 = 0) (hc : ai + 1 < E → ft (ai + 1) = nI c ∧ c < 64)
    (h1 : (ai + 1 < E → t + W < c) → post (kd, wd, pn, la, mk, lc, nw, rc, km, kl, kw, kr, tc, ts, tl, tm, ec, et, ek, ev, po, gt, il, pc, ps, pl, pm, ss, upd ft ai (q_mn (ft ai) (nI t)), upd lt ai (q_mx (lt ai) (nI t)), upd sc ai (sc ai + 1), upd su ai (su ai + v), upd sl ai (q_mn (sl ai) v), upd sm ai (q_mx (sm ai) v), re, kp, kt, ki, kq, ks))
    (h2 : ai + 1 < E → c ≤ t + W → wpX_joinNext post (kd, wd, pn, la, mk, lc, nw, rc, km, kl, kw, kr, tc, ts, tl, tm, ec, et, ek, ev, po, gt, il, pc, ps, pl, pm, ss, upd ft ai (q_mn (ft ai) (nI t)), upd lt ai (q_mx (lt ai) (nI t)), upd sc ai (sc ai + 1), upd su ai (su ai + v), upd sl ai (q_mn (sl ai) v), upd sm ai (q_mx (sm ai) v), re, kp, kt, ki, kq, ks) (nI K) (nI ai)) : wX_takeIntoSession_105 post (nI t) (nI K) v (nI ai) (nI E) x6 kd wd pn la mk lc nw rc km kl kw kr tc ts tl tm ec et ek ev po gt il pc ps pl pm ss ft lt sc su sl sm re kp kt ki kq ks := by
  have ca : (nI ai).toNatClampNeg = ai := nI_clamp (by omega)
  have ia : vp_in (nI ai) 128 := vp_in_nI hai (by omega)
  have k235 : ∀ (ft' lt' sl' : Nat → Int32) (w : Int32), ft' = upd ft ai (q_mn (ft ai) (nI t)) → lt' = upd lt ai (q_mx (lt ai) (nI t)) → sl' = upd sl ai (q_mn (sl ai) v) → w = q_mx (sm ai) v → wX_takeIntoSession_235 post (nI t) (nI K) v (nI ai) (nI E) w (nI ai) kd wd pn la mk lc nw rc km kl kw kr tc ts tl tm ec et ek ev po gt il pc ps pl pm ss ft' lt' sc su sl' sm re kp kt ki kq ks := by
    intro ft' lt' sl' w e1 e2 e3 e4
    subst e1 e2 e3 e4
    unfold wX_takeIntoSession_235
    refine ⟨ia, nm_r (e' := upd sm ai (q_mx (sm ai) v)) (by rw [ca]) ⟨ia, ia, nm_r (e' := upd sc ai (sc ai + 1)) (by rw [ca]) ⟨ia, ia, nm_r (e' := upd su ai (su ai + v)) (by rw [ca]) ?_⟩⟩⟩
    by_cases q : ai + 1 < E
    · have q1 : ¬ nI E ≤ nI ai + 1 := by rw [nI_1]; exact nI_ge q (by omega)
      obtain ⟨hc1, hc2⟩ := hc q
      have cb : (nI ai + 1).toNatClampNeg = ai + 1 := by rw [nI_1]; exact nI_clamp (by omega)
      have ib : vp_in (nI ai + 1) 128 := by rw [nI_1]; exact vp_in_nI (by omega) (by omega)
      have cc : upd ft ai (q_mn (ft ai) (nI t)) (nI ai + 1).toNatClampNeg - wd = hI ((c : Int) - W) := by
        rw [cb, pk_un (by omega), hc1, hw, ← hI_n, ← hI_n, hI_sub]
      have cl : (nI t < upd ft ai (q_mn (ft ai) (nI t)) (nI ai + 1).toNatClampNeg - wd) ↔ (t : Int) < (c : Int) - W := hx_lt (hI_n t).symm cc (by omega) (by omega)
      by_cases q2 : t + W < c
      · exact br_f q1 ⟨ib, br_t (cl.mpr (by omega)) (h1 (fun _ => q2))⟩
      · exact br_f q1 ⟨ib, br_f (fun z => q2 (by have := cl.mp z; omega)) (h2 q (by omega))⟩
    · have q1 : nI E ≤ nI ai + 1 := by rw [nI_1]; exact nI_le (by omega) (by omega)
      exact br_t q1 (h1 (fun z => absurd z q))
  have k206 : ∀ (ft' lt' : Nat → Int32) (w : Int32), ft' = upd ft ai (q_mn (ft ai) (nI t)) → lt' = upd lt ai (q_mx (lt ai) (nI t)) → w = q_mn (sl ai) v → wX_takeIntoSession_206 post (nI t) (nI K) v (nI ai) (nI E) w (nI ai) kd wd pn la mk lc nw rc km kl kw kr tc ts tl tm ec et ek ev po gt il pc ps pl pm ss ft' lt' sc su sl sm re kp kt ki kq ks := by
    intro ft' lt' w e1 e2 e3
    unfold wX_takeIntoSession_206
    refine ⟨ia, nm_r (e' := upd sl ai (q_mn (sl ai) v)) (by rw [ca, e3]) ⟨ia, br_c (fun c => ⟨ia, k235 _ _ _ _ e1 e2 rfl ?_⟩) (fun c => k235 _ _ _ _ e1 e2 rfl ?_)⟩⟩
    · rw [ca] at c ⊢; exact (if_pos c).symm
    · rw [ca] at c; exact (if_neg c).symm
  have k177 : ∀ (ft' : Nat → Int32) (w : Int32), ft' = upd ft ai (q_mn (ft ai) (nI t)) → w = q_mx (lt ai) (nI t) → wX_takeIntoSession_177 post (nI t) (nI K) v (nI ai) (nI E) w (nI ai) kd wd pn la mk lc nw rc km kl kw kr tc ts tl tm ec et ek ev po gt il pc ps pl pm ss ft' lt sc su sl sm re kp kt ki kq ks := by
    intro ft' w e1 e2
    unfold wX_takeIntoSession_177
    refine ⟨ia, nm_r (e' := upd lt ai (q_mx (lt ai) (nI t))) (by rw [ca, e2]) ⟨ia, br_c (fun c => ⟨ia, k206 _ _ _ e1 rfl ?_⟩) (fun c => k206 _ _ _ e1 rfl ?_)⟩⟩
    · rw [ca] at c ⊢; exact (if_pos c).symm
    · rw [ca] at c; exact (if_neg c).symm
  have k148 : ∀ (w : Int32), w = q_mn (ft ai) (nI t) → wX_takeIntoSession_148 post (nI t) (nI K) v (nI ai) (nI E) w (nI ai) kd wd pn la mk lc nw rc km kl kw kr tc ts tl tm ec et ek ev po gt il pc ps pl pm ss ft lt sc su sl sm re kp kt ki kq ks := by
    intro w e1
    unfold wX_takeIntoSession_148
    refine ⟨ia, nm_r (e' := upd ft ai (q_mn (ft ai) (nI t))) (by rw [ca, e1]) ⟨ia, br_c (fun c => ⟨ia, k177 _ _ rfl ?_⟩) (fun c => k177 _ _ rfl ?_)⟩⟩
    · rw [ca] at c ⊢; exact (if_pos c).symm
    · rw [ca] at c; exact (if_neg c).symm
  unfold wX_takeIntoSession_105
  refine br_f h6 ⟨ia, br_c (fun c => ⟨ia, k148 _ ?_⟩) (fun c => k148 _ ?_)⟩
  · rw [ca] at c ⊢; exact (if_pos c).symm
  · rw [ca] at c; exact (if_neg c).symm
theorem x_scan {post : SX → Prop} {W E t : Nat} {v x2 : Int32} (hw : wd = nI W) (hW : W ≤ 8) (ht : t < 64) (hE : E ≤ 128) : ∀ (D : List Ses) (a : Nat), s_xs (s_b ft lt sc su sl sm) a D → a + D.length = E → (∀ s ∈ D, s.2.1 < 64) → wX_takeIntoSession_46 post (nI t) x2 v (nI (a + (D.takeWhile (fun s => decide (s.2.1 + W < t))).length)) (nI E) kd wd pn la mk lc nw rc km kl kw kr tc ts tl tm ec et ek ev po gt il pc ps pl pm ss ft lt sc su sl sm re kp kt ki kq ks → wX_takeIntoSession_17 post (nI t) x2 v (nI E) kd wd pn la mk lc nw rc km kl kw kr tc ts tl tm ec et ek ev po gt il pc ps pl pm ss ft lt sc su sl sm re kp kt ki kq ks (D.length + 1) (nI a)
  | [], a, _, ha, _, h => by
    rw [List.takeWhile_nil] at h
    have ha' : a = E := ha
    subst ha'
    rw [wX_takeIntoSession_17]
    exact br_t (Int32.le_refl _) h
  | s :: D, a, hs, ha, hb, h => by
    have ha' : a + (D.length + 1) = E := ha
    have ca : (nI a).toNatClampNeg = a := nI_clamp (by omega)
    have ia : vp_in (nI a) 128 := vp_in_nI (by omega) (by omega)
    have hl : lt a = nI s.2.1 := congrArg (fun z : C6 => z.2.1) hs.1
    have hb1 := hb s List.mem_cons_self
    have cl : (nI t ≤ lt (nI a).toNatClampNeg + wd) ↔ t ≤ s.2.1 + W := by
      rw [ca, hl, hw, nI_add, nI_leI (by omega) (by omega)]
    rw [wX_takeIntoSession_17]
    refine br_f (nI_ge (by omega) (by omega)) ⟨ia, ?_⟩
    by_cases c : s.2.1 + W < t
    · rw [List.takeWhile_cons_of_pos (by exact decide_eq_true c)] at h
      have e : a + (s :: D.takeWhile (fun s => decide (s.2.1 + W < t))).length = a + 1 + (D.takeWhile (fun s => decide (s.2.1 + W < t))).length := by
        rw [List.length_cons]; omega
      rw [e] at h
      exact br_f (fun z => by have := cl.mp z; omega) (nm_r (nI_1 a) (x_scan hw hW ht hE D (a + 1) hs.2 (by omega) (fun x hx => hb x (List.mem_cons_of_mem _ hx)) h))
    · rw [List.takeWhile_cons_of_neg (by rw [decide_eq_true_eq]; exact c)] at h
      exact br_t (cl.mpr (by omega)) h
/-- the arrays behind an insertion -/
theorem s_insx {K t ai hi N : Nat} {v : Int32} {L : Nat → List Ses} {A B : List Ses} (hK : K < 4) (h : s_XL ss (s_b ft lt sc su sl sm) L) (hl : ∀ k, k < 4 → (L k).length ≤ 32) (e : L K = A ++ B) (hai : ai = 32 * K + A.length) (hhi : hi = 32 * K + N) (hN : N = A.length + B.length) (hlt : N < 32) : s_XL (upd ss K (nI (N + 1))) (s_b (upd (sh_R ft ai hi) ai (nI t)) (upd (sh_R lt ai hi) ai (nI t)) (upd (sh_R sc ai hi) ai 1) (upd (sh_R su ai hi) ai v) (upd (sh_R sl ai hi) ai v) (upd (sh_R sm ai hi) ai v)) (s_st L K (A ++ (t, t, 0, v, v, v) :: B)) := by
  have h0 := (h K hK).2
  rw [e, s_xs_a] at h0
  refine s_XL_u h hl ?_ (fun k hk => pk_un hk) ?_ ?_
  · rw [pk_us, List.length_append, List.length_cons, hN, Nat.add_assoc]
  · rw [s_xs_a]
    refine ⟨s_xs_r A _ _ (fun i hq => ?_) h0.1, ?_, s_xs_r B _ _ (fun i hq => ?_) h0.2⟩
    · unfold s_b
      simp only [pk_un (show 32 * K + i ≠ ai by omega), sh_R_lo (show 32 * K + i ≤ ai ∨ hi < 32 * K + i by omega)]
    · rw [← hai]
      unfold s_b
      simp only [pk_us]
      rfl
    · rw [← hai] at h0
      unfold s_b
      have e1 : 32 * K + A.length + 1 + i = (32 * K + A.length + i) + 1 := by omega
      rw [e1]
      simp only [pk_un (show 32 * K + A.length + i + 1 ≠ ai by omega), sh_R_in (show ai ≤ 32 * K + A.length + i by omega) (show 32 * K + A.length + i < hi by omega)]
  · intro j hj
    unfold s_b
    simp only [pk_un (show j ≠ ai by omega), sh_R_lo (show j ≤ ai ∨ hi < j by omega)]
theorem nI_mn (a b : Nat) (ha : a < 2 ^ 31) (hb : b < 2 ^ 31) : q_mn (nI a) (nI b) = nI (min a b) := by
  unfold q_mn
  by_cases c : a ≤ b
  · rw [if_pos (nI_le c hb), Nat.min_eq_left c]
  · rw [if_neg (nI_ge (by omega) ha), Nat.min_eq_right (by omega)]
theorem nI_mx (a b : Nat) (ha : a < 2 ^ 31) (hb : b < 2 ^ 31) : q_mx (nI a) (nI b) = nI (max a b) := by
  unfold q_mx
  by_cases c : b ≤ a
  · rw [if_pos (nI_le c ha), Nat.max_eq_left c]
  · rw [if_neg (nI_ge (by omega) hb), Nat.max_eq_right (by omega)]
/-- the arrays behind an event that touches one session -/
theorem s_upx {K t ai : Nat} {v : Int32} {L : Nat → List Ses} {A B : List Ses} {s : Ses} (hK : K < 4) (ht : t < 64) (h : s_XL ss (s_b ft lt sc su sl sm) L) (hl : ∀ k, k < 4 → (L k).length ≤ 32) (e : L K = A ++ s :: B) (hai : 32 * K + A.length = ai) (h1 : s.1 < 64) (h2 : s.2.1 < 64) : s_XL ss (s_b (upd ft ai (q_mn (ft ai) (nI t))) (upd lt ai (q_mx (lt ai) (nI t))) (upd sc ai (sc ai + 1)) (upd su ai (su ai + v)) (upd sl ai (q_mn (sl ai) v)) (upd sm ai (q_mx (sm ai) v))) (s_st L K (A ++ s_m s (t, t, 0, v, v, v) :: B)) := by
  have h0 := (h K hK).2
  have hn := (h K hK).1
  have hlen := hl K hK
  rw [e] at hn hlen
  rw [e, s_xs_a, hai] at h0
  rw [List.length_append, List.length_cons] at hn hlen
  refine s_XL_u h hl ?_ (fun k hk => rfl) ?_ ?_
  · rw [hn, List.length_append, List.length_cons]
  · rw [s_xs_a, hai]
    refine ⟨s_xs_r A _ _ (fun i hq => ?_) h0.1, ?_, s_xs_r B _ _ (fun i hq => ?_) h0.2.2⟩
    · unfold s_b
      simp only [pk_un (show 32 * K + i ≠ ai by omega)]
    · have hs := h0.2.1
      have g1 : ft ai = nI s.1 := congrArg (fun z : C6 => z.1) hs
      have g2 : lt ai = nI s.2.1 := congrArg (fun z : C6 => z.2.1) hs
      have g3 : sc ai = nI (s.2.2.1 + 1) := congrArg (fun z : C6 => z.2.2.1) hs
      have g4 : su ai = s.2.2.2.1 := congrArg (fun z : C6 => z.2.2.2.1) hs
      have g5 : sl ai = s.2.2.2.2.1 := congrArg (fun z : C6 => z.2.2.2.2.1) hs
      have g6 : sm ai = s.2.2.2.2.2 := congrArg (fun z : C6 => z.2.2.2.2.2) hs
      unfold s_b
      simp only [pk_us]
      rw [g1, g2, g3, g4, g5, g6, nI_mn _ _ (by omega) (by omega), nI_mx _ _ (by omega) (by omega), nI_1]
      rfl
    · unfold s_b
      simp only [pk_un (show ai + 1 + i ≠ ai by omega)]
  · intro j hj
    unfold s_b
    simp only [pk_un (show j ≠ ai by omega)]
/-- the arrays behind a removal -/
theorem s_rmx {K lo hi N : Nat} {L : Nat → List Ses} {A B : List Ses} {s : Ses} (hK : K < 4) (h : s_XL ss (s_b ft lt sc su sl sm) L) (hl : ∀ k, k < 4 → (L k).length ≤ 32) (e : L K = A ++ s :: B) (hlo : 32 * K + A.length = lo) (hhi : hi = 32 * K + N) (hN : N = A.length + B.length) : s_XL (upd ss K (nI N)) (s_b (sh_L ft lo hi) (sh_L lt lo hi) (sh_L sc lo hi) (sh_L su lo hi) (sh_L sl lo hi) (sh_L sm lo hi)) (s_st L K (A ++ B)) := by
  have h0 := (h K hK).2
  have hlen := hl K hK
  rw [e] at hlen
  rw [e, s_xs_a, hlo] at h0
  rw [List.length_append, List.length_cons] at hlen
  refine s_XL_u h hl ?_ (fun k hk => pk_un hk) ?_ ?_
  · rw [pk_us, List.length_append, hN]
  · rw [s_xs_a, hlo]
    refine ⟨s_xs_r A _ _ (fun i hq => ?_) h0.1, s_xs_r B _ _ (fun i hq => ?_) h0.2.2⟩
    · unfold s_b
      simp only [sh_L_lo (show 32 * K + i < lo ∨ hi ≤ 32 * K + i by omega)]
    · unfold s_b
      rw [show lo + 1 + i = lo + i + 1 by omega]
      simp only [sh_L_in (show lo ≤ lo + i by omega) (show lo + i < hi by omega)]
  · intro j hj
    unfold s_b
    simp only [sh_L_lo (show j < lo ∨ hi ≤ j by omega)]
/-- the arrays behind a join of two neighbours, ahead of the removal -/
theorem s_jnx {K ai : Nat} {L : Nat → List Ses} {A B : List Ses} {s r : Ses} (hK : K < 4) (h : s_XL ss (s_b ft lt sc su sl sm) L) (hl : ∀ k, k < 4 → (L k).length ≤ 32) (e : L K = A ++ s :: r :: B) (hai : 32 * K + A.length = ai) (h1 : s.1 ≤ r.1) (h2 : s.2.1 ≤ r.2.1) : s_XL ss (s_b ft (upd lt ai (lt (ai + 1))) (upd sc ai (sc ai + sc (ai + 1))) (upd su ai (su ai + su (ai + 1))) (upd sl ai (q_mn (sl ai) (sl (ai + 1)))) (upd sm ai (q_mx (sm ai) (sm (ai + 1))))) (s_st L K (A ++ s_m s r :: r :: B)) := by
  have h0 := (h K hK).2
  have hn := (h K hK).1
  have hlen := hl K hK
  rw [e] at hn hlen
  rw [e, s_xs_a, hai] at h0
  rw [List.length_append, List.length_cons] at hn hlen
  refine s_XL_u h hl ?_ (fun k hk => rfl) ?_ ?_
  · rw [hn, List.length_append]; rfl
  · rw [s_xs_a, hai]
    refine ⟨s_xs_r A _ _ (fun i hq => ?_) h0.1, ?_, s_xs_r (r :: B) _ _ (fun i hq => ?_) h0.2.2⟩
    · unfold s_b
      simp only [pk_un (show 32 * K + i ≠ ai by omega)]
    · have hs := h0.2.1
      have hr := h0.2.2.1
      have g1 : ft ai = nI s.1 := congrArg (fun z : C6 => z.1) hs
      have g3 : sc ai = nI (s.2.2.1 + 1) := congrArg (fun z : C6 => z.2.2.1) hs
      have g4 : su ai = s.2.2.2.1 := congrArg (fun z : C6 => z.2.2.2.1) hs
      have g5 : sl ai = s.2.2.2.2.1 := congrArg (fun z : C6 => z.2.2.2.2.1) hs
      have g6 : sm ai = s.2.2.2.2.2 := congrArg (fun z : C6 => z.2.2.2.2.2) hs
      have r2 : lt (ai + 1) = nI r.2.1 := congrArg (fun z : C6 => z.2.1) hr
      have r3 : sc (ai + 1) = nI (r.2.2.1 + 1) := congrArg (fun z : C6 => z.2.2.1) hr
      have r4 : su (ai + 1) = r.2.2.2.1 := congrArg (fun z : C6 => z.2.2.2.1) hr
      have r5 : sl (ai + 1) = r.2.2.2.2.1 := congrArg (fun z : C6 => z.2.2.2.2.1) hr
      have r6 : sm (ai + 1) = r.2.2.2.2.2 := congrArg (fun z : C6 => z.2.2.2.2.2) hr
      unfold s_b
      simp only [pk_us]
      rw [g1, g3, g4, g5, g6, r2, r3, r4, r5, r6, nI_add]
      have e1 : s_cd (s_m s r) = (nI (min s.1 r.1), nI (max s.2.1 r.2.1), nI (s.2.2.1 + r.2.2.1 + 1 + 1), s.2.2.2.1 + r.2.2.2.1, q_mn s.2.2.2.2.1 r.2.2.2.2.1, q_mx s.2.2.2.2.2 r.2.2.2.2.2) := rfl
      rw [e1, Nat.min_eq_left h1, Nat.max_eq_right h2, show s.2.2.1 + 1 + (r.2.2.1 + 1) = s.2.2.1 + r.2.2.1 + 1 + 1 by omega]
    · unfold s_b
      simp only [pk_un (show ai + 1 + i ≠ ai by omega)]
  · intro j hj
    unfold s_b
    simp only [pk_un (show j ≠ ai by omega)]
/-- where the scan stops -/
theorem s_sp (W t : Nat) : ∀ l : List Ses, ∃ A D : List Ses, l = A ++ D ∧ l.takeWhile (fun s => decide (s.2.1 + W < t)) = A ∧ (∀ a ∈ A, a.2.1 + W < t) ∧ (D = [] ∨ ∃ b D', D = b :: D' ∧ t ≤ b.2.1 + W)
  | [] => ⟨[], [], rfl, rfl, (fun _ h => nomatch h), Or.inl rfl⟩
  | s :: l => by
    by_cases c : s.2.1 + W < t
    · obtain ⟨A, D, h1, h2, h3, h4⟩ := s_sp W t l
      refine ⟨s :: A, D, by rw [h1]; rfl, ?_, fun a ha => ?_, h4⟩
      · rw [List.takeWhile_cons_of_pos (by exact decide_eq_true c), h2]
      · rcases List.mem_cons.mp ha with e | e
        · rw [e]; exact c
        · exact h3 a e
    · refine ⟨[], s :: l, rfl, ?_, (fun _ h => nomatch h), Or.inr ⟨s, l, rfl, by omega⟩⟩
      rw [List.takeWhile_cons_of_neg (by rw [decide_eq_true_eq]; exact c)]
end XTAKE
end
section
section XTAKE2
variable {kd wd pn la mk lc nw rc km kl kw kr tc ts tl tm : Int32} {ec et ek ev po gt il pc ps pl pm ss ft lt sc su sl sm re kp kt ki kq ks : Nat → Int32}
variable {yk yt yp yl : Int32} {sz cd vl no cp : Nat → Int32}
theorem x_74 {post : SX → Prop} {W t E ai : Nat} {v x2 : Int32} (hai : ai < 128) (hw : wd = nI W) (hW : W ≤ 8) (ht : t < 64) (hE : E < 200) (hc : ai < E → ∃ c : Nat, ft ai = nI c ∧ c < 64 ∧ t + W < c) (h : wX_takeIntoSession_74 post (nI t) x2 v (nI ai) (nI E) 0 kd wd pn la mk lc nw rc km kl kw kr tc ts tl tm ec et ek ev po gt il pc ps pl pm ss ft lt sc su sl sm re kp kt ki kq ks) : wX_takeIntoSession_46 post (nI t) x2 v (nI ai) (nI E) kd wd pn la mk lc nw rc km kl kw kr tc ts tl tm ec et ek ev po gt il pc ps pl pm ss ft lt sc su sl sm re kp kt ki kq ks := by
  have ca : (nI ai).toNatClampNeg = ai := nI_clamp (by omega)
  unfold wX_takeIntoSession_46
  by_cases q : ai < E
  · obtain ⟨c, h1, h2, h3⟩ := hc q
    refine br_f (nI_ge q (by omega)) ⟨vp_in_nI hai (by omega), br_t ?_ h⟩
    rw [ca, h1, hw]
    exact (hx_lt (hI_n t).symm (hx_s (hI_n c).symm (hI_n W).symm) (by omega) (by omega)).mpr (by omega)
  · exact br_t (nI_le (by omega) (by omega)) h
theorem x_take {K W t : Nat} {v : Int32} {z : Int} {L : Nat → List Ses} (hK : K < 4) (hw : wd = nI W) (hW1 : 1 ≤ W) (hW : W ≤ 8) (ht : t < 64) (hz : mk = hI z) (hz1 : -1000 ≤ z) (hz2 : z ≤ 63) (h : s_XL ss (s_b ft lt sc su sl sm) L) (hok : ∀ k, k < 4 → s_ok W (L k)) :
    ∃ A C B : List Ses, L K = A ++ (C ++ B) ∧ (∀ a ∈ A, a.2.1 + W < t) ∧ (∀ b ∈ B, t + W < b.1) ∧ (∀ c ∈ C, c.1 ≤ t + W ∧ t ≤ c.2.1 + W) ∧
      ((C = [] ∧ (t : Int) + W ≤ z ∧ ∀ post : SX → Prop, post (kd, wd, pn, la, mk, lc + 1, nw, rc, km, kl, kw, kr, tc, ts, tl, tm, ec, et, ek, ev, po, gt, il, pc, ps, pl, pm, ss, ft, lt, sc, su, sl, sm, re, kp, kt, ki, kq, ks) → wpX_takeIntoSession post (kd, wd, pn, la, mk, lc, nw, rc, km, kl, kw, kr, tc, ts, tl, tm, ec, et, ek, ev, po, gt, il, pc, ps, pl, pm, ss, ft, lt, sc, su, sl, sm, re, kp, kt, ki, kq, ks) (nI t) (nI K) v) ∨
       ((C = [] → z < (t : Int) + W) ∧ ∃ ss' ft' lt' sc' su' sl' sm' : Nat → Int32, s_XL ss' (s_b ft' lt' sc' su' sl' sm') (s_st L K (A ++ s_g C (t, t, 0, v, v, v) :: B)) ∧ ∀ post : SX → Prop, post (kd, wd, pn, la, mk, lc, nw, rc, km, kl, kw, kr, tc, ts, tl, tm, ec, et, ek, ev, po, gt, il, pc, ps, pl, pm, ss', ft', lt', sc', su', sl', sm', re, kp, kt, ki, kq, ks) → wpX_takeIntoSession post (kd, wd, pn, la, mk, lc, nw, rc, km, kl, kw, kr, tc, ts, tl, tm, ec, et, ek, ev, po, gt, il, pc, ps, pl, pm, ss, ft, lt, sc, su, sl, sm, re, kp, kt, ki, kq, ks) (nI t) (nI K) v)) := by
  have hl : ∀ k, k < 4 → (L k).length ≤ 32 := fun k hk => s_ok_l hW1 (hok k hk)
  have hokK := hok K hK
  obtain ⟨A, D, e, eA, hA, hD⟩ := s_sp W t (L K)
  have cK : (nI K).toNatClampNeg = K := nI_clamp (by omega)
  have iK : vp_in (nI K) 4 := vp_in_nI hK (by omega)
  have hlen := hl K hK
  have hlAD : (L K).length = A.length + D.length := by rw [e, List.length_append]
  have hsK := (h K hK).1
  have hxs := (h K hK).2
  rw [hlAD] at hsK
  have scan : ∀ post : SX → Prop, wX_takeIntoSession_46 post (nI t) (nI K) v (nI (32 * K + A.length)) (nI (32 * K + (A.length + D.length))) kd wd pn la mk lc nw rc km kl kw kr tc ts tl tm ec et ek ev po gt il pc ps pl pm ss ft lt sc su sl sm re kp kt ki kq ks → wpX_takeIntoSession post (kd, wd, pn, la, mk, lc, nw, rc, km, kl, kw, kr, tc, ts, tl, tm, ec, et, ek, ev, po, gt, il, pc, ps, pl, pm, ss, ft, lt, sc, su, sl, sm, re, kp, kt, ki, kq, ks) (nI t) (nI K) v := by
    intro post hp
    unfold wpX_takeIntoSession
    refine nm_r (pk_mul 32 K) ⟨iK, nm_r (e' := nI (32 * K + (A.length + D.length))) (by rw [cK, hsK, nI_add]) ⟨(L K).length + 1, ?_⟩⟩
    refine x_scan hw hW ht (by omega) (L K) (32 * K) hxs (by omega) (fun s hs => (hokK.2 s hs).2) ?_
    rw [eA]
    exact hp
  have hokAD : s_ok W (A ++ D) := e ▸ hokK
  have hpD : D.Pairwise (fun a b => a.2.1 + W < b.1) := (List.pairwise_append.mp hokAD.1).2.1
  have hxD := ((s_xs_a A D (32 * K)).mp (e ▸ hxs)).2
  have hmD : ∀ x ∈ D, x ∈ L K := fun x hx => by rw [e]; exact List.mem_append.mpr (Or.inr hx)
  have key : (∀ b ∈ D, t + W < b.1) ∨ ∃ b D', D = b :: D' ∧ b.1 ≤ t + W ∧ t ≤ b.2.1 + W := by
    rcases hD with rfl | ⟨b, D', rfl, hb⟩
    · exact Or.inl (fun _ h => nomatch h)
    · by_cases c : b.1 ≤ t + W
      · exact Or.inr ⟨b, D', rfl, c, hb⟩
      · refine Or.inl (fun x hx => ?_)
        rcases List.mem_cons.mp hx with ex | ex
        · rw [ex]; omega
        · have h1 := (List.pairwise_cons.mp hpD).1 x ex
          have h2 := hokK.2 b (hmD b List.mem_cons_self)
          omega
  rcases key with hB | ⟨b, D', rfl, hb1, hb2⟩
  · refine ⟨A, [], D, e, hA, hB, (fun _ h => nomatch h), ?_⟩
    have k74 : ∀ post : SX → Prop, wX_takeIntoSession_74 post (nI t) (nI K) v (nI (32 * K + A.length)) (nI (32 * K + (A.length + D.length))) 0 kd wd pn la mk lc nw rc km kl kw kr tc ts tl tm ec et ek ev po gt il pc ps pl pm ss ft lt sc su sl sm re kp kt ki kq ks → wpX_takeIntoSession post (kd, wd, pn, la, mk, lc, nw, rc, km, kl, kw, kr, tc, ts, tl, tm, ec, et, ek, ev, po, gt, il, pc, ps, pl, pm, ss, ft, lt, sc, su, sl, sm, re, kp, kt, ki, kq, ks) (nI t) (nI K) v := by
      intro post hp
      by_cases hq : 32 * K + A.length < 128
      · refine scan post (x_74 hq hw hW ht (by omega) (fun q => ?_) hp)
        cases D with
        | nil => exact absurd q (by show ¬ 32 * K + A.length < 32 * K + (A.length + 0); omega)
        | cons b D' => exact ⟨b.1, congrArg (fun z : C6 => z.1) hxD.1, by have := hokK.2 b (hmD b List.mem_cons_self); omega, hB b List.mem_cons_self⟩
      · refine scan post ?_
        unfold wX_takeIntoSession_46
        exact br_t (nI_le (by omega) (by omega)) hp
    have cw : mk < nI t + wd ↔ z < (t : Int) + W := hx_lt hz (hx_a (hI_n t).symm (hx_n hw)) (by omega) (by omega)
    by_cases hzt : (t : Int) + W ≤ z
    · refine Or.inl ⟨rfl, hzt, fun post hp => k74 post ?_⟩
      unfold wX_takeIntoSession_74
      exact br_t rfl (br_f (fun q => by have := cw.mp q; omega) (nm_e hp))
    · have hok2 : s_ok W (A ++ (t, t, 0, v, v, v) :: D) := s_ins (C := []) (q := (0, v, v, v)) hokAD hA hB ht
      have hlen2 := s_ok_l hW1 hok2
      rw [List.length_append, List.length_cons] at hlen2
      refine Or.inr ⟨fun _ => by omega, _, _, _, _, _, _, _, s_insx (K := K) (t := t) (v := v) (N := A.length + D.length) (ai := 32 * K + A.length) (hi := 32 * K + (A.length + D.length)) hK h hl e rfl rfl rfl (by omega), fun post hp => k74 post ?_⟩
      unfold wX_takeIntoSession_74
      refine br_t rfl (br_t (cw.mpr (by omega)) ?_)
      unfold wX_takeIntoSession_105
      exact br_t rfl (x_ins hK (by omega) (by omega) hsK rfl hp)
  · have hlc : (b :: D').length = D'.length + 1 := rfl
    rw [hlc] at scan hsK hlAD
    have hbb := hokK.2 b (hmD b List.mem_cons_self)
    have hb0 : ft (32 * K + A.length) = nI b.1 := congrArg (fun z : C6 => z.1) hxD.1
    have k105 : ∀ post : SX → Prop, wX_takeIntoSession_105 post (nI t) (nI K) v (nI (32 * K + A.length)) (nI (32 * K + (A.length + (D'.length + 1)))) 1 kd wd pn la mk lc nw rc km kl kw kr tc ts tl tm ec et ek ev po gt il pc ps pl pm ss ft lt sc su sl sm re kp kt ki kq ks → wpX_takeIntoSession post (kd, wd, pn, la, mk, lc, nw, rc, km, kl, kw, kr, tc, ts, tl, tm, ec, et, ek, ev, po, gt, il, pc, ps, pl, pm, ss, ft, lt, sc, su, sl, sm, re, kp, kt, ki, kq, ks) (nI t) (nI K) v := by
      intro post hp
      refine scan post ?_
      unfold wX_takeIntoSession_46
      refine br_f (nI_ge (by omega) (by omega)) ⟨vp_in_nI (by omega) (by omega), br_f ?_ ?_⟩
      · rw [nI_clamp (by omega), hb0, hw]
        intro q
        have := (hx_lt (hI_n t).symm (hx_s (hI_n b.1).symm (hI_n W).symm) (by omega) (by omega)).mp q
        omega
      · unfold wX_takeIntoSession_74
        exact br_f (by decide) hp
    have up := s_upx (K := K) (t := t) (v := v) (ai := 32 * K + A.length) hK ht h hl e rfl (by omega) (by omega)
    have up0 := up
    rw [show s_m b (t, t, 0, v, v, v) = s_g [b] (t, t, 0, v, v, v) from s_m_c _ _] at up
    cases D' with
    | nil =>
      refine ⟨A, [b], [], e, hA, (fun _ h => nomatch h), (fun c hc => ?_), Or.inr ⟨(fun q => nomatch q), _, _, _, _, _, _, _, up, fun post hp => k105 post ?_⟩⟩
      · rw [List.mem_singleton.mp hc]; exact ⟨hb1, hb2⟩
      · refine x_tch (c := 0) (N := A.length + 0) hK hw hW ht (by omega) rfl (by omega) hsK (by decide) (fun q => absurd q (by show ¬ 32 * K + A.length + 1 < 32 * K + (A.length + (0 + 1)); omega)) (fun _ => hp) (fun q => absurd q (by show ¬ 32 * K + A.length + 1 < 32 * K + (A.length + (0 + 1)); omega))
    | cons c D'' =>
      have hlc2 : (c :: D'').length = D''.length + 1 := rfl
      rw [hlc2] at k105 hsK hlAD
      have hcc := hokK.2 c (hmD c (List.mem_cons_of_mem _ List.mem_cons_self))
      have hbc := (List.pairwise_cons.mp hpD).1 c List.mem_cons_self
      have hpD2 := (List.pairwise_cons.mp hpD).2
      have hc0 : ft (32 * K + A.length + 1) = nI c.1 := congrArg (fun z : C6 => z.1) hxD.2.1
      by_cases q : t + W < c.1
      · refine ⟨A, [b], c :: D'', e, hA, (fun x hx => ?_), (fun x hx => ?_), Or.inr ⟨(fun q => nomatch q), _, _, _, _, _, _, _, up, fun post hp => k105 post ?_⟩⟩
        · rcases List.mem_cons.mp hx with ex | ex
          · rw [ex]; exact q
          · have := (List.pairwise_cons.mp hpD2).1 x ex; omega
        · rw [List.mem_singleton.mp hx]; exact ⟨hb1, hb2⟩
        · exact x_tch (c := c.1) (N := A.length + (D''.length + 1)) hK hw hW ht (by omega) rfl (by omega) hsK (by decide) (fun _ => ⟨hc0, by omega⟩) (fun _ => hp) (fun _ q2 => absurd q2 (by omega))
      · have hl1 : ∀ k, k < 4 → (s_st L K (A ++ s_m b (t, t, 0, v, v, v) :: c :: D'') k).length ≤ 32 := by
          intro k hk
          by_cases ek : k = K
          · subst ek
            rw [s_st_s, List.length_append, List.length_cons, List.length_cons]; omega
          · rw [s_st_n ek]; exact hl k hk
        have j1 := s_jnx (K := K) (ai := 32 * K + A.length) hK up0 hl1 s_st_s rfl (by show min b.1 t ≤ c.1; omega) (by show max b.2.1 t ≤ c.2.1; omega)
        rw [s_st_2] at j1
        have hl2 : ∀ k, k < 4 → (s_st L K (A ++ s_m (s_m b (t, t, 0, v, v, v)) c :: c :: D'') k).length ≤ 32 := by
          intro k hk
          by_cases ek : k = K
          · subst ek
            rw [s_st_s, List.length_append, List.length_cons, List.length_cons]; omega
          · rw [s_st_n ek]; exact hl k hk
        have e2 : A ++ s_m (s_m b (t, t, 0, v, v, v)) c :: c :: D'' = (A ++ [s_m (s_m b (t, t, 0, v, v, v)) c]) ++ c :: D'' := by
          rw [List.append_assoc]; rfl
        have r1 := s_rmx (K := K) (lo := 32 * K + A.length + 1) (hi := 32 * K + (A.length + 1 + D''.length)) (N := A.length + 1 + D''.length) (A := A ++ [s_m (s_m b (t, t, 0, v, v, v)) c]) (s := c) (B := D'') hK j1 hl2 (by rw [s_st_s]; exact e2) (by rw [List.length_append]; rfl) rfl (by rw [List.length_append]; rfl)
        rw [s_st_2, List.append_assoc, show s_m (s_m b (t, t, 0, v, v, v)) c = s_g [b, c] (t, t, 0, v, v, v) from congrArg (fun z => s_m z c) (s_m_c _ _)] at r1
        refine ⟨A, [b, c], D'', e, hA, (fun x hx => ?_), (fun x hx => ?_), Or.inr ⟨(fun q => nomatch q), _, _, _, _, _, _, _, r1, fun post hp => k105 post ?_⟩⟩
        · have := (List.pairwise_cons.mp hpD2).1 x hx; omega
        · rcases List.mem_cons.mp hx with ex | ex
          · rw [ex]; exact ⟨hb1, hb2⟩
          · rw [List.mem_singleton.mp ex]; exact ⟨by omega, by omega⟩
        · refine x_tch (c := c.1) (N := A.length + (D''.length + 1)) hK hw hW ht (by omega) rfl (by omega) hsK (by decide) (fun _ => ⟨hc0, by omega⟩) (fun q2 => absurd (q2 (by omega)) q) (fun _ _ => ?_)
          exact x_join (N := A.length + 1 + D''.length) hK (by omega) (by rw [hsK]; exact congrArg nI (by omega)) (by omega) hp
end XTAKE2
end
section
/-! E: the reference's row -/
theorem upd_self (f : Nat → Int32) (k : Nat) : upd f k (f k) = f := by
  funext j
  by_cases e : j = k
  · rw [e, pk_us]
  · rw [pk_un e]
def s_y (no : Nat → Int32) (a : Nat) (z : Nat × Ses) : Prop := no a = nI z.1 ∧ no (a + 1) = nI z.2.1 ∧ no (a + 2) = nI z.2.2.1 ∧ q_Y no (a + 3) (some z.2.2.2)
theorem s_y_r {no no' : Nat → Int32} {a a' : Nat} {z : Nat × Ses} (h : ∀ i, i < 7 → no' (a' + i) = no (a + i)) (hs : s_y no a z) : s_y no' a' z :=
  ⟨(h 0 (by omega)).trans hs.1, (h 1 (by omega)).trans hs.2.1, (h 2 (by omega)).trans hs.2.2.1, (h 3 (by omega)).trans hs.2.2.2.1, (h 4 (by omega)).trans hs.2.2.2.2.1, (h 5 (by omega)).trans hs.2.2.2.2.2.1, (h 6 (by omega)).trans hs.2.2.2.2.2.2⟩
def s_ys (no : Nat → Int32) : Nat → List (Nat × Ses) → Prop
  | _, [] => True
  | b, z :: l => s_y no (1104 + 7 * b) z ∧ s_ys no (b + 1) l
theorem s_ys_a {no : Nat → Int32} : ∀ (A B : List (Nat × Ses)) (o : Nat), s_ys no o (A ++ B) ↔ s_ys no o A ∧ s_ys no (o + A.length) B
  | [], B, o => ⟨fun h => ⟨True.intro, h⟩, fun h => h.2⟩
  | s :: A, B, o => by
    have ih := s_ys_a (no := no) A B (o + 1)
    have e : o + (s :: A).length = o + 1 + A.length := by show o + (A.length + 1) = _; omega
    rw [e]
    show (s_y no (1104 + 7 * o) s ∧ s_ys no (o + 1) (A ++ B)) ↔ (s_y no (1104 + 7 * o) s ∧ s_ys no (o + 1) A) ∧ s_ys no (o + 1 + A.length) B
    rw [ih, and_assoc]
theorem s_ys_f {no no' : Nat → Int32} : ∀ (l : List (Nat × Ses)) (o : Nat), (∀ j, 1104 + 7 * o ≤ j → j < 1104 + 7 * (o + l.length) → no' j = no j) → s_ys no o l → s_ys no' o l
  | [], _, _, _ => True.intro
  | s :: l, o, h, hs => by
    have e : (s :: l).length = l.length + 1 := rfl
    rw [e] at h
    exact ⟨s_y_r (fun i hi => h _ (by omega) (by omega)) hs.1, s_ys_f l (o + 1) (fun j h1 h2 => h j (by omega) (by omega)) hs.2⟩
def s_YL (no : Nat → Int32) (M : List (Nat × Ses)) : Prop := no 12 = nI M.length ∧ s_ys no 0 M
/-- a copy of n cells from a to b -/
def c_p (no : Nat → Int32) (a b n : Nat) : Nat → Int32 := fun j => if b ≤ j ∧ j < b + n then no (a + (j - b)) else no j
theorem c_p_0 {no : Nat → Int32} {a b : Nat} : c_p no a b 0 = no := by
  funext j
  exact if_neg (by omega)
theorem c_p_in {no : Nat → Int32} {a b n j : Nat} (h : j < n) : c_p no a b n (b + j) = no (a + j) := by
  refine (if_pos (show b ≤ b + j ∧ b + j < b + n by omega)).trans ?_
  rw [Nat.add_sub_cancel_left]
theorem c_p_out {no : Nat → Int32} {a b n j : Nat} (h : j < b ∨ b + n ≤ j) : c_p no a b n j = no j := if_neg (by omega)
theorem c_p_s {no : Nat → Int32} {a b i : Nat} (h : b ≤ a ∨ a + i < b) : upd (c_p no a b i) (b + i) (c_p no a b i (a + i)) = c_p no a b (i + 1) := by
  funext j
  have e1 : c_p no a b i (a + i) = no (a + i) := c_p_out (by omega)
  by_cases e : j = b + i
  · rw [e, pk_us, e1, c_p_in (by omega)]
  · rw [pk_un e]
    by_cases c : b ≤ j ∧ j < b + i
    · exact (if_pos c).trans (if_pos (show b ≤ j ∧ j < b + (i + 1) by omega)).symm
    · exact (if_neg c).trans (if_neg (show ¬ (b ≤ j ∧ j < b + (i + 1)) by omega)).symm
/-- n cells at a and at b change places -/
def c_w (no : Nat → Int32) (a b n : Nat) : Nat → Int32 := fun j => if a ≤ j ∧ j < a + n then no (b + (j - a)) else if b ≤ j ∧ j < b + n then no (a + (j - b)) else no j
theorem c_w_0 {no : Nat → Int32} {a b : Nat} : c_w no a b 0 = no := by
  funext j
  exact (if_neg (by omega)).trans (if_neg (by omega))
theorem c_w_a {no : Nat → Int32} {a b n j : Nat} (h : j < n) : c_w no a b n (a + j) = no (b + j) := by
  refine (if_pos (show a ≤ a + j ∧ a + j < a + n by omega)).trans ?_
  rw [Nat.add_sub_cancel_left]
theorem c_w_b {no : Nat → Int32} {a b n j : Nat} (h : j < n) (hd : a + n ≤ b ∨ a = b) : c_w no a b n (b + j) = no (a + j) := by
  rcases hd with hd | hd
  · refine (if_neg (show ¬ (a ≤ b + j ∧ b + j < a + n) by omega)).trans ((if_pos (show b ≤ b + j ∧ b + j < b + n by omega)).trans ?_)
    rw [Nat.add_sub_cancel_left]
  · subst hd
    exact c_w_a h
theorem c_w_o {no : Nat → Int32} {a b n j : Nat} (h : j < a ∨ a + n ≤ j) (h' : j < b ∨ b + n ≤ j) : c_w no a b n j = no j := (if_neg (by omega)).trans (if_neg (by omega))
theorem c_w_s {no : Nat → Int32} {a b i n : Nat} (hi : i < n) (hd : a + n ≤ b ∨ a = b) : upd (upd (c_w no a b i) (a + i) (c_w no a b i (b + i))) (b + i) (c_w no a b i (a + i)) = c_w no a b (i + 1) := by
  have e1 : c_w no a b i (a + i) = no (a + i) := c_w_o (by omega) (by omega)
  have e2 : c_w no a b i (b + i) = no (b + i) := c_w_o (by omega) (by omega)
  funext j
  by_cases e : j = b + i
  · rw [e, pk_us, e1, c_w_b (by omega) (by omega)]
  · rw [pk_un e]
    by_cases f : j = a + i
    · rw [f, pk_us, e2, c_w_a (by omega)]
    · rw [pk_un f]
      by_cases c : a ≤ j ∧ j < a + i
      · exact (if_pos c).trans (if_pos (show a ≤ j ∧ j < a + (i + 1) by omega)).symm
      · refine (if_neg c).trans (Eq.trans ?_ (if_neg (show ¬ (a ≤ j ∧ j < a + (i + 1)) by omega)).symm)
        by_cases d : b ≤ j ∧ j < b + i
        · exact (if_pos d).trans (if_pos (show b ≤ j ∧ j < b + (i + 1) by omega)).symm
        · exact (if_neg d).trans (if_neg (show ¬ (b ≤ j ∧ j < b + (i + 1)) by omega)).symm
section YSES
variable {kd wd pn la mk lc nw rc km kl kw kr tc ts tl tm : Int32} {ec et ek ev po gt il pc ps pl pm ss ft lt sc su sl sm re kp kt ki kq ks : Nat → Int32}
variable {yk yt yp yl : Int32} {sz cd vl no cp : Nat → Int32}
theorem y_drop {post : SY → Prop} {a n l : Nat} (hn : no 12 = nI (n + 1)) (hl : l = 1104 + 7 * n) (ha : a ≤ l) (hl2 : l + 7 ≤ 3316) (h : post (yk, yt, yp, yl, sz, cd, vl, c_p (upd no 12 (nI n)) l a 7, cp)) : wpY_dropSession post (yk, yt, yp, yl, sz, cd, vl, no, cp) (nI a) := by
  have lp : ∀ d i, i + d = 7 → wY_dropSession_28 post (nI a) (nI l) yk yt yp yl (d + 1) (nI i) sz cd vl (c_p (upd no 12 (nI n)) l a i) cp := by
    intro d
    induction d with
    | zero =>
      intro i hi
      have : i = 7 := by omega
      subst this
      rw [wY_dropSession_28]
      exact br_t (Int32.le_refl _) h
    | succ d ih =>
      intro i hi
      rw [wY_dropSession_28]
      refine br_f (nI_ge (b := 7) (by omega) (by omega)) ⟨?_, ?_, nm_r (e' := c_p (upd no 12 (nI n)) l a (i + 1)) ?_ (nm_r (nI_1 i) (ih (i + 1) (by omega)))⟩
      · rw [nI_add]; exact vp_in_nI (by omega) (by omega)
      · rw [nI_add]; exact vp_in_nI (by omega) (by omega)
      · rw [nI_add, nI_add, nI_clamp (by omega), nI_clamp (by omega), c_p_s (by omega)]
  have L := lp 7 0 (by omega)
  rw [c_p_0, nI_0] at L
  unfold wpY_dropSession
  refine nm_r (e' := upd no 12 (nI n)) (by rw [hn, nI_pred]) (nm_r (e' := nI l) ?_ ⟨8, L⟩)
  rw [pk_us, hl]
  exact (congrArg (1104 + ·) (pk_mul 7 n)).trans (nI_add 1104 _)
theorem y_swap {post : SY → Prop} {a n l : Nat} (hn : no 12 = nI (n + 1)) (hl : l = 1104 + 7 * n) (ha : a + 7 ≤ l ∨ a = l) (hl2 : l + 7 ≤ 3316) (h : post (yk, yt, yp, yl, sz, cd, vl, c_w no a l 7, cp)) : wpY_swapWithLast post (yk, yt, yp, yl, sz, cd, vl, no, cp) (nI a) := by
  have lp : ∀ d i, i + d = 7 → wY_swapWithLast_20 post (nI a) (nI l) yk yt yp yl (d + 1) (nI i) sz cd vl (c_w no a l i) cp := by
    intro d
    induction d with
    | zero =>
      intro i hi
      have : i = 7 := by omega
      subst this
      rw [wY_swapWithLast_20]
      exact br_t (Int32.le_refl _) h
    | succ d ih =>
      intro i hi
      have ia : vp_in (nI a + nI i) 3316 := by rw [nI_add]; exact vp_in_nI (by omega) (by omega)
      have il : vp_in (nI l + nI i) 3316 := by rw [nI_add]; exact vp_in_nI (by omega) (by omega)
      have ca : (nI a + nI i).toNatClampNeg = a + i := by rw [nI_add]; exact nI_clamp (by omega)
      have cl : (nI l + nI i).toNatClampNeg = l + i := by rw [nI_add]; exact nI_clamp (by omega)
      rw [wY_swapWithLast_20]
      refine br_f (nI_ge (b := 7) (by omega) (by omega)) ⟨ia, nm_r (e' := c_w no a l i (a + i)) (by rw [ca]) ⟨il, ia, nm_r (e' := upd (c_w no a l i) (a + i) (c_w no a l i (l + i))) (by rw [ca, cl]) ⟨il, nm_r (e' := c_w no a l (i + 1)) ?_ (nm_r (nI_1 i) (ih (i + 1) (by omega)))⟩⟩⟩
      rw [cl, c_w_s (n := 7) (by omega) ha]
  have L := lp 7 0 (by omega)
  rw [c_w_0, nI_0] at L
  unfold wpY_swapWithLast
  refine nm_r (e' := nI l) ?_ ⟨8, L⟩
  rw [hn, hl]
  have e1 : 1104 + 7 * nI (n + 1) = nI (1104 + 7 * (n + 1)) := (congrArg (1104 + ·) (pk_mul 7 (n + 1))).trans (nI_add 1104 _)
  rw [e1]
  exact (pk_sub (a := 1104 + 7 * (n + 1)) (b := 7) (by omega)).trans (congrArg nI (by omega))
theorem y_count {a : Nat} {q : Option Qv} {x : Qv} (ha : a + 4 ≤ 3316) (hq : q_Y no a q) (hb : q_n q + x.1 + 1 < 2 ^ 31) : ∃ no' : Nat → Int32, q_Y no' a (q_m q (some x)) ∧ (∀ j, j < a ∨ a + 4 ≤ j → no' j = no j) ∧ ∀ (post : SY → Prop) (p0 p1 : Int32), p0 = nI a → p1 = nI (x.1 + 1) → post (yk, yt, yp, yl, sz, cd, vl, no', cp) → wpY_count post (yk, yt, yp, yl, sz, cd, vl, no, cp) p0 p1 x.2.1 x.2.2.1 x.2.2.2 := by
  have ca : (nI a).toNatClampNeg = a := nI_clamp (by omega)
  have c1 : (nI a + 1).toNatClampNeg = a + 1 := by rw [nI_1]; exact nI_clamp (by omega)
  have e2 : nI a + 2 = nI (a + 2) := nI_add a 2
  have e3 : nI a + 3 = nI (a + 3) := nI_add a 3
  have c2 : (nI a + 2).toNatClampNeg = a + 2 := by rw [e2]; exact nI_clamp (by omega)
  have c3 : (nI a + 3).toNatClampNeg = a + 3 := by rw [e3]; exact nI_clamp (by omega)
  have ia : vp_in (nI a) 3316 := vp_in_nI (by omega) (by omega)
  have i1 : vp_in (nI a + 1) 3316 := by rw [nI_1]; exact vp_in_nI (by omega) (by omega)
  have i2 : vp_in (nI a + 2) 3316 := by rw [e2]; exact vp_in_nI (by omega) (by omega)
  have i3 : vp_in (nI a + 3) 3316 := by rw [e3]; exact vp_in_nI (by omega) (by omega)
  have k98 : ∀ (post : SY → Prop) (f : Nat → Int32) (w w' : Int32), w' = f a + nI (x.1 + 1) → post (yk, yt, yp, yl, sz, cd, vl, upd (upd f (a + 1) w) a w', cp) → wY_count_98 post (nI a) (nI (x.1 + 1)) w (nI a + 1) yk yt yp yl sz cd vl f cp := by
    intro post f w w' hw hp
    unfold wY_count_98
    refine ⟨i1, nm_r (e' := upd f (a + 1) w) (by rw [c1]) ⟨ia, ia, nm_r (e' := upd (upd f (a + 1) w) a w') ?_ hp⟩⟩
    rw [ca, pk_un (by omega), hw]
  cases q with
  | none =>
    have h0 : no a = 0 := hq
    refine ⟨upd (upd (upd (upd no (a + 2) x.2.2.1) (a + 3) x.2.2.2) (a + 1) x.2.1) a (nI (x.1 + 1)), ?_, ?_, ?_⟩
    · refine ⟨pk_us, ?_, ?_, ?_⟩
      · rw [pk_un (by omega), pk_us]
      · rw [pk_un (by omega), pk_un (by omega), pk_un (by omega), pk_us]
      · rw [pk_un (by omega), pk_un (by omega), pk_us]
    · intro j hj
      rw [pk_un (by omega), pk_un (by omega), pk_un (by omega), pk_un (by omega)]
    · intro post p0 p1 hp0 hp1 hp
      subst hp0 hp1
      unfold wpY_count
      refine ⟨ia, br_t (by rw [ca]; exact h0) ?_⟩
      unfold wY_count_14
      refine br_f (by decide) ?_
      unfold wY_count_34
      refine ⟨i2, nm_r (e' := upd no (a + 2) x.2.2.1) (by rw [c2]) ?_⟩
      unfold wY_count_44
      refine br_f (by decide) ?_
      unfold wY_count_62
      refine ⟨i3, nm_r (e' := upd (upd no (a + 2) x.2.2.1) (a + 3) x.2.2.2) (by rw [c3]) ?_⟩
      unfold wY_count_72
      refine br_f (by decide) ?_
      refine k98 post _ _ (nI (x.1 + 1)) ?_ hp
      rw [pk_un (by omega), pk_un (by omega), h0, Int32.zero_add]
  | some y =>
    obtain ⟨h0, h1, h2, h3⟩ := hq
    have hb' : y.1 + 1 + x.1 + 1 < 2 ^ 31 := hb
    refine ⟨upd (upd (upd (upd no (a + 2) (q_mn y.2.2.1 x.2.2.1)) (a + 3) (q_mx y.2.2.2 x.2.2.2)) (a + 1) (y.2.1 + x.2.1)) a (nI (y.1 + x.1 + 1 + 1)), ?_, ?_, ?_⟩
    · refine ⟨pk_us, ?_, ?_, ?_⟩
      · rw [pk_un (by omega), pk_us]; rfl
      · rw [pk_un (by omega), pk_un (by omega), pk_un (by omega), pk_us]; rfl
      · rw [pk_un (by omega), pk_un (by omega), pk_us]; rfl
    · intro j hj
      rw [pk_un (by omega), pk_un (by omega), pk_un (by omega), pk_un (by omega)]
    · intro post p0 p1 hp0 hp1 hp
      subst hp0 hp1
      have k72 : ∀ f g : Nat → Int32, f = upd no (a + 2) (q_mn y.2.2.1 x.2.2.1) → g = upd f (a + 3) (q_mx y.2.2.2 x.2.2.2) → wY_count_72 post (nI a) (nI (x.1 + 1)) x.2.1 0 yk yt yp yl sz cd vl g cp := by
        intro f g ef eg
        subst ef eg
        unfold wY_count_72
        refine br_t rfl ⟨i1, ?_⟩
        rw [c1, pk_un (by omega), pk_un (by omega), h1]
        refine k98 post _ _ (nI (y.1 + x.1 + 1 + 1)) ?_ hp
        rw [pk_un (by omega), pk_un (by omega), h0, nI_add]
        exact congrArg nI (by omega)
      have k44 : ∀ f : Nat → Int32, f = upd no (a + 2) (q_mn y.2.2.1 x.2.2.1) → wY_count_44 post (nI a) (nI (x.1 + 1)) x.2.1 x.2.2.2 0 yk yt yp yl sz cd vl f cp := by
        intro f ef
        have f3 : f (a + 3) = y.2.2.2 := by rw [ef, pk_un (by omega)]; exact h3
        unfold wY_count_44
        refine br_t rfl ⟨i3, br_c (fun c => ?_) (fun c => ?_)⟩
        · rw [c3, f3] at c
          refine k72 f f ef ?_
          rw [show q_mx y.2.2.2 x.2.2.2 = f (a + 3) by rw [f3]; exact if_pos c, upd_self]
        · rw [c3, f3] at c
          unfold wY_count_62
          refine ⟨i3, nm_r (e' := upd f (a + 3) (q_mx y.2.2.2 x.2.2.2)) ?_ (k72 f _ ef rfl)⟩
          rw [c3, show q_mx y.2.2.2 x.2.2.2 = x.2.2.2 from if_neg c]
      unfold wpY_count
      refine ⟨ia, br_f ?_ ?_⟩
      · rw [ca, h0]; exact nI_ne0 (by omega) (by omega)
      · unfold wY_count_14
        refine br_t rfl ⟨i2, br_c (fun c => ?_) (fun c => ?_)⟩
        · rw [c2] at c
          refine k44 no ?_
          rw [show q_mn y.2.2.1 x.2.2.1 = no (a + 2) by rw [h2]; exact if_pos (by rw [← h2]; exact c), upd_self]
        · rw [c2] at c
          unfold wY_count_34
          refine ⟨i2, nm_r (e' := upd no (a + 2) (q_mn y.2.2.1 x.2.2.1)) ?_ (k44 _ rfl)⟩
          rw [c2, show q_mn y.2.2.1 x.2.2.1 = x.2.2.1 from if_neg (by rw [← h2]; exact c)]
def s_tch (W t k : Nat) (z : Nat × Ses) : Bool := decide (z.1 = k ∧ z.2.1 ≤ t + W ∧ t ≤ z.2.2.1 + W)
def b_i (b : Bool) : Int32 := if b = true then 1 else 0
def s_v (z : Nat × Ses) : Prop := z.1 < 4 ∧ z.2.1 ≤ z.2.2.1 ∧ z.2.2.1 < 64
theorem y_tch {post : Int32 → Prop} {W t k a : Nat} {z : Nat × Ses} (hw : yt = nI W) (hW : W ≤ 8) (ht : t < 64) (hk : k < 4) (ha : a + 7 ≤ 3316) (hv : s_v z) (hs : s_y no a z) (h : post (b_i (s_tch W t k z))) : wpY_touches post (yk, yt, yp, yl, sz, cd, vl, no, cp) (nI a) (nI t) (nI k) := by
  obtain ⟨h0, h1, h2, -⟩ := hs
  obtain ⟨v1, v2, v3⟩ := hv
  have ca : (nI a).toNatClampNeg = a := nI_clamp (by omega)
  have c1 : (nI a + 1).toNatClampNeg = a + 1 := by rw [nI_1]; exact nI_clamp (by omega)
  have e2 : nI a + 2 = nI (a + 2) := nI_add a 2
  have c2 : (nI a + 2).toNatClampNeg = a + 2 := by rw [e2]; exact nI_clamp (by omega)
  have ia : vp_in (nI a) 3316 := vp_in_nI (by omega) (by omega)
  have i1 : vp_in (nI a + 1) 3316 := by rw [nI_1]; exact vp_in_nI (by omega) (by omega)
  have i2 : vp_in (nI a + 2) 3316 := by rw [e2]; exact vp_in_nI (by omega) (by omega)
  have q1 : (nI t < no (nI a + 1).toNatClampNeg - yt) ↔ (t : Int) < (z.2.1 : Int) - W := by
    rw [c1, h1, hw]
    exact hx_lt (hI_n t).symm (hx_s (hI_n _).symm (hI_n _).symm) (by omega) (by omega)
  have q2 : (no (nI a + 2).toNatClampNeg + yt < nI t) ↔ z.2.2.1 + W < t := by
    rw [c2, h2, hw, nI_add, nI_ltI (by omega) (by omega)]
  have q0 : no (nI a).toNatClampNeg = nI k ↔ z.1 = k := by
    rw [ca, h0, nI_eq (by omega) (by omega)]
  unfold wpY_touches
  refine ⟨ia, ?_⟩
  by_cases p0 : z.1 = k
  · refine br_t (q0.mpr p0) ⟨i1, ?_⟩
    by_cases p1 : t + W < z.2.1
    · have e : s_tch W t k z = false := decide_eq_false (by omega)
      rw [e] at h
      exact br_t (q1.mpr (by omega)) h
    · refine br_f (fun q => p1 (by have := q1.mp q; omega)) ⟨i2, ?_⟩
      by_cases p2 : z.2.2.1 + W < t
      · have e : s_tch W t k z = false := decide_eq_false (by omega)
        rw [e] at h
        exact br_t (q2.mpr p2) h
      · have e : s_tch W t k z = true := decide_eq_true ⟨p0, by omega, by omega⟩
        rw [e] at h
        exact br_f (fun q => p2 (q2.mp q)) h
  · have e : s_tch W t k z = false := decide_eq_false (fun q => p0 q.1)
    rw [e] at h
    exact br_f (fun q => p0 (q0.mp q)) h
end YSES
end
section
section YJOIN
variable {kd wd pn la mk lc nw rc km kl kw kr tc ts tl tm : Int32} {ec et ek ev po gt il pc ps pl pm ss ft lt sc su sl sm re kp kt ki kq ks : Nat → Int32}
variable {yk yt yp yl : Int32} {sz cd vl no cp : Nat → Int32}
/-- one session is put into the last one, which then goes back to the end -/
theorem y_jstep {A B : List (Nat × Ses)} {x : Nat × Ses} {k t : Nat} {s : Ses} (hL : s_YL no (A ++ (x :: (B ++ [(k, s)])))) (hlen : A.length + B.length + 2 ≤ 60) (hx : s_v x) (hs1 : s.1 < 64) (hs2 : s.2.1 < 64) (hb : s.2.2.1 + x.2.2.2.1 + 2 < 2 ^ 31) :
    ∃ (no' : Nat → Int32) (B2 : List (Nat × Ses)), B2.Perm B ∧ s_YL no' (A ++ (B2 ++ [(k, s_m s x.2)])) ∧ (∀ j, j ≠ 12 → (j < 1104 ∨ 1524 ≤ j) → no' j = no j) ∧
      ∀ (post : SY → Prop) (J : Int32 → Int32 → Int32 → Int32 → Int32 → (Nat → Int32) → (Nat → Int32) → (Nat → Int32) → (Nat → Int32) → (Nat → Int32) → Prop) (x1 x2 : Int32) (w : Int32), w = nI (min s.1 x.2.1) → J (nI A.length + (-1)) yk yt yp yl sz cd vl no' cp → wY_join_104 post J x1 x2 (nI A.length) (nI (1104 + 7 * A.length)) (nI (1104 + 7 * (A.length + B.length + 1))) w (nI (1104 + 7 * (A.length + B.length + 1)) + 1) yk yt yp yl sz cd vl no cp := by
  obtain ⟨hn, hys⟩ := hL
  rw [s_ys_a] at hys
  obtain ⟨yA, yx, yB⟩ := hys
  rw [s_ys_a] at yB
  obtain ⟨yB, yz, -⟩ := yB
  rw [Nat.zero_add] at yx yB yz
  have hn' : no 12 = nI (A.length + B.length + 1 + 1) := by
    rw [hn, List.length_append, List.length_cons, List.length_append]
    exact congrArg nI (by show A.length + (B.length + 1 + 1) = A.length + B.length + 1 + 1; omega)
  clear hn
  obtain ⟨v1, v2, v3⟩ := hx
  -- names
  obtain ⟨a, ea⟩ : ∃ a, a = 1104 + 7 * A.length := ⟨_, rfl⟩
  obtain ⟨l, el⟩ : ∃ l, l = 1104 + 7 * (A.length + B.length + 1) := ⟨_, rfl⟩
  rw [show A.length + 1 + B.length = A.length + B.length + 1 by omega, ← el] at yz
  rw [← ea] at yx
  rw [← el, ← ea]
  obtain ⟨x0, x1', x2', x3'⟩ := yx
  obtain ⟨z0, z1', z2', z3'⟩ := yz
  have z0 : no l = nI k := z0
  have z1' : no (l + 1) = nI s.1 := z1'
  have z2' : no (l + 2) = nI s.2.1 := z2'
  obtain ⟨no2, e2⟩ : ∃ f, f = upd (upd no (l + 1) (nI (min s.1 x.2.1))) (l + 2) (nI (max s.2.1 x.2.2.1)) := ⟨_, rfl⟩
  have n2o : ∀ j, j ≠ l + 1 → j ≠ l + 2 → no2 j = no j := by
    intro j h1 h2
    rw [e2, pk_un h2, pk_un h1]
  have q2 : q_Y no2 (l + 3) (some s.2.2) := q_Yf (fun j h1 h2 => n2o j (by omega) (by omega)) z3'
  obtain ⟨no3, q3, n3o, w3⟩ := y_count (yk := yk) (yt := yt) (yp := yp) (yl := yl) (sz := sz) (cd := cd) (vl := vl) (cp := cp) (x := x.2.2.2) (by omega) q2 (by show s.2.2.1 + 1 + x.2.2.2.1 + 1 < 2 ^ 31; omega)
  have n3' : ∀ j, j < l + 1 ∨ l + 7 ≤ j → no3 j = no j := by
    intro j hj
    rw [n3o j (by omega), n2o j (by omega) (by omega)]
  have n31 : no3 (l + 1) = nI (min s.1 x.2.1) := by
    rw [n3o _ (by omega), e2, pk_un (by omega), pk_us]
  have n32 : no3 (l + 2) = nI (max s.2.1 x.2.2.1) := by
    rw [n3o _ (by omega), e2, pk_us]
  have y3 : s_y no3 l (k, s_m s x.2) := ⟨(n3' l (by omega)).trans z0, n31, n32, q3⟩
  obtain ⟨no4, e4⟩ : ∃ f, f = c_p (upd no3 12 (nI (A.length + B.length + 1))) l a 7 := ⟨_, rfl⟩
  have n4o : ∀ j, j ≠ 12 → j < a ∨ a + 7 ≤ j → no4 j = no3 j := by
    intro j h1 h2
    rw [e4, c_p_out h2, pk_un h1]
  have n412 : no4 12 = nI (A.length + B.length + 1) := by
    rw [e4, c_p_out (by omega), pk_us]
  have y4 : s_y no4 a (k, s_m s x.2) := by
    refine s_y_r (fun i hi => ?_) y3
    rw [e4, c_p_in hi, pk_un (by omega)]
  obtain ⟨l', el'⟩ : ∃ l', l' = 1104 + 7 * (A.length + B.length) := ⟨_, rfl⟩
  have had : a + 7 ≤ l' ∨ a = l' := by omega
  obtain ⟨no5, e5⟩ : ∃ f, f = c_w no4 a l' 7 := ⟨_, rfl⟩
  have n5o : ∀ j, j < a ∨ a + 7 ≤ j → j < l' ∨ l' + 7 ≤ j → no5 j = no4 j := by
    intro j h1 h2
    rw [e5, c_w_o h1 h2]
  have n512 : no5 12 = nI (A.length + B.length + 1) := by
    rw [n5o 12 (by omega) (by omega), n412]
  have y5 : s_y no5 l' (k, s_m s x.2) := by
    refine s_y_r (fun i hi => ?_) y4
    rw [e5, c_w_b hi had]
  have yA5 : s_ys no5 0 A := s_ys_f A 0 (fun j h1 h2 => by
    rw [n5o j (by omega) (by omega), n4o j (by omega) (by omega), n3' j (by omega)]) yA
  have fr : ∀ j, j ≠ 12 → (j < 1104 ∨ 1524 ≤ j) → no5 j = no j := by
    intro j h1 h2
    rw [n5o j (by omega) (by omega), n4o j h1 (by omega), n3' j (by omega)]
  have wk : ∀ (post : SY → Prop) (J : Int32 → Int32 → Int32 → Int32 → Int32 → (Nat → Int32) → (Nat → Int32) → (Nat → Int32) → (Nat → Int32) → (Nat → Int32) → Prop) (x1 x2 : Int32) (w : Int32), w = nI (min s.1 x.2.1) → J (nI A.length + (-1)) yk yt yp yl sz cd vl no5 cp → wY_join_104 post J x1 x2 (nI A.length) (nI a) (nI l) w (nI l + 1) yk yt yp yl sz cd vl no cp := by
    intro post J x1 x2 w hw hJ
    have c1 : (nI l + 1).toNatClampNeg = l + 1 := by rw [nI_1]; exact nI_clamp (by omega)
    have i1 : vp_in (nI l + 1) 3316 := by rw [nI_1]; exact vp_in_nI (by omega) (by omega)
    have el2 : nI l + 2 = nI (l + 2) := nI_add l 2
    have el3 : nI l + 3 = nI (l + 3) := nI_add l 3
    have ea2 : nI a + 2 = nI (a + 2) := nI_add a 2
    have ea3 : nI a + 3 = nI (a + 3) := nI_add a 3
    have ea4 : nI a + 4 = nI (a + 4) := nI_add a 4
    have ea5 : nI a + 5 = nI (a + 5) := nI_add a 5
    have ea6 : nI a + 6 = nI (a + 6) := nI_add a 6
    have k155 : ∀ w2 : Int32, w2 = nI (max s.2.1 x.2.2.1) → wY_join_155 post J x1 x2 (nI A.length) (nI a) (nI l) w2 (nI l + 2) yk yt yp yl sz cd vl (upd no (l + 1) (nI (min s.1 x.2.1))) cp := by
      intro w2 hw2
      unfold wY_join_155
      rw [el2, el3, ea3, ea4, ea5, ea6]
      refine ⟨vp_in_nI (by omega) (by omega), nm_r (e' := no2) (by rw [nI_clamp (by omega), hw2, e2]) ⟨vp_in_nI (by omega) (by omega), vp_in_nI (by omega) (by omega), vp_in_nI (by omega) (by omega), vp_in_nI (by omega) (by omega), ?_⟩⟩
      rw [nI_clamp (by omega), nI_clamp (by omega), nI_clamp (by omega), nI_clamp (by omega), n2o (a + 3) (by omega) (by omega), n2o (a + 4) (by omega) (by omega), n2o (a + 5) (by omega) (by omega), n2o (a + 6) (by omega) (by omega), show no (a + 4) = x.2.2.2.2.1 from x3'.2.1, show no (a + 5) = x.2.2.2.2.2.1 from x3'.2.2.1, show no (a + 6) = x.2.2.2.2.2.2 from x3'.2.2.2]
      refine w3 _ _ _ rfl x3'.1 ?_
      refine y_drop (n := A.length + B.length + 1) (l := l) ((n3' 12 (by omega)).trans hn') el (by omega) (by omega) ?_
      rw [← e4]
      refine y_swap (n := A.length + B.length) (l := l') n412 el' had (by omega) ?_
      rw [← e5]
      exact nm_e hJ
    unfold wY_join_104
    have c2l : (nI l + 2).toNatClampNeg = l + 2 := by rw [el2]; exact nI_clamp (by omega)
    have c2a : (nI a + 2).toNatClampNeg = a + 2 := by rw [ea2]; exact nI_clamp (by omega)
    have i2l : vp_in (nI l + 2) 3316 := by rw [el2]; exact vp_in_nI (by omega) (by omega)
    have i2a : vp_in (nI a + 2) 3316 := by rw [ea2]; exact vp_in_nI (by omega) (by omega)
    have f1 : upd no (l + 1) (nI (min s.1 x.2.1)) (nI a + 2).toNatClampNeg = nI x.2.2.1 := by rw [c2a, pk_un (by omega)]; exact x2'
    have f2 : upd no (l + 1) (nI (min s.1 x.2.1)) (nI l + 2).toNatClampNeg = nI s.2.1 := by rw [c2l, pk_un (by omega)]; exact z2'
    refine ⟨i1, nm_r (e' := upd no (l + 1) (nI (min s.1 x.2.1))) (by rw [c1, hw]) ⟨i2a, i2l, br_c (fun c => ⟨i2l, k155 _ ?_⟩) (fun c => ⟨i2a, k155 _ ?_⟩)⟩⟩
    · rw [f1, f2, nI_leI (by omega) (by omega)] at c
      rw [f2, Nat.max_eq_left c]
    · rw [f1, f2, nI_leI (by omega) (by omega)] at c
      rw [f1, Nat.max_eq_right (by omega)]
  -- the two cases of the exchange
  rcases List.eq_nil_or_concat B with eB | ⟨B1, b, eB⟩
  · subst eB
    refine ⟨no5, [], List.Perm.refl _, ⟨?_, ?_⟩, fr, wk⟩
    · rw [n512, List.length_append]; rfl
    · show s_ys no5 0 (A ++ [(k, s_m s x.2)])
      rw [s_ys_a]
      refine ⟨yA5, ?_, True.intro⟩
      have e : 1104 + 7 * (0 + A.length) = l' := by rw [el']; show _ = 1104 + 7 * (A.length + 0); omega
      rw [e]
      exact y5
  · rw [List.concat_eq_append] at eB
    subst eB
    rw [s_ys_a] at yB
    obtain ⟨yB1, yb, -⟩ := yB
    have hl1 : (B1 ++ [b]).length = B1.length + 1 := by rw [List.length_append]; rfl
    refine ⟨no5, b :: B1, (List.perm_append_singleton b B1).symm, ⟨?_, ?_⟩, fr, wk⟩
    · rw [n512]
      exact congrArg nI (by simp only [List.length_append, List.length_cons, List.length_nil]; omega)
    · rw [s_ys_a]
      refine ⟨yA5, ?_, ?_⟩
      · rw [Nat.zero_add, ← ea]
        refine s_y_r (fun i hi => ?_) yb
        rw [e5, c_w_a hi, n4o _ (by omega) (by omega), n3' _ (by omega), show 1104 + 7 * (A.length + 1 + B1.length) = l' by omega]
      · show s_ys no5 (0 + A.length + 1) (B1 ++ [(k, s_m s x.2)])
        rw [s_ys_a, Nat.zero_add]
        refine ⟨s_ys_f B1 _ (fun j h1 h2 => ?_) yB1, ?_, True.intro⟩
        · rw [n5o j (by omega) (by omega), n4o j (by omega) (by omega), n3' j (by omega)]
        · rw [show 1104 + 7 * (A.length + 1 + B1.length) = l' by omega]
          exact y5
theorem s_v_m {W t k : Nat} {l : List (Nat × Ses)} (x : Nat × Ses) (h : s_tch W t k x = true) : (x :: l).filter (s_tch W t k) = x :: l.filter (s_tch W t k) := List.filter_cons_of_pos h
theorem y_join_l {W t k : Nat} (hw : yt = nI W) (hW : W ≤ 8) (ht : t < 64) (hk : k < 4) : ∀ (Ar B : List (Nat × Ses)) (s : Ses) (no : Nat → Int32), s_YL no (Ar.reverse ++ (B ++ [(k, s)])) → Ar.length + B.length + 1 ≤ 60 → (∀ x ∈ Ar, s_v x) → s.1 < 64 → s.2.1 < 64 → s.2.2.1 + 1 + s_n Ar < 2 ^ 31 →
    ∃ (no' : Nat → Int32) (B' : List (Nat × Ses)), s_YL no' (B' ++ [(k, s_f (Ar.filter (s_tch W t k)) s)]) ∧ B'.Perm (Ar.filter (fun x => !s_tch W t k x) ++ B) ∧ (∀ j, j ≠ 12 → (j < 1104 ∨ 1524 ≤ j) → no' j = no j) ∧ ∀ post : SY → Prop, post (yk, yt, yp, yl, sz, cd, vl, no', cp) → wY_join_10 post (nI t) (nI k) (Ar.length + 1) (hI ((Ar.length : Int) - 1)) yk yt yp yl sz cd vl no cp
  | [], B, s, no, hL, hlen, hv, hs1, hs2, hb => by
    refine ⟨no, B, hL, List.Perm.refl _, fun _ _ _ => rfl, fun post hp => ?_⟩
    rw [wY_join_10]
    exact br_t (show hI (-1) < 0 by decide) hp
  | x :: Ar, B, s, no, hL, hlen, hv, hs1, hs2, hb => by
    have hlen' : Ar.length + 1 + B.length + 1 ≤ 60 := hlen
    have hb' : s.2.2.1 + 1 + (x.2.2.2.1 + 1 + s_n Ar) < 2 ^ 31 := hb
    have hvx := hv x List.mem_cons_self
    have hvA : ∀ y ∈ Ar, s_v y := fun y hy => hv y (List.mem_cons_of_mem _ hy)
    rw [List.reverse_cons, List.append_assoc] at hL
    have hL' : s_YL no (Ar.reverse ++ (x :: (B ++ [(k, s)]))) := hL
    have hys := hL'.2
    rw [s_ys_a] at hys
    have yx := hys.2.1
    have hn : no 12 = nI (Ar.length + B.length + 2) := by
      rw [hL'.1, List.length_append, List.length_reverse, List.length_cons, List.length_append]
      exact congrArg nI (by show Ar.length + (B.length + 1 + 1) = _; omega)
    have yz := ((s_ys_a _ _ _).mp hys.2.2).2.1
    rw [Nat.zero_add, List.length_reverse] at yx yz
    have ex3 : hI (((x :: Ar).length : Int) - 1) = nI Ar.length := hI_c (by rw [List.length_cons]; omega)
    have ex4 : (1104 : Int32) + 7 * nI Ar.length = nI (1104 + 7 * Ar.length) := (congrArg (1104 + ·) (pk_mul 7 _)).trans (nI_add 1104 _)
    have ex5 : (1104 : Int32) + 7 * no 12 - 7 = nI (1104 + 7 * (Ar.length + B.length + 1)) := by
      have e1 : (1104 : Int32) + 7 * no 12 = nI (1104 + 7 * (Ar.length + B.length + 2)) := by rw [hn]; exact (congrArg (1104 + ·) (pk_mul 7 _)).trans (nI_add 1104 _)
      rw [e1]
      exact (pk_sub (a := 1104 + 7 * (Ar.length + B.length + 2)) (b := 7) (by omega)).trans (congrArg nI (by omega))
    cases ct : s_tch W t k x with
    | false =>
      obtain ⟨no', B', r1, r2, r3, r4⟩ := y_join_l hw hW ht hk Ar (x :: B) s no hL' (by rw [List.length_cons]; omega) hvA hs1 hs2 (by omega)
      refine ⟨no', B', ?_, ?_, r3, fun post hp => ?_⟩
      · rw [List.filter_cons_of_neg (by rw [ct]; decide)]
        exact r1
      · rw [List.filter_cons_of_pos (by rw [ct]; decide)]
        exact r2.trans List.perm_middle
      · rw [ex3, List.length_cons, wY_join_10]
        refine br_f (nI_pos (by omega)) (nm_r ex4 (nm_r ex5 ?_))
        refine y_tch hw hW ht hk (by omega) hvx yx ?_
        rw [ct]
        refine br_t rfl (nm_r (e' := hI ((Ar.length : Int) - 1)) ?_ (r4 post hp))
        rw [← hI_n, hI_m1]
    | true =>
      have hlr : Ar.reverse.length = Ar.length := List.length_reverse
      obtain ⟨no1, B2, p1, p2, p3, p4⟩ := y_jstep (yk := yk) (yt := yt) (yp := yp) (yl := yl) (sz := sz) (cd := cd) (vl := vl) (cp := cp) (t := t) hL' (by omega) hvx hs1 hs2 (by omega)
      obtain ⟨v1, v2, v3⟩ := hvx
      have hlB := p1.length_eq
      obtain ⟨no', B', r1, r2, r3, r4⟩ := y_join_l hw hW ht hk Ar B2 (s_m s x.2) no1 p2 (by omega) hvA (by show min s.1 x.2.1 < 64; omega) (by show max s.2.1 x.2.2.1 < 64; omega) (by show s.2.2.1 + x.2.2.2.1 + 1 + 1 + s_n Ar < 2 ^ 31; omega)
      refine ⟨no', B', ?_, ?_, fun j h1 h2 => (r3 j h1 h2).trans (p3 j h1 h2), fun post hp => ?_⟩
      · rw [List.filter_cons_of_pos ct]
        exact r1
      · rw [List.filter_cons_of_neg (by rw [ct]; decide)]
        exact r2.trans (List.Perm.append_left _ p1)
      · rw [ex3, List.length_cons, wY_join_10]
        refine br_f (nI_pos (by omega)) (nm_r ex4 (nm_r ex5 ?_))
        refine y_tch hw hW ht hk (by omega) (hv x List.mem_cons_self) yx ?_
        rw [ct]
        refine br_f (by decide) ?_
        have e1 : nI (1104 + 7 * Ar.length) + 1 = nI (1104 + 7 * Ar.length + 1) := nI_1 _
        have e2 : nI (1104 + 7 * (Ar.length + B.length + 1)) + 1 = nI (1104 + 7 * (Ar.length + B.length + 1) + 1) := nI_1 _
        have f1 : no (nI (1104 + 7 * Ar.length) + 1).toNatClampNeg = nI x.2.1 := by rw [e1, nI_clamp (by omega)]; exact yx.2.1
        have f2 : no (nI (1104 + 7 * (Ar.length + B.length + 1)) + 1).toNatClampNeg = nI s.1 := by
          rw [e2, nI_clamp (by omega), show Ar.length + B.length + 1 = Ar.length + 1 + B.length by omega]; exact yz.2.1
        have i1 : vp_in (nI (1104 + 7 * Ar.length) + 1) 3316 := by rw [e1]; exact vp_in_nI (by omega) (by omega)
        have i2 : vp_in (nI (1104 + 7 * (Ar.length + B.length + 1)) + 1) 3316 := by rw [e2]; exact vp_in_nI (by omega) (by omega)
        rw [hlr] at p4
        have hJ : wY_join_10 post (nI t) (nI k) (Ar.length + 1) (nI Ar.length + (-1)) yk yt yp yl sz cd vl no1 cp := by
          have e := r4 post hp
          rw [show nI Ar.length + (-1) = hI ((Ar.length : Int) - 1) by rw [← hI_n, hI_m1]]
          exact e
        refine ⟨i1, i2, br_c (fun c => ⟨i2, p4 post _ _ _ _ ?_ hJ⟩) (fun c => ⟨i1, p4 post _ _ _ _ ?_ hJ⟩)⟩
        · rw [f1, f2, nI_leI (by omega) (by omega)] at c
          rw [f2, Nat.min_eq_left c]
        · rw [f1, f2, nI_leI (by omega) (by omega)] at c
          rw [f1, Nat.min_eq_right (by omega)]
theorem y_join {W t k : Nat} {M : List (Nat × Ses)} {s : Ses} (hw : yt = nI W) (hW : W ≤ 8) (ht : t < 64) (hk : k < 4) (hL : s_YL no (M ++ [(k, s)])) (hlen : M.length + 1 ≤ 60) (hv : ∀ x ∈ M, s_v x) (hs1 : s.1 < 64) (hs2 : s.2.1 < 64) (hb : s.2.2.1 + 1 + s_n M < 2 ^ 31) :
    ∃ (no' : Nat → Int32) (M' : List (Nat × Ses)), s_YL no' M' ∧ M'.Perm ((k, s_f (M.filter (s_tch W t k)) s) :: M.filter (fun x => !s_tch W t k x)) ∧ (∀ j, j ≠ 12 → (j < 1104 ∨ 1524 ≤ j) → no' j = no j) ∧ ∀ post : SY → Prop, post (yk, yt, yp, yl, sz, cd, vl, no', cp) → wpY_join post (yk, yt, yp, yl, sz, cd, vl, no, cp) (nI t) (nI k) := by
  obtain ⟨no', B', r1, r2, r3, r4⟩ := y_join_l (yk := yk) (yt := yt) (yp := yp) (yl := yl) (sz := sz) (cd := cd) (vl := vl) (cp := cp) hw hW ht hk M.reverse [] s no (by rw [List.reverse_reverse]; exact hL) (by rw [List.length_reverse]; exact hlen) (fun x hx => hv x (List.mem_reverse.mp hx)) hs1 hs2 (by rw [s_n_p (List.reverse_perm M)]; exact hb)
  refine ⟨no', _, r1, ?_, r3, fun post hp => ?_⟩
  · rw [s_f_p ((List.reverse_perm M).filter (s_tch W t k)) s]
    rw [List.append_nil] at r2
    exact (List.perm_append_singleton _ _).trans ((r2.trans ((List.reverse_perm M).filter _)).cons _)
  · unfold wpY_join
    refine nm_r (e' := hI ((M.reverse.length : Int) - 1)) ?_ ⟨_, r4 post hp⟩
    rw [hL.1, List.length_append, List.length_reverse]
    show nI (M.length + 1) - 2 = _
    rw [← hI_n, show (2 : Int32) = hI 2 by decide, hI_sub]
    exact congrArg hI (by omega)
end YJOIN
end
section
section YREAD
variable {kd wd pn la mk lc nw rc km kl kw kr tc ts tl tm : Int32} {ec et ek ev po gt il pc ps pl pm ss ft lt sc su sl sm re kp kt ki kq ks : Nat → Int32}
variable {yk yt yp yl : Int32} {sz cd vl no cp : Nat → Int32}
theorem y_any {post : SY → Prop} {W t k n : Nat} {v : Int32} {z : Int} {F : Bool} (hw : yt = nI W) (hW : W ≤ 8) (ht : t < 64) (hk : k < 4) (hn : no 12 = nI n) (hn60 : n ≤ 60) (hz : no 9 = hI z) (hz1 : -1000 ≤ z) (hz2 : z ≤ 63)
    (h1 : F = true → wY_readIntoSessions_87 post (nI t) (nI k) v 1 yk yt yp yl sz cd vl no cp) (h2 : F = false → z < (t : Int) + W → wY_readIntoSessions_87 post (nI t) (nI k) v 0 yk yt yp yl sz cd vl no cp) (h3 : F = false → (t : Int) + W ≤ z → post (yk, yt, yp, yl, sz, cd, vl, upd no 10 (no 10 + 1), cp)) :
    ∀ (D : List (Nat × Ses)) (i : Nat) (f : Bool), s_ys no i D → i + D.length = n → (∀ x ∈ D, s_v x) → F = (f || D.any (s_tch W t k)) → wY_readIntoSessions_6 post (nI t) (nI k) v yk yt yp yl sz cd vl no cp (D.length + 1) (b_i f) (nI i)
  | [], i, f, _, hi, _, hF => by
    have hi' : i = n := hi
    subst hi'
    rw [List.any_nil, Bool.or_false] at hF
    subst hF
    have cw : no 9 < nI t + yt ↔ z < (t : Int) + W := hx_lt hz (hx_a (hI_n t).symm (hx_n hw)) (by omega) (by omega)
    rw [wY_readIntoSessions_6]
    refine br_t (by rw [hn]; exact Int32.le_refl _) ?_
    cases F with
    | true => exact br_f (by decide) (h1 rfl)
    | false =>
      refine br_t rfl ?_
      by_cases c : z < (t : Int) + W
      · exact br_t (cw.mpr c) (h2 rfl c)
      · exact br_f (fun q => c (cw.mp q)) (nm_e (h3 rfl (by omega)))
  | x :: D, i, f, hs, hi, hv, hF => by
    have hi' : i + (D.length + 1) = n := hi
    have ex : (1104 : Int32) + 7 * nI i = nI (1104 + 7 * i) := (congrArg (1104 + ·) (pk_mul 7 _)).trans (nI_add 1104 _)
    rw [List.any_cons, ← Bool.or_assoc] at hF
    rw [wY_readIntoSessions_6]
    refine br_f (by rw [hn]; exact nI_ge (by omega) (by omega)) ?_
    have ih := y_any hw hW ht hk hn hn60 hz hz1 hz2 h1 h2 h3 D (i + 1) (f || s_tch W t k x) hs.2 (by omega) (fun y hy => hv y (List.mem_cons_of_mem _ hy)) hF
    cases f with
    | true => exact br_f (by decide) (nm_r (nI_1 i) ih)
    | false =>
      refine br_t rfl ?_
      rw [ex]
      refine y_tch hw hW ht hk (by omega) (hv x List.mem_cons_self) hs.1 ?_
      rw [Bool.false_or] at ih
      cases c : s_tch W t k x with
      | true => rw [c] at ih; exact br_f (by decide) (nm_r (nI_1 i) ih)
      | false => rw [c] at ih; exact br_t rfl (nm_r (nI_1 i) ih)
theorem y_made {t k n : Nat} {v : Int32} {M : List (Nat × Ses)} (hL : s_YL no M) (hlen : M.length = n) (hn : n ≤ 59) : ∃ no' : Nat → Int32, s_YL no' (M ++ [(k, t, t, 0, v, v, v)]) ∧ (∀ j, j ≠ 12 → (j < 1104 ∨ 1524 ≤ j) → no' j = no j) ∧ (∀ post : SY → Prop, post (yk, yt, yp, yl, sz, cd, vl, no', cp) → wY_readIntoSessions_87 post (nI t) (nI k) v 0 yk yt yp yl sz cd vl no cp) ∧ (∀ (post : SY → Prop) (x4 : Int32), ¬ x4 = 0 → wpY_join post (yk, yt, yp, yl, sz, cd, vl, no', cp) (nI t) (nI k) → wY_readIntoSessions_87 post (nI t) (nI k) v x4 yk yt yp yl sz cd vl no cp) := by
  obtain ⟨a, ea⟩ : ∃ a, a = 1104 + 7 * n := ⟨_, rfl⟩
  have h12 : no 12 = nI n := by rw [hL.1, hlen]
  obtain ⟨no1, e1⟩ : ∃ f, f = upd (upd (upd (upd no a (nI k)) (a + 1) (nI t)) (a + 2) (nI t)) (a + 3) 0 := ⟨_, rfl⟩
  have q1 : q_Y no1 (a + 3) none := by show no1 (a + 3) = 0; rw [e1, pk_us]
  have n1o : ∀ j, j < a ∨ a + 4 ≤ j → no1 j = no j := by
    intro j hj
    rw [e1, pk_un (by omega), pk_un (by omega), pk_un (by omega), pk_un (by omega)]
  obtain ⟨no2, q2, n2o, w2⟩ := y_count (yk := yk) (yt := yt) (yp := yp) (yl := yl) (sz := sz) (cd := cd) (vl := vl) (cp := cp) (x := (0, v, v, v)) (by omega) q1 (show 0 + 0 + 1 < 2 ^ 31 by decide)
  have n2o' : ∀ j, j < a ∨ a + 7 ≤ j → no2 j = no j := by
    intro j hj
    rw [n2o j (by omega), n1o j (by omega)]
  have f0 : no2 a = nI k := by rw [n2o a (by omega), e1, pk_un (by omega), pk_un (by omega), pk_un (by omega), pk_us]
  have f1 : no2 (a + 1) = nI t := by rw [n2o _ (by omega), e1, pk_un (by omega), pk_un (by omega), pk_us]
  have f2 : no2 (a + 2) = nI t := by rw [n2o _ (by omega), e1, pk_un (by omega), pk_us]
  have y2 : s_y no2 a (k, t, t, 0, v, v, v) := ⟨f0, f1, f2, q2⟩
  obtain ⟨no3, e3⟩ : ∃ f, f = upd no2 12 (nI (n + 1)) := ⟨_, rfl⟩
  have wk : ∀ (post : SY → Prop) (x4 : Int32), ((x4 = 0 → post (yk, yt, yp, yl, sz, cd, vl, no3, cp)) ∧ (¬ x4 = 0 → wpY_join post (yk, yt, yp, yl, sz, cd, vl, no3, cp) (nI t) (nI k))) → wY_readIntoSessions_87 post (nI t) (nI k) v x4 yk yt yp yl sz cd vl no cp := by
    intro post x4 hp
    have b1 : nI a + 1 = nI (a + 1) := nI_1 a
    have b2 : nI a + 2 = nI (a + 2) := nI_add a 2
    have b3 : nI a + 3 = nI (a + 3) := nI_add a 3
    unfold wY_readIntoSessions_87
    refine nm_r (e' := nI a) ?_ ?_
    · rw [h12, ea]; exact (congrArg (1104 + ·) (pk_mul 7 _)).trans (nI_add 1104 _)
    rw [b1, b2, b3]
    refine ⟨vp_in_nI (by omega) (by omega), nm_r (e' := upd no a (nI k)) (by rw [nI_clamp (by omega)]) ⟨vp_in_nI (by omega) (by omega), nm_r (e' := upd (upd no a (nI k)) (a + 1) (nI t)) (by rw [nI_clamp (by omega)]) ⟨vp_in_nI (by omega) (by omega), nm_r (e' := upd (upd (upd no a (nI k)) (a + 1) (nI t)) (a + 2) (nI t)) (by rw [nI_clamp (by omega)]) ⟨vp_in_nI (by omega) (by omega), nm_r (e' := no1) (by rw [nI_clamp (by omega), e1]) ?_⟩⟩⟩⟩
    refine w2 _ _ _ rfl rfl ?_
    refine nm_r (e' := no3) ?_ hp
    rw [n2o' 12 (by omega), h12, nI_1, e3]
  refine ⟨no3, ⟨?_, ?_⟩, ?_, fun post hp => wk post 0 (br_t rfl hp), fun post x4 h4 hp => wk post x4 (br_f h4 hp)⟩
  · rw [e3, pk_us, List.length_append, hlen]; rfl
  · rw [s_ys_a]
    refine ⟨s_ys_f M 0 (fun j h1 h2 => ?_) hL.2, ?_, True.intro⟩
    · rw [e3, pk_un (by omega), n2o' j (by omega)]
    · rw [Nat.zero_add, hlen, ← ea]
      refine s_y_r (fun i hi => ?_) y2
      rw [e3, pk_un (by omega)]
  · intro j h1 h2
    rw [e3, pk_un h1, n2o' j (by omega)]
theorem y_rs {W t k : Nat} {v : Int32} {z : Int} {M : List (Nat × Ses)} (hw : yt = nI W) (hW : W ≤ 8) (ht : t < 64) (hk : k < 4) (hL : s_YL no M) (hlen : M.length ≤ 59) (hv : ∀ x ∈ M, s_v x) (hb : s_n M ≤ 1000) (hz : no 9 = hI z) (hz1 : -1000 ≤ z) (hz2 : z ≤ 63) :
    (M.filter (s_tch W t k) = [] → (t : Int) + W ≤ z → ∀ post : SY → Prop, post (yk, yt, yp, yl, sz, cd, vl, upd no 10 (no 10 + 1), cp) → wpY_readIntoSessions post (yk, yt, yp, yl, sz, cd, vl, no, cp) (nI t) (nI k) v) ∧
    ((M.filter (s_tch W t k) = [] → z < (t : Int) + W) → ∃ (no' : Nat → Int32) (M' : List (Nat × Ses)), s_YL no' M' ∧ M'.Perm ((k, s_f (M.filter (s_tch W t k)) (t, t, 0, v, v, v)) :: M.filter (fun x => !s_tch W t k x)) ∧ (∀ j, j ≠ 12 → (j < 1104 ∨ 1524 ≤ j) → no' j = no j) ∧ ∀ post : SY → Prop, post (yk, yt, yp, yl, sz, cd, vl, no', cp) → wpY_readIntoSessions post (yk, yt, yp, yl, sz, cd, vl, no, cp) (nI t) (nI k) v) := by
  have loop : ∀ (post : SY → Prop), (M.any (s_tch W t k) = true → wY_readIntoSessions_87 post (nI t) (nI k) v 1 yk yt yp yl sz cd vl no cp) → (M.any (s_tch W t k) = false → z < (t : Int) + W → wY_readIntoSessions_87 post (nI t) (nI k) v 0 yk yt yp yl sz cd vl no cp) → (M.any (s_tch W t k) = false → (t : Int) + W ≤ z → post (yk, yt, yp, yl, sz, cd, vl, upd no 10 (no 10 + 1), cp)) → wpY_readIntoSessions post (yk, yt, yp, yl, sz, cd, vl, no, cp) (nI t) (nI k) v := by
    intro post h1 h2 h3
    unfold wpY_readIntoSessions
    exact ⟨_, y_any hw hW ht hk hL.1 (by omega) hz hz1 hz2 h1 h2 h3 M 0 false hL.2 (by omega) hv rfl⟩
  obtain ⟨no1, m1, m2, m3, m4⟩ := y_made (yk := yk) (yt := yt) (yp := yp) (yl := yl) (sz := sz) (cd := cd) (vl := vl) (cp := cp) (t := t) (k := k) (v := v) hL rfl hlen
  cases c : M.any (s_tch W t k) with
  | false =>
    have hn : ∀ x ∈ M, ¬ s_tch W t k x = true := List.any_eq_false.mp c
    have e0 : M.filter (s_tch W t k) = [] := List.filter_eq_nil_iff.mpr hn
    have e1 : M.filter (fun x => !s_tch W t k x) = M := List.filter_eq_self.mpr (fun x hx => by
      have := hn x hx
      rw [Bool.not_eq_true] at this
      rw [this]; rfl)
    refine ⟨fun _ hzt post hp => loop post (fun q => absurd (c.symm.trans q) (by decide)) (fun _ q => absurd hzt (by omega)) (fun _ _ => hp), fun hzt => ⟨no1, _, m1, ?_, m2, fun post hp => loop post (fun q => absurd (c.symm.trans q) (by decide)) (fun _ _ => m3 post hp) (fun _ q => absurd (hzt e0) (by omega))⟩⟩
    rw [e0, e1]
    exact List.perm_append_singleton _ _
  | true =>
    have hne : ¬ M.filter (s_tch W t k) = [] := by
      intro q
      obtain ⟨x, hx, hx2⟩ := List.any_eq_true.mp c
      exact List.filter_eq_nil_iff.mp q x hx hx2
    obtain ⟨no2, M', r1, r2, r3, r4⟩ := y_join (yk := yk) (yt := yt) (yp := yp) (yl := yl) (sz := sz) (cd := cd) (vl := vl) (cp := cp) (s := (t, t, 0, v, v, v)) hw hW ht hk m1 (by omega) hv ht ht (by show 0 + 1 + s_n M < 2 ^ 31; omega)
    exact ⟨fun q => absurd q hne, fun _ => ⟨no2, M', r1, r2, fun j h1 h2 => (r3 j h1 h2).trans (m2 j h1 h2), fun post hp => loop post (fun _ => m4 post 1 (by decide) (r4 post hp)) (fun q => absurd (c.symm.trans q) (by decide)) (fun q => absurd (c.symm.trans q) (by decide))⟩⟩
end YREAD
end
section
/-! F: results, closing -/
def r_R (R : Nat) (re no : Nat → Int32) : Prop := no 11 = nI R ∧ ∀ j, j < 7 * R → no (1524 + j) = re j
theorem r_R_s {R : Nat} {re re' no no' : Nat → Int32} (h : r_R R re no) (h11 : no' 11 = nI (R + 1)) (h1 : ∀ j, j < 7 * R → re' j = re j) (h2 : ∀ j, j < 7 * R → no' (1524 + j) = no (1524 + j)) (h3 : ∀ i, i < 7 → no' (1524 + (7 * R + i)) = re' (7 * R + i)) : r_R (R + 1) re' no' := by
  refine ⟨h11, fun j hj => ?_⟩
  by_cases c : j < 7 * R
  · rw [h1 j c, h2 j c, h.2 j c]
  · have := h3 (j - 7 * R) (by omega)
    rw [show 7 * R + (j - 7 * R) = j by omega] at this
    exact this
theorem lt7 {P : Nat → Prop} (h0 : P 0) (h1 : P 1) (h2 : P 2) (h3 : P 3) (h4 : P 4) (h5 : P 5) (h6 : P 6) : ∀ i, i < 7 → P i := by
  intro i hi
  have c : i = 0 ∨ i = 1 ∨ i = 2 ∨ i = 3 ∨ i = 4 ∨ i = 5 ∨ i = 6 := by omega
  rcases c with rfl | rfl | rfl | rfl | rfl | rfl | rfl <;> assumption
section CLOSE
variable {kd wd pn la mk lc nw rc km kl kw kr tc ts tl tm : Int32} {ec et ek ev po gt il pc ps pl pm ss ft lt sc su sl sm re kp kt ki kq ks : Nat → Int32}
variable {yk yt yp yl : Int32} {sz cd vl no cp : Nat → Int32}
theorem x_addR {R : Nat} {p0 p1 p2 : Int32} (hR : R < 300) : ∃ re' : Nat → Int32, (∀ j, j < 7 * R → re' j = re j) ∧ re' (7 * R) = p0 ∧ re' (7 * R + 1) = p1 ∧ re' (7 * R + 2) = p2 ∧ re' (7 * R + 3) = tc ∧ re' (7 * R + 4) = ts ∧ re' (7 * R + 5) = tl ∧ re' (7 * R + 6) = tm ∧ ∀ (post : SX → Prop), rc = nI R → post (kd, wd, pn, la, mk, lc, nw, nI (R + 1), km, kl, kw, kr, tc, ts, tl, tm, ec, et, ek, ev, po, gt, il, pc, ps, pl, pm, ss, ft, lt, sc, su, sl, sm, re', kp, kt, ki, kq, ks) → wpX_addResult post (kd, wd, pn, la, mk, lc, nw, rc, km, kl, kw, kr, tc, ts, tl, tm, ec, et, ek, ev, po, gt, il, pc, ps, pl, pm, ss, ft, lt, sc, su, sl, sm, re, kp, kt, ki, kq, ks) p0 p1 p2 := by
  obtain ⟨b, eb⟩ : ∃ b, b = 7 * R := ⟨_, rfl⟩
  rw [← eb]
  refine ⟨upd (upd (upd (upd (upd (upd (upd re b p0) (b + 1) p1) (b + 2) p2) (b + 3) tc) (b + 4) ts) (b + 5) tl) (b + 6) tm, ?_, ?_, ?_, ?_, ?_, ?_, ?_, ?_, ?_⟩
  · intro j hj
    rw [pk_un (by omega), pk_un (by omega), pk_un (by omega), pk_un (by omega), pk_un (by omega), pk_un (by omega), pk_un (by omega)]
  · rw [pk_un (by omega), pk_un (by omega), pk_un (by omega), pk_un (by omega), pk_un (by omega), pk_un (by omega), pk_us]
  · rw [pk_un (by omega), pk_un (by omega), pk_un (by omega), pk_un (by omega), pk_un (by omega), pk_us]
  · rw [pk_un (by omega), pk_un (by omega), pk_un (by omega), pk_un (by omega), pk_us]
  · rw [pk_un (by omega), pk_un (by omega), pk_un (by omega), pk_us]
  · rw [pk_un (by omega), pk_un (by omega), pk_us]
  · rw [pk_un (by omega), pk_us]
  · rw [pk_us]
  · intro post hrc hp
    subst hrc
    have b1 : nI b + 1 = nI (b + 1) := nI_1 b
    have b2 : nI b + 2 = nI (b + 2) := nI_add b 2
    have b3 : nI b + 3 = nI (b + 3) := nI_add b 3
    have b4 : nI b + 4 = nI (b + 4) := nI_add b 4
    have b5 : nI b + 5 = nI (b + 5) := nI_add b 5
    have b6 : nI b + 6 = nI (b + 6) := nI_add b 6
    unfold wpX_addResult
    refine nm_r (e' := nI b) (by rw [eb]; exact pk_mul 7 R) ?_
    rw [b1, b2, b3, b4, b5, b6]
    exact ⟨vp_in_nI (by omega) (by omega), nm_r (by rw [nI_clamp (by omega)]) ⟨vp_in_nI (by omega) (by omega), nm_r (by rw [nI_clamp (by omega)]) ⟨vp_in_nI (by omega) (by omega), nm_r (by rw [nI_clamp (by omega)]) ⟨vp_in_nI (by omega) (by omega), nm_r (by rw [nI_clamp (by omega)]) ⟨vp_in_nI (by omega) (by omega), nm_r (by rw [nI_clamp (by omega)]) ⟨vp_in_nI (by omega) (by omega), nm_r (by rw [nI_clamp (by omega)]) ⟨vp_in_nI (by omega) (by omega), nm_r (by rw [nI_clamp (by omega)]) (nm_r (nI_1 R) hp)⟩⟩⟩⟩⟩⟩⟩
theorem y_add {R a : Nat} {p0 p1 p2 : Int32} (hR : R < 256) (h11 : no 11 = nI R) (ha : 16 ≤ a) (ha2 : a + 4 ≤ 1524) : ∃ no' : Nat → Int32, no' 11 = nI (R + 1) ∧ (∀ j, j ≠ 11 → (j < 1524 + 7 * R ∨ 1524 + 7 * R + 7 ≤ j) → no' j = no j) ∧ no' (1524 + (7 * R)) = p0 ∧ no' (1524 + (7 * R + 1)) = p1 ∧ no' (1524 + (7 * R + 2)) = p2 ∧ no' (1524 + (7 * R + 3)) = no a ∧ no' (1524 + (7 * R + 4)) = no (a + 1) ∧ no' (1524 + (7 * R + 5)) = no (a + 2) ∧ no' (1524 + (7 * R + 6)) = no (a + 3) ∧ ∀ (post : SY → Prop) (p3 : Int32), p3 = nI a → post (yk, yt, yp, yl, sz, cd, vl, no', cp) → wpY_add post (yk, yt, yp, yl, sz, cd, vl, no, cp) p0 p1 p2 p3 := by
  obtain ⟨b, eb⟩ : ∃ b, b = 1524 + 7 * R := ⟨_, rfl⟩
  have e0 : ∀ i, 1524 + (7 * R + i) = b + i := by intro i; omega
  obtain ⟨no1, e1⟩ : ∃ f, f = upd (upd (upd no b p0) (b + 1) p1) (b + 2) p2 := ⟨_, rfl⟩
  have n1o : ∀ j, j < b ∨ b + 3 ≤ j → no1 j = no j := by
    intro j hj
    rw [e1, pk_un (by omega), pk_un (by omega), pk_un (by omega)]
  obtain ⟨no2, e2⟩ : ∃ f, f = c_p no1 a (b + 3) 4 := ⟨_, rfl⟩
  have n2o : ∀ j, j < b + 3 ∨ b + 7 ≤ j → no2 j = no1 j := by
    intro j hj
    rw [e2, c_p_out (by omega)]
  have n2i : ∀ i, i < 4 → no2 (b + 3 + i) = no (a + i) := by
    intro i hi
    rw [e2, c_p_in hi, n1o _ (by omega)]
  refine ⟨upd no2 11 (nI (R + 1)), pk_us, ?_, ?_, ?_, ?_, ?_, ?_, ?_, ?_, ?_⟩
  · intro j h1 h2
    rw [pk_un h1, n2o j (by omega), n1o j (by omega)]
  · rw [← eb, pk_un (by omega), n2o _ (by omega), e1, pk_un (by omega), pk_un (by omega), pk_us]
  · rw [e0, pk_un (by omega), n2o _ (by omega), e1, pk_un (by omega), pk_us]
  · rw [e0, pk_un (by omega), n2o _ (by omega), e1, pk_us]
  · rw [e0, pk_un (by omega)]; exact n2i 0 (by omega)
  · rw [e0, pk_un (by omega)]; exact n2i 1 (by omega)
  · rw [e0, pk_un (by omega)]; exact n2i 2 (by omega)
  · rw [e0, pk_un (by omega)]; exact n2i 3 (by omega)
  · intro post p3 hp3 hp
    subst hp3
    have lp : ∀ d i, i + d = 4 → wY_add_47 post (nI a) (nI b) yk yt yp yl (d + 1) (nI i) sz cd vl (c_p no1 a (b + 3) i) cp := by
      intro d
      induction d with
      | zero =>
        intro i hi
        have : i = 4 := by omega
        subst this
        rw [wY_add_47]
        refine br_t (Int32.le_refl _) (nm_r (e' := upd no2 11 (nI (R + 1))) ?_ hp)
        rw [← e2, n2o 11 (by omega), n1o 11 (by omega), h11, nI_1]
      | succ d ih =>
        intro i hi
        have e3 : nI b + 3 + nI i = nI (b + 3 + i) := by rw [show nI b + 3 = nI (b + 3) from nI_add b 3, nI_add]
        rw [wY_add_47]
        dsimp only
        rw [e3, nI_add]
        refine br_f (nI_ge (b := 4) (by omega) (by omega)) ⟨vp_in_nI (by omega) (by omega), vp_in_nI (by omega) (by omega), nm_r (e' := c_p no1 a (b + 3) (i + 1)) ?_ (nm_r (nI_1 i) (ih (i + 1) (by omega)))⟩
        rw [nI_clamp (by omega), nI_clamp (by omega), c_p_s (by omega)]
    have L := lp 4 0 (by omega)
    rw [c_p_0, nI_0] at L
    have b1 : nI b + 1 = nI (b + 1) := nI_1 b
    have b2 : nI b + 2 = nI (b + 2) := nI_add b 2
    unfold wpY_add
    refine nm_r (e' := nI b) ?_ ?_
    · rw [h11, eb]; exact (congrArg (1524 + ·) (pk_mul 7 _)).trans (nI_add 1524 _)
    rw [b1, b2]
    exact ⟨vp_in_nI (by omega) (by omega), nm_r (by rw [nI_clamp (by omega)]) ⟨vp_in_nI (by omega) (by omega), nm_r (by rw [nI_clamp (by omega)]) ⟨vp_in_nI (by omega) (by omega), nm_r (e' := no1) (by rw [nI_clamp (by omega), e1]) ⟨5, L⟩⟩⟩⟩
theorem y_dropL {A B : List (Nat × Ses)} {x : Nat × Ses} (hL : s_YL no (A ++ x :: B)) (hlen : A.length + B.length + 1 ≤ 60) : ∃ (no' : Nat → Int32) (M' : List (Nat × Ses)), s_YL no' M' ∧ M'.Perm (A ++ B) ∧ (∀ j, j ≠ 12 → (j < 1104 ∨ 1524 ≤ j) → no' j = no j) ∧ ∀ post : SY → Prop, post (yk, yt, yp, yl, sz, cd, vl, no', cp) → wpY_dropSession post (yk, yt, yp, yl, sz, cd, vl, no, cp) (nI (1104 + 7 * A.length)) := by
  obtain ⟨hn, hys⟩ := hL
  rw [s_ys_a] at hys
  obtain ⟨yA, yx, yB⟩ := hys
  rw [Nat.zero_add] at yx yB
  have hn' : no 12 = nI (A.length + B.length + 1) := by
    rw [hn, List.length_append, List.length_cons]; rfl
  obtain ⟨no1, e1⟩ : ∃ f, f = c_p (upd no 12 (nI (A.length + B.length))) (1104 + 7 * (A.length + B.length)) (1104 + 7 * A.length) 7 := ⟨_, rfl⟩
  have n1o : ∀ j, j ≠ 12 → j < 1104 + 7 * A.length ∨ 1104 + 7 * A.length + 7 ≤ j → no1 j = no j := by
    intro j h1 h2
    rw [e1, c_p_out (by omega), pk_un h1]
  have n112 : no1 12 = nI (A.length + B.length) := by rw [e1, c_p_out (by omega), pk_us]
  have yA1 : s_ys no1 0 A := s_ys_f A 0 (fun j h1 h2 => n1o j (by omega) (by omega)) yA
  have wk : ∀ post : SY → Prop, post (yk, yt, yp, yl, sz, cd, vl, no1, cp) → wpY_dropSession post (yk, yt, yp, yl, sz, cd, vl, no, cp) (nI (1104 + 7 * A.length)) := by
    intro post hp
    refine y_drop (n := A.length + B.length) hn' rfl (by omega) (by omega) ?_
    rw [← e1]
    exact hp
  have fr : ∀ j, j ≠ 12 → (j < 1104 ∨ 1524 ≤ j) → no1 j = no j := fun j h1 h2 => n1o j h1 (by omega)
  rcases List.eq_nil_or_concat B with eB | ⟨B1, b, eB⟩
  · subst eB
    exact ⟨no1, A, ⟨n112, yA1⟩, by rw [List.append_nil], fr, wk⟩
  · rw [List.concat_eq_append] at eB
    subst eB
    have hl1 : (B1 ++ [b]).length = B1.length + 1 := by rw [List.length_append]; rfl
    rw [s_ys_a] at yB
    obtain ⟨yB1, yb, -⟩ := yB
    refine ⟨no1, A ++ b :: B1, ⟨?_, ?_⟩, List.Perm.append_left A (List.perm_append_singleton b B1).symm, fr, wk⟩
    · rw [n112]
      exact congrArg nI (by simp only [List.length_append, List.length_cons, List.length_nil])
    · rw [s_ys_a]
      refine ⟨yA1, ?_, ?_⟩
      · rw [Nat.zero_add]
        refine s_y_r (fun i hi => ?_) yb
        rw [e1, c_p_in hi, pk_un (by omega), show 1104 + 7 * (A.length + (B1 ++ [b]).length) = 1104 + 7 * (A.length + 1 + B1.length) by omega]
      · rw [Nat.zero_add]
        exact s_ys_f B1 _ (fun j h1 h2 => n1o j (by omega) (by omega)) yB1
end CLOSE
/-! the least of those that are meant -/
def s_b1 (c : Nat × Ses → Bool) (r : Nat × Ses → Nat) (i : Nat) (x : Nat × Ses) : Option (Nat × Nat × Ses) → Option (Nat × Nat × Ses)
  | none => if c x = true then some (i, x) else none
  | some y => if c x = true ∧ r x < r y.2 then some (i, x) else some y
def s_bs (c : Nat × Ses → Bool) (r : Nat × Ses → Nat) : Option (Nat × Nat × Ses) → Nat → List (Nat × Ses) → Option (Nat × Nat × Ses)
  | acc, _, [] => acc
  | acc, i, x :: l => s_bs c r (s_b1 c r i x acc) (i + 1) l
theorem s_bs_s {c : Nat × Ses → Bool} {r : Nat × Ses → Nat} {y : Nat × Nat × Ses} : ∀ (l : List (Nat × Ses)) (acc : Option (Nat × Nat × Ses)) (i : Nat), s_bs c r acc i l = some y → (acc = some y ∨ ∃ A B, l = A ++ y.2 :: B ∧ y.1 = i + A.length ∧ c y.2 = true) ∧ (∀ x ∈ l, c x = true → r y.2 ≤ r x) ∧ (∀ a, acc = some a → r y.2 ≤ r a.2)
  | [], acc, i, h => by
    have h' : acc = some y := h
    refine ⟨Or.inl h', (fun _ q => nomatch q), fun a ha => ?_⟩
    rw [h'] at ha
    cases ha
    exact Nat.le_refl _
  | x :: l, acc, i, h => by
    have h' : s_bs c r (s_b1 c r i x acc) (i + 1) l = some y := h
    obtain ⟨h1, h2, h3⟩ := s_bs_s l _ _ h'
    have hx : c x = true → r y.2 ≤ r x := by
      intro cx
      cases acc with
      | none =>
        exact h3 (i, x) (if_pos cx)
      | some a =>
        by_cases q : r x < r a.2
        · exact h3 (i, x) (if_pos ⟨cx, q⟩)
        · have := h3 a (if_neg (fun z => q z.2))
          omega
    have ha : ∀ a, acc = some a → r y.2 ≤ r a.2 := by
      intro a ea
      subst ea
      by_cases q : c x = true ∧ r x < r a.2
      · have h4 := h3 (i, x) (if_pos q)
        have h5 : r y.2 ≤ r x := h4
        exact Nat.le_trans h5 (Nat.le_of_lt q.2)
      · exact h3 a (if_neg q)
    refine ⟨?_, fun z hz cz => ?_, ha⟩
    · rcases h1 with h1 | ⟨A, B, e1, e2, e3⟩
      · have k1 : s_b1 c r i x acc = acc ∨ (s_b1 c r i x acc = some (i, x) ∧ c x = true) := by
          cases acc with
          | none =>
            by_cases q : c x = true
            · exact Or.inr ⟨if_pos q, q⟩
            · exact Or.inl (if_neg q)
          | some a =>
            by_cases q : c x = true ∧ r x < r a.2
            · exact Or.inr ⟨if_pos q, q.1⟩
            · exact Or.inl (if_neg q)
        rcases k1 with k1 | ⟨k1, k2⟩
        · exact Or.inl (k1.symm.trans h1)
        · have e : (i, x) = y := Option.some.inj (k1.symm.trans h1)
          subst e
          exact Or.inr ⟨[], l, rfl, rfl, k2⟩
      · refine Or.inr ⟨x :: A, B, by rw [e1]; rfl, ?_, e3⟩
        rw [e2, List.length_cons]; omega
    · rcases List.mem_cons.mp hz with e | e
      · subst e; exact hx cz
      · exact h2 z e cz
theorem s_bs_n {c : Nat × Ses → Bool} {r : Nat × Ses → Nat} : ∀ (l : List (Nat × Ses)) (acc : Option (Nat × Nat × Ses)) (i : Nat), s_bs c r acc i l = none → acc = none ∧ ∀ x ∈ l, c x = false
  | [], acc, i, h => ⟨h, fun _ q => nomatch q⟩
  | x :: l, acc, i, h => by
    have h' : s_bs c r (s_b1 c r i x acc) (i + 1) l = none := h
    obtain ⟨h1, h2⟩ := s_bs_n l _ _ h'
    cases acc with
    | some a =>
      have h1' : (if c x = true ∧ r x < r a.2 then some (i, x) else some a) = none := h1
      by_cases q : c x = true ∧ r x < r a.2
      · rw [if_pos q] at h1'; cases h1'
      · rw [if_neg q] at h1'; cases h1'
    | none =>
      have h1' : (if c x = true then some (i, x) else none) = none := h1
      have cx : c x = false := by
        by_cases q : c x = true
        · rw [if_pos q] at h1'; cases h1'
        · exact Bool.not_eq_true _ ▸ q
      refine ⟨rfl, fun z hz => ?_⟩
      rcases List.mem_cons.mp hz with e | e
      · rw [e]; exact cx
      · exact h2 z e
def s_co : Option (Nat × Nat × Ses) → Int32
  | none => -1
  | some y => nI (1104 + 7 * y.1)
def s_rk (z : Nat × Ses) : Nat := (z.2.2.1 * 4 + z.1) * 64 + z.2.1
def s_cl (W : Nat) (zm : Int) (z : Nat × Ses) : Bool := decide ((z.2.2.1 : Int) + W ≤ zm)
end
section
section CLOSES
variable {kd wd pn la mk lc nw rc km kl kw kr tc ts tl tm : Int32} {ec et ek ev po gt il pc ps pl pm ss ft lt sc su sl sm re kp kt ki kq ks : Nat → Int32}
variable {yk yt yp yl : Int32} {sz cd vl no cp : Nat → Int32}
theorem y_bef {post : Int32 → Prop} {a b : Nat} {x y : Nat × Ses} (ha : a + 7 ≤ 3316) (hb : b + 7 ≤ 3316) (vx : s_v x) (vy : s_v y) (hx : s_y no a x) (hy : s_y no b y) (h : post (b_i (decide (s_rk x < s_rk y)))) : wpY_isBefore post (yk, yt, yp, yl, sz, cd, vl, no, cp) (nI a) (nI b) := by
  obtain ⟨x0, x1, x2, -⟩ := hx
  obtain ⟨y0, y1, y2, -⟩ := hy
  obtain ⟨vx1, vx2, vx3⟩ := vx
  obtain ⟨vy1, vy2, vy3⟩ := vy
  have ea1 : nI a + 1 = nI (a + 1) := nI_1 a
  have ea2 : nI a + 2 = nI (a + 2) := nI_add a 2
  have eb1 : nI b + 1 = nI (b + 1) := nI_1 b
  have eb2 : nI b + 2 = nI (b + 2) := nI_add b 2
  have ia : vp_in (nI a) 3316 := vp_in_nI (by omega) (by omega)
  have ib : vp_in (nI b) 3316 := vp_in_nI (by omega) (by omega)
  have ia1 : vp_in (nI (a + 1)) 3316 := vp_in_nI (by omega) (by omega)
  have ib1 : vp_in (nI (b + 1)) 3316 := vp_in_nI (by omega) (by omega)
  have ia2 : vp_in (nI (a + 2)) 3316 := vp_in_nI (by omega) (by omega)
  have ib2 : vp_in (nI (b + 2)) 3316 := vp_in_nI (by omega) (by omega)
  unfold wpY_isBefore
  dsimp only
  rw [ea1, ea2, eb1, eb2, nI_clamp (show a < 2 ^ 31 by omega), nI_clamp (show b < 2 ^ 31 by omega), nI_clamp (show a + 1 < 2 ^ 31 by omega), nI_clamp (show b + 1 < 2 ^ 31 by omega), nI_clamp (show a + 2 < 2 ^ 31 by omega), nI_clamp (show b + 2 < 2 ^ 31 by omega), x0, x1, x2, y0, y1, y2, nI_eq (show x.2.2.1 < 2 ^ 31 by omega) (show y.2.2.1 < 2 ^ 31 by omega), nI_eq (show x.1 < 2 ^ 31 by omega) (show y.1 < 2 ^ 31 by omega), nI_leI (show y.2.1 < 2 ^ 31 by omega) (show x.2.1 < 2 ^ 31 by omega), nI_leI (show y.1 < 2 ^ 31 by omega) (show x.1 < 2 ^ 31 by omega), nI_leI (show y.2.2.1 < 2 ^ 31 by omega) (show x.2.2.1 < 2 ^ 31 by omega)]
  unfold s_rk at h
  have h1 : s_rk x < s_rk y → post 1 := fun q => by
    unfold s_rk at q
    rw [decide_eq_true q] at h; exact h
  have h0 : ¬ s_rk x < s_rk y → post 0 := fun q => by
    unfold s_rk at q
    rw [decide_eq_false q] at h; exact h
  clear h
  unfold s_rk at h0 h1
  refine ⟨ia2, ib2, br_c (fun c => ⟨ia, ib, br_c (fun d => ⟨ia1, ib1, br_c (fun e => h0 (by omega)) (fun e => h1 (by omega))⟩) (fun d => ⟨ia, ib, br_c (fun e => h0 (by omega)) (fun e => h1 (by omega))⟩)⟩) (fun c => ⟨ia2, ib2, br_c (fun e => h0 (by omega)) (fun e => h1 (by omega))⟩)⟩
theorem y_min {post : SY → Prop} {J2 : Int32 → Int32 → Int32 → Int32 → Int32 → (Nat → Int32) → (Nat → Int32) → (Nat → Int32) → (Nat → Int32) → (Nat → Int32) → Prop} {W n : Nat} {zm : Int} {b : Option (Nat × Nat × Ses)} (hw : yt = nI W) (hW : W ≤ 8) (hn : no 12 = nI n) (hn60 : n ≤ 60) (hz : no 9 = hI zm) (hz1 : -1000 ≤ zm) (hz2 : zm ≤ 63)
    (h0 : b = none → wY_closeSessions_87 post J2 (-1) 0 yk yt yp yl sz cd vl no cp) (h1 : ∀ y, b = some y → wY_closeSessions_87 post J2 (nI (1104 + 7 * y.1)) 1 yk yt yp yl sz cd vl no cp) :
    ∀ (D : List (Nat × Ses)) (i : Nat) (acc : Option (Nat × Nat × Ses)), s_ys no i D → i + D.length = n → (∀ x ∈ D, s_v x) → (∀ y, acc = some y → y.1 < 60 ∧ s_y no (1104 + 7 * y.1) y.2 ∧ s_v y.2) → b = s_bs (s_cl W zm) s_rk acc i D → wY_closeSessions_10 post J2 yk yt yp yl sz cd vl no cp (D.length + 1) (s_co acc) (nI i)
  | [], i, acc, _, hi, _, ha, hb => by
    have hi' : i = n := hi
    subst hi'
    have hb' : b = acc := hb
    subst hb'
    rw [wY_closeSessions_10]
    refine br_t (by rw [hn]; exact Int32.le_refl _) ?_
    cases b with
    | none => exact br_t (by decide) (h0 rfl)
    | some y => exact br_f (nI_pos (by have := (ha y rfl).1; omega)) (h1 y rfl)
  | x :: D, i, acc, hs, hi, hv, ha, hb => by
    have hi' : i + (D.length + 1) = n := hi
    have ex : (1104 : Int32) + 7 * nI i = nI (1104 + 7 * i) := (congrArg (1104 + ·) (pk_mul 7 _)).trans (nI_add 1104 _)
    have hvx := hv x List.mem_cons_self
    have ih := y_min hw hW hn hn60 hz hz1 hz2 h0 h1 D (i + 1) (s_b1 (s_cl W zm) s_rk i x acc) hs.2 (by omega) (fun y hy => hv y (List.mem_cons_of_mem _ hy)) (fun y hy => by
      cases acc with
      | none =>
        have hy' : (if s_cl W zm x = true then some (i, x) else none) = some y := hy
        by_cases q : s_cl W zm x = true
        · rw [if_pos q] at hy'
          have e := Option.some.inj hy'
          subst e
          exact ⟨by show i < 60; omega, hs.1, hvx⟩
        · rw [if_neg q] at hy'; cases hy'
      | some a =>
        have hy' : (if s_cl W zm x = true ∧ s_rk x < s_rk a.2 then some (i, x) else some a) = some y := hy
        by_cases q : s_cl W zm x = true ∧ s_rk x < s_rk a.2
        · rw [if_pos q] at hy'
          have e := Option.some.inj hy'
          subst e
          exact ⟨by show i < 60; omega, hs.1, hvx⟩
        · rw [if_neg q] at hy'
          exact ha y hy') hb
    have e2 : nI (1104 + 7 * i) + 2 = nI (1104 + 7 * i + 2) := nI_add _ 2
    have cw : no 9 < no (nI (1104 + 7 * i) + 2).toNatClampNeg + yt ↔ zm < (x.2.2.1 : Int) + W := by
      obtain ⟨v1, v2, v3⟩ := hvx
      rw [e2, nI_clamp (by omega), hs.1.2.2.1, hw]
      exact hx_lt hz (hx_a (hI_n _).symm (hI_n _).symm) (by omega) (by omega)
    rw [wY_closeSessions_10]
    refine br_f (by rw [hn]; exact nI_ge (by omega) (by omega)) (nm_r ex ⟨by rw [e2]; exact vp_in_nI (by omega) (by omega), ?_⟩)
    by_cases c : (x.2.2.1 : Int) + W ≤ zm
    · have c' : s_cl W zm x = true := decide_eq_true c
      refine br_f (fun q => by have := cw.mp q; omega) ?_
      cases acc with
      | none =>
        refine br_t (by decide) (nm_r (nI_1 i) ?_)
        have e : s_b1 (s_cl W zm) s_rk i x none = some (i, x) := if_pos c'
        rw [e] at ih
        exact ih
      | some a =>
        obtain ⟨a1, a2, a3⟩ := ha a rfl
        refine br_f (nI_pos (by omega)) ?_
        refine y_bef (by omega) (by omega) hvx a3 hs.1 a2 ?_
        by_cases q : s_rk x < s_rk a.2
        · have e : s_b1 (s_cl W zm) s_rk i x (some a) = some (i, x) := if_pos ⟨c', q⟩
          rw [e] at ih
          rw [decide_eq_true q]
          exact br_f (by decide) (nm_r (nI_1 i) ih)
        · have e : s_b1 (s_cl W zm) s_rk i x (some a) = some a := if_neg (fun z => q z.2)
          rw [e] at ih
          rw [decide_eq_false q]
          exact br_t rfl (nm_r (nI_1 i) ih)
    · have c' : ¬ s_cl W zm x = true := fun q => c (of_decide_eq_true q)
      refine br_t (cw.mpr (by omega)) (nm_r (nI_1 i) ?_)
      have e : s_b1 (s_cl W zm) s_rk i x acc = acc := by
        cases acc with
        | none => exact if_neg c'
        | some a => exact if_neg (fun z => c' z.1)
      rw [e] at ih
      exact ih
/-- the component's choice -/
def s_ne (W : Nat) (zm : Int) (L : Nat → List Ses) (j : Nat) : Option Nat → Prop
  | none => ∀ i s l, i < j → L i = s :: l → zm < (s.2.1 : Int) + W
  | some b => b < j ∧ ∃ s l, L b = s :: l ∧ (s.2.1 : Int) + W ≤ zm ∧ ∀ i s' l', i < j → L i = s' :: l' → (s'.2.1 : Int) + W ≤ zm → s.2.1 < s'.2.1 ∨ (s.2.1 = s'.2.1 ∧ b ≤ i)
def s_ko : Option Nat → Int32
  | none => -1
  | some b => nI b
theorem x_ne_l {W : Nat} {zm : Int} {L : Nat → List Ses} (hw : wd = nI W) (hW : W ≤ 8) (hz : mk = hI zm) (hz1 : -1000 ≤ zm) (hz2 : zm ≤ 63) (h : s_XL ss (s_b ft lt sc su sl sm) L) (hok : ∀ k, k < 4 → s_ok W (L k)) (hl : ∀ k, k < 4 → (L k).length ≤ 32) :
    ∀ d j acc, j + d = 4 → s_ne W zm L j acc → ∃ r, s_ne W zm L 4 r ∧ ∀ post : Int32 → Prop, post (s_ko r) → wX_nextEnding_4 post kd wd pn la mk lc nw rc km kl kw kr tc ts tl tm ec et ek ev po gt il pc ps pl pm ss ft lt sc su sl sm re kp kt ki kq ks (d + 1) (s_ko acc) (nI j) := by
  intro d
  induction d with
  | zero =>
    intro j acc hj ha
    have : j = 4 := by omega
    subst this
    refine ⟨acc, ha, fun post hp => ?_⟩
    rw [wX_nextEnding_4]
    exact br_t (Int32.le_refl _) hp
  | succ d ih =>
    intro j acc hj ha
    have hj4 : j < 4 := by omega
    have cj : (nI j).toNatClampNeg = j := nI_clamp (by omega)
    have e32 : ∀ i : Nat, (32 : Int32) * nI i = nI (32 * i) := fun i => pk_mul 32 i
    obtain ⟨h1, h2⟩ := h j hj4
    cases eL : L j with
    | nil =>
      rw [eL] at h1
      obtain ⟨r, r1, r2⟩ := ih (j + 1) acc (by omega) (by
        cases acc with
        | none =>
          intro i s l hi hL
          by_cases e : i = j
          · subst e; rw [eL] at hL; cases hL
          · exact ha i s l (by omega) hL
        | some b =>
          obtain ⟨a1, s, l, a2, a3, a4⟩ := ha
          refine ⟨by omega, s, l, a2, a3, fun i s' l' hi hL hc => ?_⟩
          by_cases e : i = j
          · subst e; rw [eL] at hL; cases hL
          · exact a4 i s' l' (by omega) hL hc)
      refine ⟨r, r1, fun post hp => ?_⟩
      rw [wX_nextEnding_4]
      refine br_f (nI_ge (b := 4) hj4 (by omega)) ⟨vp_in_nI hj4 (by omega), br_t (by rw [cj, h1]; exact Int32.le_refl _) ?_⟩
      unfold wX_nextEnding_43 wX_nextEnding_44
      exact br_t rfl (nm_r (nI_1 j) (r2 post hp))
    | cons s l =>
      have hlj := hl j hj4
      rw [eL] at h1 h2 hlj
      have hlj' : l.length + 1 ≤ 32 := hlj
      have hl0 : lt (32 * j) = nI s.2.1 := congrArg (fun z : C6 => z.2.1) h2.1
      have hs := (hok j hj4).2 s (by rw [eL]; exact List.mem_cons_self)
      have cw : mk < lt ((32 : Int32) * nI j).toNatClampNeg + wd ↔ zm < (s.2.1 : Int) + W := by
        rw [e32, nI_clamp (by omega), hl0, hw]
        exact hx_lt hz (hx_a (hI_n _).symm (hI_n _).symm) (by omega) (by omega)
      have hpos : ¬ ss (nI j).toNatClampNeg ≤ 0 := by
        rw [cj, h1]; exact nI_nle (Nat.succ_pos _) (by show l.length + 1 < 2 ^ 31; omega)
      have i32 : vp_in ((32 : Int32) * nI j) 128 := by rw [e32]; exact vp_in_nI (by omega) (by omega)
      by_cases c : (s.2.1 : Int) + W ≤ zm
      · -- it ends
        obtain ⟨acc', ha', hstep⟩ : ∃ acc', s_ne W zm L (j + 1) acc' ∧ ∀ (post : Int32 → Prop) (J4 : Int32 → Int32 → Prop), J4 (s_ko acc') (nI (j + 1)) → wX_nextEnding_44 post J4 (s_ko acc) (nI j) 1 kd wd pn la mk lc nw rc km kl kw kr tc ts tl tm ec et ek ev po gt il pc ps pl pm ss ft lt sc su sl sm re kp kt ki kq ks := by
          cases acc with
          | none =>
            refine ⟨some j, ⟨by omega, s, l, eL, c, fun i s' l' hi hL hc => ?_⟩, fun post J4 hJ => ?_⟩
            · by_cases e : i = j
              · subst e
                rw [eL] at hL
                have e1 := (List.cons.inj hL).1
                subst e1
                exact Or.inr ⟨rfl, Nat.le_refl _⟩
              · have := ha i s' l' (by omega) hL
                omega
            · unfold wX_nextEnding_44
              exact br_f (by decide) (br_t (by decide) (nm_r (nI_1 j) hJ))
          | some b =>
            obtain ⟨a1, s1, l1, a2, a3, a4⟩ := ha
            have hs1 := (hok b (by omega)).2 s1 (by rw [a2]; exact List.mem_cons_self)
            have hb2 := (h b (by omega)).2
            rw [a2] at hb2
            have hl1 : lt (32 * b) = nI s1.2.1 := congrArg (fun z : C6 => z.2.1) hb2.1
            have cc : lt ((32 : Int32) * nI b).toNatClampNeg ≤ lt ((32 : Int32) * nI j).toNatClampNeg ↔ s1.2.1 ≤ s.2.1 := by
              rw [e32, e32, nI_clamp (by omega), nI_clamp (by omega), hl0, hl1, nI_leI (by omega) (by omega)]
            have ib : vp_in ((32 : Int32) * nI b) 128 := by rw [e32]; exact vp_in_nI (by omega) (by omega)
            by_cases q : s1.2.1 ≤ s.2.1
            · refine ⟨some b, ⟨by omega, s1, l1, a2, a3, fun i s' l' hi hL hc => ?_⟩, fun post J4 hJ => ?_⟩
              · by_cases e : i = j
                · subst e
                  rw [eL] at hL
                  have e1 := (List.cons.inj hL).1
                  subst e1
                  omega
                · exact a4 i s' l' (by omega) hL hc
              · unfold wX_nextEnding_44
                exact br_f (by decide) (br_f (nI_pos (by omega)) ⟨i32, ib, br_t (cc.mpr q) (nm_r (nI_1 j) hJ)⟩)
            · refine ⟨some j, ⟨by omega, s, l, eL, c, fun i s' l' hi hL hc => ?_⟩, fun post J4 hJ => ?_⟩
              · by_cases e : i = j
                · subst e
                  rw [eL] at hL
                  have e1 := (List.cons.inj hL).1
                  subst e1
                  exact Or.inr ⟨rfl, Nat.le_refl _⟩
                · have := a4 i s' l' (by omega) hL hc
                  omega
              · unfold wX_nextEnding_44
                exact br_f (by decide) (br_f (nI_pos (by omega)) ⟨i32, ib, br_f (fun z => q (cc.mp z)) (nm_r (nI_1 j) hJ)⟩)
        obtain ⟨r, r1, r2⟩ := ih (j + 1) acc' (by omega) ha'
        refine ⟨r, r1, fun post hp => ?_⟩
        rw [wX_nextEnding_4]
        exact br_f (nI_ge (b := 4) hj4 (by omega)) ⟨vp_in_nI hj4 (by omega), br_f hpos ⟨i32, br_f (fun q => by have := cw.mp q; omega) (hstep post _ (r2 post hp))⟩⟩
      · obtain ⟨r, r1, r2⟩ := ih (j + 1) acc (by omega) (by
          cases acc with
          | none =>
            intro i s' l' hi hL
            by_cases e : i = j
            · subst e
              rw [eL] at hL
              have e1 := (List.cons.inj hL).1
              subst e1
              omega
            · exact ha i s' l' (by omega) hL
          | some b =>
            obtain ⟨a1, s1, l1, a2, a3, a4⟩ := ha
            refine ⟨by omega, s1, l1, a2, a3, fun i s' l' hi hL hc => ?_⟩
            by_cases e : i = j
            · subst e
              rw [eL] at hL
              have e1 := (List.cons.inj hL).1
              subst e1
              exact absurd hc c
            · exact a4 i s' l' (by omega) hL hc)
        refine ⟨r, r1, fun post hp => ?_⟩
        rw [wX_nextEnding_4]
        refine br_f (nI_ge (b := 4) hj4 (by omega)) ⟨vp_in_nI hj4 (by omega), br_f hpos ⟨i32, br_t (cw.mpr (by omega)) ?_⟩⟩
        unfold wX_nextEnding_43 wX_nextEnding_44
        exact br_t rfl (nm_r (nI_1 j) (r2 post hp))
theorem x_ne {W : Nat} {zm : Int} {L : Nat → List Ses} (hw : wd = nI W) (hW : W ≤ 8) (hz : mk = hI zm) (hz1 : -1000 ≤ zm) (hz2 : zm ≤ 63) (h : s_XL ss (s_b ft lt sc su sl sm) L) (hok : ∀ k, k < 4 → s_ok W (L k)) (hl : ∀ k, k < 4 → (L k).length ≤ 32) :
    ∃ r, s_ne W zm L 4 r ∧ ∀ post : Int32 → Prop, post (s_ko r) → wpX_nextEnding post (kd, wd, pn, la, mk, lc, nw, rc, km, kl, kw, kr, tc, ts, tl, tm, ec, et, ek, ev, po, gt, il, pc, ps, pl, pm, ss, ft, lt, sc, su, sl, sm, re, kp, kt, ki, kq, ks) := by
  obtain ⟨r, r1, r2⟩ := x_ne_l (kd := kd) (pn := pn) (la := la) (lc := lc) (nw := nw) (rc := rc) (km := km) (kl := kl) (kw := kw) (kr := kr) (tc := tc) (ts := ts) (tl := tl) (tm := tm) (ec := ec) (et := et) (ek := ek) (ev := ev) (po := po) (gt := gt) (il := il) (pc := pc) (ps := ps) (pl := pl) (pm := pm) (re := re) (kp := kp) (kt := kt) (ki := ki) (kq := kq) (ks := ks) hw hW hz hz1 hz2 h hok hl 4 0 none (by omega) (fun i s l hi => absurd hi (by omega))
  refine ⟨r, r1, fun post hp => ?_⟩
  unfold wpX_nextEnding
  exact ⟨5, r2 post hp⟩
end CLOSES
end
section
theorem s_allv {W : Nat} {L : Nat → List Ses} {M : List (Nat × Ses)} (hok : ∀ k, k < 4 → s_ok W (L k)) (hp : M.Perm (s_fl L)) : ∀ x ∈ M, s_v x := by
  intro x hx
  have h1 := s_fl_m.mp (hp.mem_iff.mp hx)
  have h2 := (hok x.1 h1.1).2 x.2 h1.2
  exact ⟨h1.1, h2.1, h2.2⟩
theorem s_rk_e {x y : Nat × Ses} (vx : s_v x) (vy : s_v y) (h : s_rk x = s_rk y) : x.1 = y.1 ∧ x.2.2.1 = y.2.2.1 := by
  obtain ⟨a1, a2, a3⟩ := vx
  obtain ⟨b1, b2, b3⟩ := vy
  unfold s_rk at h
  have e : x.2.2.1 * 4 + x.1 = y.2.2.1 * 4 + y.1 := by
    have f1 : x.2.1 < 64 := by omega
    have f2 : y.2.1 < 64 := by omega
    clear a1 a2 a3 b1 b2 b3
    generalize x.2.2.1 * 4 + x.1 = u at h ⊢
    generalize y.2.2.1 * 4 + y.1 = w at h ⊢
    omega
  clear h
  constructor <;> omega
/-- what the component finds is what the reference finds -/
theorem s_same {W : Nat} {zm : Int} {L : Nat → List Ses} {M : List (Nat × Ses)} (hok : ∀ k, k < 4 → s_ok W (L k)) (hp : M.Perm (s_fl L)) {r : Option Nat} (hr : s_ne W zm L 4 r) :
    match r with
    | none => s_bs (s_cl W zm) s_rk none 0 M = none
    | some k => k < 4 ∧ ∃ s l A B, L k = s :: l ∧ M = A ++ (k, s) :: B ∧ s_bs (s_cl W zm) s_rk none 0 M = some (A.length, k, s) := by
  have hv := s_allv hok hp
  cases r with
  | none =>
    show s_bs (s_cl W zm) s_rk none 0 M = none
    cases eb : s_bs (s_cl W zm) s_rk none 0 M with
    | none => rfl
    | some y =>
      exfalso
      obtain ⟨h1, -, -⟩ := s_bs_s M none 0 eb
      rcases h1 with h1 | ⟨A, B, e1, -, e3⟩
      · cases h1
      · have hm : y.2 ∈ M := by rw [e1]; exact List.mem_append.mpr (Or.inr List.mem_cons_self)
        have h2 := s_fl_m.mp (hp.mem_iff.mp hm)
        have h3 := of_decide_eq_true e3
        cases eL : L y.2.1 with
        | nil => rw [eL] at h2; exact nomatch h2.2
        | cons s l =>
          have h4 := hr y.2.1 s l h2.1 eL
          have h5 := hok y.2.1 h2.1
          have hm2 := h2.2
          rw [eL] at h5 hm2
          have h6 := h5.2 y.2.2 hm2
          rcases s_ok_h h5 hm2 with e | e
          · rw [e] at h3; omega
          · have h7 := h5.2 s List.mem_cons_self
            omega
  | some k =>
    obtain ⟨hk, s, l, eL, hc, hmin⟩ := hr
    refine ⟨hk, ?_⟩
    have hsm : s ∈ L k := by rw [eL]; exact List.mem_cons_self
    have hmk : (k, s) ∈ M := hp.mem_iff.mpr (s_fl_m.mpr ⟨hk, hsm⟩)
    have hck : s_cl W zm (k, s) = true := decide_eq_true hc
    cases eb : s_bs (s_cl W zm) s_rk none 0 M with
    | none =>
      exfalso
      have := (s_bs_n M none 0 eb).2 (k, s) hmk
      rw [hck] at this
      cases this
    | some y =>
      obtain ⟨h1, h2, -⟩ := s_bs_s M none 0 eb
      rcases h1 with h1 | ⟨A, B, e1, e2, e3⟩
      · cases h1
      · have hm : y.2 ∈ M := by rw [e1]; exact List.mem_append.mpr (Or.inr List.mem_cons_self)
        have hy := s_fl_m.mp (hp.mem_iff.mp hm)
        have r1 : s_rk y.2 ≤ s_rk (k, s) := h2 (k, s) hmk hck
        have h3 := of_decide_eq_true e3
        have r2 : s_rk (k, s) ≤ s_rk y.2 := by
          cases eL2 : L y.2.1 with
          | nil => rw [eL2] at hy; exact nomatch hy.2
          | cons s' l' =>
            have h5 := hok y.2.1 hy.1
            have hm2 := hy.2
            rw [eL2] at h5 hm2
            have h6 := h5.2 y.2.2 hm2
            have h7 := h5.2 s' List.mem_cons_self
            have h8 : s'.2.1 ≤ y.2.2.2.1 := by
              rcases s_ok_h h5 hm2 with e | e
              · rw [e]; exact Nat.le_refl _
              · omega
            have h9 := hmin y.2.1 s' l' hy.1 eL2 (by omega)
            have hs := (hok k hk).2 s hsm
            unfold s_rk
            show (s.2.1 * 4 + k) * 64 + s.1 ≤ (y.2.2.2.1 * 4 + y.2.1) * 64 + y.2.2.1
            by_cases ek : y.2.1 = k
            · rw [ek, eL] at eL2
              have e := (List.cons.inj eL2).1
              rcases s_ok_h h5 hm2 with e' | e'
              · rw [e', ← e, ek]; exact Nat.le_refl _
              · rw [← e] at e'; omega
            · omega
        have hr := s_rk_e (hv y.2 hm) (hv (k, s) hmk) (Nat.le_antisymm r1 r2)
        have k1 : y.2.1 = k := hr.1
        have k2 : y.2.2.2.1 = s.2.1 := hr.2
        have hy2 := hy.2
        rw [k1] at hy2
        have k3 : y.2.2 = s := s_ok_u (hok k hk) hy2 hsm k2
        have k4 : y.2 = (k, s) := by
          rw [← k1, ← k3]
        rw [k4] at e1
        refine ⟨s, l, A, B, eL, e1, ?_⟩
        rw [Nat.zero_add] at e2
        have k5 : y = (A.length, k, s) := by rw [← e2, ← k4]
        rw [k5]
section LOCKCS
variable {kd wd pn la mk lc nw rc km kl kw kr tc ts tl tm : Int32} {ec et ek ev po gt il pc ps pl pm ss ft lt sc su sl sm re kp kt ki kq ks : Nat → Int32}
variable {yk yt yp yl : Int32} {sz cd vl no cp : Nat → Int32}
theorem lk_cs {W : Nat} {zm : Int} (hw : wd = nI W) (hw' : yt = nI W) (hW1 : 1 ≤ W) (hW : W ≤ 8) (hz : mk = hI zm) (hz1 : -1000 ≤ zm) (hz2 : zm ≤ 63) :
    ∀ (n : Nat) (M : List (Nat × Ses)) (L : Nat → List Ses) (R : Nat) (tc ts tl tm : Int32) (re ss ft lt sc su sl sm no : Nat → Int32), M.length = n → s_XL ss (s_b ft lt sc su sl sm) L → s_YL no M → M.Perm (s_fl L) → (∀ k, k < 4 → s_ok W (L k)) → r_R R re no → R + s_n M ≤ 60 → no 9 = hI zm →
    ∃ (R' : Nat) (tc' ts' tl' tm' : Int32) (re' ss' ft' lt' sc' su' sl' sm' no' : Nat → Int32) (L' : Nat → List Ses) (M' : List (Nat × Ses)), (s_XL ss' (s_b ft' lt' sc' su' sl' sm') L' ∧ s_YL no' M' ∧ M'.Perm (s_fl L') ∧ (∀ k, k < 4 → s_ok W (L' k)) ∧ r_R R' re' no' ∧ R ≤ R' ∧ R' + s_n M' ≤ R + s_n M ∧ (∀ j, j < 7 * R → re' j = re j) ∧ (∀ j, j ≠ 11 → j ≠ 12 → j < 1104 → no' j = no j)) ∧
      (∀ post : SX → Prop, post (kd, wd, pn, la, mk, lc, nw, nI R', km, kl, kw, kr, tc', ts', tl', tm', ec, et, ek, ev, po, gt, il, pc, ps, pl, pm, ss', ft', lt', sc', su', sl', sm', re', kp, kt, ki, kq, ks) → ∃ (m : Nat) (r : Int32), (∀ q : Int32 → Prop, q r → wpX_nextEnding q (kd, wd, pn, la, mk, lc, nw, nI R, km, kl, kw, kr, tc, ts, tl, tm, ec, et, ek, ev, po, gt, il, pc, ps, pl, pm, ss, ft, lt, sc, su, sl, sm, re, kp, kt, ki, kq, ks)) ∧ wX_closeSessions_5 post m r kd wd pn la mk lc nw (nI R) km kl kw kr tc ts tl tm ec et ek ev po gt il pc ps pl pm ss ft lt sc su sl sm re kp kt ki kq ks) ∧
      (∀ post : SY → Prop, post (yk, yt, yp, yl, sz, cd, vl, no', cp) → ∃ m : Nat, wY_closeSessions_2 post m 1 yk yt yp yl sz cd vl no cp) := by
  intro n
  induction n with
  | zero =>
    intro M L R tc ts tl tm re ss ft lt sc su sl sm no hn hX hY hp hok hR hb h9
    have hl : ∀ k, k < 4 → (L k).length ≤ 32 := fun k hk => s_ok_l hW1 (hok k hk)
    obtain ⟨r, r1, r2⟩ := x_ne (kd := kd) (wd := wd) (pn := pn) (la := la) (mk := mk) (lc := lc) (nw := nw) (rc := nI R) (km := km) (kl := kl) (kw := kw) (kr := kr) (tc := tc) (ts := ts) (tl := tl) (tm := tm) (ec := ec) (et := et) (ek := ek) (ev := ev) (po := po) (gt := gt) (il := il) (pc := pc) (ps := ps) (pl := pl) (pm := pm) (re := re) (kp := kp) (kt := kt) (ki := ki) (kq := kq) (ks := ks) hw hW hz hz1 hz2 hX hok hl
    have hs := s_same hok hp r1
    have hM : M = [] := List.eq_nil_of_length_eq_zero hn
    subst hM
    cases r with
    | some k =>
      obtain ⟨-, s, l, A, B, -, e, -⟩ := hs
      exact absurd (congrArg List.length e) (by rw [List.length_append, List.length_cons]; show ¬ 0 = A.length + (B.length + 1); omega)
    | none =>
      refine ⟨R, tc, ts, tl, tm, re, ss, ft, lt, sc, su, sl, sm, no, L, [], ⟨hX, hY, hp, hok, hR, Nat.le_refl _, Nat.le_refl _, fun _ _ => rfl, fun _ _ _ _ => rfl⟩, fun post h => ⟨1, -1, r2, ?_⟩, fun post h => ⟨2, ?_⟩⟩
      · rw [wX_closeSessions_5]
        exact br_t (by decide) h
      · rw [wY_closeSessions_2]
        refine br_f (by decide) ⟨_, y_min hw' hW hY.1 (by show 0 ≤ 60; omega) h9 hz1 hz2 (b := none) (fun _ => ?_) (fun y q => nomatch q) [] 0 none hY.2 rfl (fun _ q => nomatch q) (fun y q => nomatch q) rfl⟩
        unfold wY_closeSessions_87
        refine br_t rfl ?_
        rw [wY_closeSessions_2]
        exact br_t rfl h
  | succ n ih =>
    intro M L R tc ts tl tm re ss ft lt sc su sl sm no hn hX hY hp hok hR hb h9
    have hl : ∀ k, k < 4 → (L k).length ≤ 32 := fun k hk => s_ok_l hW1 (hok k hk)
    have hlM := s_n_l M
    have hv := s_allv hok hp
    obtain ⟨r, r1, r2⟩ := x_ne (kd := kd) (wd := wd) (pn := pn) (la := la) (mk := mk) (lc := lc) (nw := nw) (rc := nI R) (km := km) (kl := kl) (kw := kw) (kr := kr) (tc := tc) (ts := ts) (tl := tl) (tm := tm) (ec := ec) (et := et) (ek := ek) (ev := ev) (po := po) (gt := gt) (il := il) (pc := pc) (ps := ps) (pl := pl) (pm := pm) (re := re) (kp := kp) (kt := kt) (ki := ki) (kq := kq) (ks := ks) hw hW hz hz1 hz2 hX hok hl
    have hs := s_same hok hp r1
    cases r with
    | none =>
      refine ⟨R, tc, ts, tl, tm, re, ss, ft, lt, sc, su, sl, sm, no, L, M, ⟨hX, hY, hp, hok, hR, Nat.le_refl _, Nat.le_refl _, fun _ _ => rfl, fun _ _ _ _ => rfl⟩, fun post h => ⟨1, -1, r2, ?_⟩, fun post h => ⟨2, ?_⟩⟩
      · rw [wX_closeSessions_5]
        exact br_t (by decide) h
      · rw [wY_closeSessions_2]
        refine br_f (by decide) ⟨_, y_min hw' hW hY.1 (by omega) h9 hz1 hz2 (b := none) (fun _ => ?_) (fun y q => nomatch q) M 0 none hY.2 (by omega) hv (fun y q => nomatch q) hs.symm⟩
        unfold wY_closeSessions_87
        refine br_t rfl ?_
        rw [wY_closeSessions_2]
        exact br_t rfl h
    | some k =>
      obtain ⟨hk, s, l, A, B, eL, eM, eb⟩ := hs
      have hlen : A.length + B.length + 1 = n + 1 := by
        rw [← hn, eM, List.length_append, List.length_cons]; rfl
      have hcnt : s_n M = s_n (A ++ B) + (s.2.2.1 + 1) := by
        rw [eM, s_n_a, s_n_a]
        show s_n A + (s.2.2.1 + 1 + s_n B) = _
        omega
      have hsk := (hok k hk).2 s (by rw [eL]; exact List.mem_cons_self)
      have hxk := (hX k hk).2
      have hnk := (hX k hk).1
      rw [eL] at hxk hnk
      have hlk := hl k hk
      rw [eL] at hlk
      have hlk' : l.length + 1 ≤ 32 := hlk
      have hx0 := hxk.1
      have g1 : ft (32 * k) = nI s.1 := congrArg (fun z : C6 => z.1) hx0
      have g2 : lt (32 * k) = nI s.2.1 := congrArg (fun z : C6 => z.2.1) hx0
      have g3 : sc (32 * k) = nI (s.2.2.1 + 1) := congrArg (fun z : C6 => z.2.2.1) hx0
      have g4 : su (32 * k) = s.2.2.2.1 := congrArg (fun z : C6 => z.2.2.2.1) hx0
      have g5 : sl (32 * k) = s.2.2.2.2.1 := congrArg (fun z : C6 => z.2.2.2.2.1) hx0
      have g6 : sm (32 * k) = s.2.2.2.2.2 := congrArg (fun z : C6 => z.2.2.2.2.2) hx0
      -- the reference's session
      have hYA := hY.2
      rw [eM, s_ys_a] at hYA
      have yx := hYA.2.1
      rw [Nat.zero_add] at yx
      obtain ⟨a, ea⟩ : ∃ a, a = 1104 + 7 * A.length := ⟨_, rfl⟩
      rw [← ea] at yx
      obtain ⟨y0, y1, y2, y3, y4, y5, y6⟩ := yx
      -- both add
      obtain ⟨re1, xr0, xa0, xa1, xa2, xa3, xa4, xa5, xa6, xw⟩ := x_addR (kd := kd) (wd := wd) (pn := pn) (la := la) (mk := mk) (lc := lc) (nw := nw) (rc := nI R) (km := km) (kl := kl) (kw := kw) (kr := kr) (tc := nI (s.2.2.1 + 1)) (ts := s.2.2.2.1) (tl := s.2.2.2.2.1) (tm := s.2.2.2.2.2) (ec := ec) (et := et) (ek := ek) (ev := ev) (po := po) (gt := gt) (il := il) (pc := pc) (ps := ps) (pl := pl) (pm := pm) (ss := ss) (ft := ft) (lt := lt) (sc := sc) (su := su) (sl := sl) (sm := sm) (re := re) (kp := kp) (kt := kt) (ki := ki) (kq := kq) (ks := ks) (R := R) (p0 := nI k) (p1 := nI s.1) (p2 := nI (s.2.1 + W)) (by omega)
      obtain ⟨no1, n11, n1o, ya0, ya1, ya2, ya3, ya4, ya5, ya6, yw⟩ := y_add (yk := yk) (yt := yt) (yp := yp) (yl := yl) (sz := sz) (cd := cd) (vl := vl) (no := no) (cp := cp) (R := R) (a := a + 3) (p0 := nI k) (p1 := nI s.1) (p2 := nI (s.2.1 + W)) (by omega) hR.1 (by omega) (by omega)
      have hR1 : r_R (R + 1) re1 no1 := by
        refine r_R_s hR n11 xr0 (fun j hj => n1o _ (by omega) (by omega)) (lt7 ?_ ?_ ?_ ?_ ?_ ?_ ?_)
        · exact ya0.trans xa0.symm
        · exact ya1.trans xa1.symm
        · exact ya2.trans xa2.symm
        · exact ya3.trans (y3.trans xa3.symm)
        · exact ya4.trans (y4.trans xa4.symm)
        · exact ya5.trans (y5.trans xa5.symm)
        · exact ya6.trans (y6.trans xa6.symm)
      have hY1 : s_YL no1 (A ++ (k, s) :: B) := by
        rw [← eM]
        refine ⟨(n1o 12 (by omega) (by omega)).trans hY.1, s_ys_f M 0 (fun j h1 h2 => n1o j (by omega) (by omega)) hY.2⟩
      -- both drop
      obtain ⟨no2, M1, hY2, hp2, n2o, yd⟩ := y_dropL (yk := yk) (yt := yt) (yp := yp) (yl := yl) (sz := sz) (cd := cd) (vl := vl) (cp := cp) hY1 (by omega)
      have rm := s_rmx (K := k) (lo := 32 * k) (hi := 32 * k + l.length) (N := l.length) (A := []) (s := s) (B := l) hk hX hl eL (by show 32 * k + 0 = 32 * k; omega) rfl (by show l.length = 0 + l.length; omega)
      have rm' : s_XL (upd ss k (nI l.length)) (s_b (sh_L ft (32 * k) (32 * k + l.length)) (sh_L lt (32 * k) (32 * k + l.length)) (sh_L sc (32 * k) (32 * k + l.length)) (sh_L su (32 * k) (32 * k + l.length)) (sh_L sl (32 * k) (32 * k + l.length)) (sh_L sm (32 * k) (32 * k + l.length))) (s_st L k l) := rm
      have hpp : M1.Perm (s_fl (s_st L k l)) := by
        have p1 : (s_fl L).Perm ((k, s) :: s_fl (s_st L k l)) := by
          have := s_fl_i (L := L) (k := k) (A := []) (B := l) (s := s) hk
          rw [List.nil_append, ← eL, s_st_e] at this
          exact this
        have p2 : M.Perm ((k, s) :: (A ++ B)) := by rw [eM]; exact List.perm_middle
        exact hp2.trans ((p2.symm.trans (hp.trans p1)).cons_inv)
      have hok1 : ∀ j, j < 4 → s_ok W (s_st L k l j) := by
        intro j hj
        by_cases e : j = k
        · rw [e, s_st_s]
          exact s_ok_t (s := s) (eL ▸ hok k hk)
        · rw [s_st_n e]; exact hok j hj
      have hR2 : r_R (R + 1) re1 no2 := by
        refine ⟨(n2o 11 (by omega) (by omega)).trans hR1.1, fun j hj => (n2o _ (by omega) (by omega)).trans (hR1.2 j hj)⟩
      have hcn : s_n M1 = s_n (A ++ B) := s_n_p hp2
      have hlen1 : M1.length = n := by rw [hp2.length_eq, List.length_append]; omega
      obtain ⟨R', tc', ts', tl', tm', re', ss', ft', lt', sc', su', sl', sm', no', L', M', ⟨q1, q2, q3, q4, q5, q6, q7, q8, q9⟩, qX, qY⟩ := ih M1 (s_st L k l) (R + 1) (nI (s.2.2.1 + 1)) s.2.2.2.1 s.2.2.2.2.1 s.2.2.2.2.2 re1 (upd ss k (nI l.length)) (sh_L ft (32 * k) (32 * k + l.length)) (sh_L lt (32 * k) (32 * k + l.length)) (sh_L sc (32 * k) (32 * k + l.length)) (sh_L su (32 * k) (32 * k + l.length)) (sh_L sl (32 * k) (32 * k + l.length)) (sh_L sm (32 * k) (32 * k + l.length)) no2 hlen1 rm' hY2 hpp hok1 hR2 (by omega) (by rw [n2o 9 (by omega) (by omega), n1o 9 (by omega) (by omega), h9])
      refine ⟨R', tc', ts', tl', tm', re', ss', ft', lt', sc', su', sl', sm', no', L', M', ⟨q1, q2, q3, q4, q5, by omega, by omega, fun j hj => (q8 j (by omega)).trans (xr0 j hj), fun j h1 h2 h3 => (q9 j h1 h2 h3).trans ((n2o j h2 (by omega)).trans (n1o j h1 (by omega)))⟩, fun post h => ?_, fun post h => ?_⟩
      · obtain ⟨m, rr, s1, s2⟩ := qX post h
        refine ⟨m + 1, nI k, r2, ?_⟩
        have e32 : (32 : Int32) * nI k = nI (32 * k) := pk_mul 32 k
        have i32 : vp_in (nI (32 * k)) 128 := vp_in_nI (by omega) (by omega)
        have c32 : (nI (32 * k)).toNatClampNeg = 32 * k := nI_clamp (by omega)
        rw [wX_closeSessions_5]
        refine br_f (nI_pos (by omega)) (nm_r e32 ⟨i32, nm_r (e' := nI (s.2.2.1 + 1)) (by rw [c32, g3]) ⟨i32, nm_r (e' := s.2.2.2.1) (by rw [c32, g4]) ⟨i32, nm_r (e' := s.2.2.2.2.1) (by rw [c32, g5]) ⟨i32, nm_r (e' := s.2.2.2.2.2) (by rw [c32, g6]) ⟨i32, i32, ?_⟩⟩⟩⟩⟩)
        rw [c32, g1, g2, hw, nI_add, ← hw]
        refine xw _ rfl ?_
        refine x_rem (N := l.length) hk (by omega) hnk (by omega) ?_
        exact s1 _ s2
      · obtain ⟨m, s2⟩ := qY post h
        refine ⟨m + 1, ?_⟩
        rw [wY_closeSessions_2]
        refine br_f (by decide) ⟨_, y_min hw' hW hY.1 (by omega) h9 hz1 hz2 (b := some (A.length, k, s)) (fun q => nomatch q) (fun y q => ?_) M 0 none hY.2 (by omega) hv (fun y q => nomatch q) eb.symm⟩
        have ey := Option.some.inj q
        subst ey
        show wY_closeSessions_87 post _ (nI (1104 + 7 * A.length)) 1 yk yt yp yl sz cd vl no cp
        rw [← ea]
        unfold wY_closeSessions_87
        have b1 : nI a + 1 = nI (a + 1) := nI_1 a
        have b2 : nI a + 2 = nI (a + 2) := nI_add a 2
        have b3 : nI a + 3 = nI (a + 3) := nI_add a 3
        rw [b1, b2, b3, nI_clamp (show a < 2 ^ 31 by omega), nI_clamp (show a + 1 < 2 ^ 31 by omega), nI_clamp (show a + 2 < 2 ^ 31 by omega), y0, y1, y2, hw', nI_add, ← hw']
        refine br_f (by decide) ⟨vp_in_nI (by omega) (by omega), vp_in_nI (by omega) (by omega), vp_in_nI (by omega) (by omega), yw _ _ rfl ?_⟩
        rw [ea]
        exact yd _ s2
end LOCKCS
end
section
/-! G: windows -/
def e_n (PN W m : Nat) : Int := ((m : Int) - 4 + PN) * W
theorem e_b {PN W m : Nat} (hm : m ≤ 68) (hP : PN ≤ 4) (hW : W ≤ 8) : -1000 ≤ e_n PN W m ∧ e_n PN W m ≤ 1000 := by
  unfold e_n
  have c : W = 0 ∨ W = 1 ∨ W = 2 ∨ W = 3 ∨ W = 4 ∨ W = 5 ∨ W = 6 ∨ W = 7 ∨ W = 8 := by omega
  rcases c with rfl | rfl | rfl | rfl | rfl | rfl | rfl | rfl | rfl <;> omega
theorem e_b2 {W m : Nat} (hm : m ≤ 72) (hW : W ≤ 8) : -1000 ≤ ((m : Int) - 4) * W ∧ ((m : Int) - 4) * W ≤ 1000 := by
  have c : W = 0 ∨ W = 1 ∨ W = 2 ∨ W = 3 ∨ W = 4 ∨ W = 5 ∨ W = 6 ∨ W = 7 ∨ W = 8 := by omega
  rcases c with rfl | rfl | rfl | rfl | rfl | rfl | rfl | rfl | rfl <;> omega
theorem e_mono {PN W m m' : Nat} (h : m ≤ m') : e_n PN W m ≤ e_n PN W m' := by
  unfold e_n
  exact Int.mul_le_mul_of_nonneg_right (by omega) (by omega)
theorem e_d {W t : Nat} (hW : 1 ≤ W) (a : Int) : a * W ≤ (t : Int) ↔ a ≤ ((t / W : Nat) : Int) := by
  have h1 : t / W * W ≤ t := Nat.div_mul_le_self t W
  have h2 : t < (t / W + 1) * W := by
    rw [Nat.add_mul, Nat.one_mul]
    have := Nat.div_add_mod' t W
    have := Nat.mod_lt t (show W > 0 by omega)
    omega
  generalize t / W = p at *
  have h1' : ((p : Int)) * W ≤ t := by rw [← Int.natCast_mul]; omega
  have h2' : (t : Int) < ((p : Int) + 1) * W := by
    have e : (((p + 1) * W : Nat) : Int) = ((p : Int) + 1) * W := by rw [Int.natCast_mul]; rfl
    rw [← e]; omega
  constructor
  · intro h
    by_cases c : a ≤ (p : Int)
    · exact c
    · have h3 : ((p : Int) + 1) * W ≤ a * W := Int.mul_le_mul_of_nonneg_right (by omega) (by omega)
      omega
  · intro h
    have h3 : a * W ≤ (p : Int) * W := Int.mul_le_mul_of_nonneg_right h (by omega)
    omega
/-- the lowest end is at or above the width -/
theorem e_63 {PN W m : Nat} (hW : 1 ≤ W) {z : Int} (h : e_n PN W m ≤ z) (hz : z ≤ 63) : m + PN ≤ 67 := by
  by_cases c : m + PN ≤ 67
  · exact c
  · exfalso
    unfold e_n at h
    have h3 : ((m : Int) - 4 + PN) * 1 ≤ ((m : Int) - 4 + PN) * W := Int.mul_le_mul_of_nonneg_left (by omega) (by omega)
    omega
def r_P (P : Nat → Nat → Option Qv) (pc ps pl pm : Nat → Int32) : Prop := ∀ k i, k < 4 → 4 ≤ i → i < 68 → q_X pc ps pl pm (64 * k + (i - 4)) (P k i)
def p_u (P : Nat → Nat → Option Qv) (K i0 : Nat) (e : Option Qv) : Nat → Nat → Option Qv := fun k i => if k = K ∧ i = i0 then q_m (P k i) e else P k i
theorem p_u_s {P : Nat → Nat → Option Qv} {K i0 : Nat} {e : Option Qv} : p_u P K i0 e K i0 = q_m (P K i0) e := if_pos ⟨rfl, rfl⟩
theorem p_u_n {P : Nat → Nat → Option Qv} {K i0 k i : Nat} {e : Option Qv} (h : ¬ (k = K ∧ i = i0)) : p_u P K i0 e k i = P k i := if_neg h
section XWIN
variable {kd wd pn la mk lc nw rc km kl kw kr tc ts tl tm : Int32} {ec et ek ev po gt il pc ps pl pm ss ft lt sc su sl sm re kp kt ki kq ks : Nat → Int32}
variable {yk yt yp yl : Int32} {sz cd vl no cp : Nat → Int32}
theorem x_end {post : Int32 → Prop} {PN W m : Nat} {p0 : Int32} (hp : pn = nI PN) (hw : wd = nI W) (h0 : p0 = hI ((m : Int) - 4)) (h : post (hI (e_n PN W m))) : wpX_endOf post (kd, wd, pn, la, mk, lc, nw, rc, km, kl, kw, kr, tc, ts, tl, tm, ec, et, ek, ev, po, gt, il, pc, ps, pl, pm, ss, ft, lt, sc, su, sl, sm, re, kp, kt, ki, kq, ks) p0 := by
  unfold wpX_endOf
  show post ((p0 + pn) * wd)
  rw [hx_m (hx_a h0 (hx_n hp)) (hx_n hw)]
  exact h
theorem x_addP {post : SX → Prop} {q : Option Qv} {x : Qv} {i : Nat} (hi : i < 256) (hq : q_n q < 2 ^ 31) (hx : q_X pc ps pl pm i (some x)) (h : post (kd, wd, pn, la, mk, lc, nw, rc, km, kl, kw, kr, q_0 (q_m q (some x)), q_1 (q_m q (some x)), q_2 (q_m q (some x)), q_3 (q_m q (some x)), ec, et, ek, ev, po, gt, il, pc, ps, pl, pm, ss, ft, lt, sc, su, sl, sm, re, kp, kt, ki, kq, ks)) : wpX_addPane post (kd, wd, pn, la, mk, lc, nw, rc, km, kl, kw, kr, q_0 q, q_1 q, q_2 q, q_3 q, ec, et, ek, ev, po, gt, il, pc, ps, pl, pm, ss, ft, lt, sc, su, sl, sm, re, kp, kt, ki, kq, ks) (nI i) := by
  have ci : (nI i).toNatClampNeg = i := nI_clamp (by omega)
  have ii : vp_in (nI i) 256 := vp_in_nI hi (by omega)
  obtain ⟨x0, x1, x2, x3⟩ := hx
  have k71 : ∀ w l' : Int32, w = q_3 (q_m q (some x)) → l' = q_2 (q_m q (some x)) → wX_addPane_71 post (nI i) w kd wd pn la mk lc nw rc km kl kw kr (q_0 q) (q_1 q) l' (q_3 q) ec et ek ev po gt il pc ps pl pm ss ft lt sc su sl sm re kp kt ki kq ks := by
    intro w l' e1 e2
    subst e1 e2
    unfold wX_addPane_71
    refine ⟨ii, nm_r (e' := q_0 (q_m q (some x))) ?_ ⟨ii, nm_r (e' := q_1 (q_m q (some x))) ?_ h⟩⟩
    · rw [ci, x0, q_0n, q_0n, q_n_m, nI_add]; rfl
    · rw [ci, x1]
      cases q with
      | none => exact Int32.zero_add _
      | some y => rfl
  cases q with
  | none =>
    have k58 : wX_addPane_58 post (nI i) kd wd pn la mk lc nw rc km kl kw kr (q_0 none) (q_1 none) x.2.2.1 (q_3 none) ec et ek ev po gt il pc ps pl pm ss ft lt sc su sl sm re kp kt ki kq ks := by
      unfold wX_addPane_58
      rw [ci, x3]
      exact ⟨ii, k71 _ _ rfl rfl⟩
    unfold wpX_addPane
    refine br_t rfl ?_
    unfold wX_addPane_21
    rw [ci, x2]
    refine ⟨ii, ?_⟩
    unfold wX_addPane_34
    exact br_t rfl k58
  | some y =>
    have hn0 : ¬ q_0 (some y) = 0 := nI_ne0 (Nat.succ_pos _) hq
    have k34 : ∀ w : Int32, w = q_mn y.2.2.1 x.2.2.1 → wX_addPane_34 post (nI i) w kd wd pn la mk lc nw rc km kl kw kr (q_0 (some y)) (q_1 (some y)) (q_2 (some y)) (q_3 (some y)) ec et ek ev po gt il pc ps pl pm ss ft lt sc su sl sm re kp kt ki kq ks := by
      intro w e
      unfold wX_addPane_34
      rw [ci, x3]
      refine br_f hn0 ⟨ii, br_c (fun c => k71 _ _ ?_ e) (fun c => ?_)⟩
      · exact (if_pos c).symm
      · unfold wX_addPane_58
        rw [ci, x3]
        exact ⟨ii, k71 _ _ (if_neg c).symm e⟩
    unfold wpX_addPane
    refine br_f hn0 ⟨ii, br_c (fun c => k34 _ ?_) (fun c => ?_)⟩
    · rw [ci, x2] at c
      exact (if_pos c).symm
    · rw [ci, x2] at c
      unfold wX_addPane_21
      rw [ci, x2]
      exact ⟨ii, k34 _ (if_neg c).symm⟩
theorem x_pt {post : SX → Prop} {K PN m : Nat} {P : Nat → Nat → Option Qv} {p0 : Int32} (hK : K < 4) (hm : m ≤ 68) (hPN : PN ≤ 4) (hp : pn = nI PN) (h0 : p0 = hI ((m : Int) - 4)) (hP : r_P P pc ps pl pm) (hPn : ∀ k i, i < 4 ∨ 68 ≤ i → P k i = none) (hb : ∀ k i, q_n (P k i) ≤ 60) (h : post (kd, wd, pn, la, mk, lc, nw, rc, km, kl, kw, kr, q_0 (q_w (P K) m PN), q_1 (q_w (P K) m PN), q_2 (q_w (P K) m PN), q_3 (q_w (P K) m PN), ec, et, ek, ev, po, gt, il, pc, ps, pl, pm, ss, ft, lt, sc, su, sl, sm, re, kp, kt, ki, kq, ks)) : wpX_putTogether post (kd, wd, pn, la, mk, lc, nw, rc, km, kl, kw, kr, tc, ts, tl, tm, ec, et, ek, ev, po, gt, il, pc, ps, pl, pm, ss, ft, lt, sc, su, sl, sm, re, kp, kt, ki, kq, ks) p0 (nI K) := by
  subst h0
  have lp : ∀ d j, j + d = PN → wX_putTogether_22 post (hI ((m : Int) - 4)) (nI K) (d + 1) (hI ((m : Int) + j - 4)) kd wd pn la mk lc nw rc km kl kw kr (q_0 (q_w (P K) m j)) (q_1 (q_w (P K) m j)) (q_2 (q_w (P K) m j)) (q_3 (q_w (P K) m j)) ec et ek ev po gt il pc ps pl pm ss ft lt sc su sl sm re kp kt ki kq ks := by
    intro d
    induction d with
    | zero =>
      intro j hj
      have : j = PN := by omega
      subst this
      rw [wX_putTogether_22]
      refine br_t ?_ h
      exact (hx_le (hx_a rfl (hx_n hp)) rfl (by omega) (by omega)).mpr (by omega)
    | succ d ih =>
      intro j hj
      have hbj : q_n (q_w (P K) m j) ≤ j * 60 := q_w_n (hb K) j
      have hstep : hI ((m : Int) + j - 4) + 1 = hI ((m : Int) + (j + 1 : Nat) - 4) := by
        rw [hI_1]; exact congrArg hI (by omega)
      have ih' := ih (j + 1) (by omega)
      have hsame : P K (m + j) = none → q_w (P K) m (j + 1) = q_w (P K) m j := by
        intro e
        rw [q_w, e, q_m_n]
      rw [wX_putTogether_22]
      refine br_f (fun q => ?_) ?_
      · have := (hx_le (hx_a rfl (hx_n hp)) rfl (by omega) (by omega)).mp q
        omega
      by_cases c1 : m + j < 4
      · have e := hsame (hPn K _ (Or.inl c1))
        rw [e] at ih'
        refine br_t ((hx_lt (a := (m : Int) + j - 4) (b := 0) rfl rfl (by omega) (by omega)).mpr (by omega)) (nm_r hstep ih')
      · refine br_f (fun q => by have := (hx_lt (a := (m : Int) + j - 4) (b := 0) rfl rfl (by omega) (by omega)).mp q; omega) ?_
        by_cases c2 : 68 ≤ m + j
        · have e := hsame (hPn K _ (Or.inr c2))
          rw [e] at ih'
          refine br_t ((hx_le (a := 64) (b := (m : Int) + j - 4) rfl rfl (by omega) (by omega)).mpr (by omega)) (nm_r hstep ih')
        · refine br_f (fun q => by have := (hx_le (a := 64) (b := (m : Int) + j - 4) rfl rfl (by omega) (by omega)).mp q; omega) ?_
          have ei : (64 : Int32) * nI K + hI ((m : Int) + j - 4) = nI (64 * K + (m + j - 4)) := by
            rw [show (64 : Int32) * nI K = nI (64 * K) from pk_mul 64 K, hI_na]
            exact hI_c (by omega)
          have hx := hP K (m + j) hK (by omega) (by omega)
          rw [ei]
          refine ⟨vp_in_nI (by omega) (by omega), ?_⟩
          rw [nI_clamp (by omega)]
          cases eP : P K (m + j) with
          | none =>
            rw [eP] at hx
            have e := hsame eP
            rw [e] at ih'
            refine br_t ?_ (nm_r hstep ih')
            rw [hx.1]; exact Int32.le_refl _
          | some x =>
            have hbx := hb K (m + j)
            rw [eP] at hx hbx
            have hbx' : x.1 + 1 ≤ 60 := hbx
            refine br_f ?_ ?_
            · rw [hx.1]; exact nI_nle (by omega) (by omega)
            · refine x_addP (by omega) (by omega) hx ?_
              have e : q_w (P K) m (j + 1) = q_m (q_w (P K) m j) (some x) := by rw [q_w, eP]
              rw [e] at ih'
              exact nm_r hstep ih'
  have L := lp PN 0 (by omega)
  rw [show (m : Int) + (0 : Nat) - 4 = (m : Int) - 4 by omega] at L
  unfold wpX_putTogether
  exact ⟨_, L⟩
theorem x_tip {K PN W t : Nat} {v : Int32} {zm : Int} {P : Nat → Nat → Option Qv} (hK : K < 4) (ht : t < 64) (hPN : PN ≤ 4) (hW1 : 1 ≤ W) (hW : W ≤ 8) (hp : pn = nI PN) (hw : wd = nI W) (hz : mk = hI zm) (hz1 : -1000 ≤ zm) (hz2 : zm ≤ 63) (hP : r_P P pc ps pl pm) (hb : ∀ k i, q_n (P k i) ≤ 60) :
    (e_n PN W (t / W + 4) ≤ zm → ∀ post : SX → Prop, post (kd, wd, pn, la, mk, lc + 1, nw, rc, km, kl, kw, kr, tc, ts, tl, tm, ec, et, ek, ev, po, gt, il, pc, ps, pl, pm, ss, ft, lt, sc, su, sl, sm, re, kp, kt, ki, kq, ks) → wpX_takeIntoPane post (kd, wd, pn, la, mk, lc, nw, rc, km, kl, kw, kr, tc, ts, tl, tm, ec, et, ek, ev, po, gt, il, pc, ps, pl, pm, ss, ft, lt, sc, su, sl, sm, re, kp, kt, ki, kq, ks) (nI t) (nI K) v) ∧
    (zm < e_n PN W (t / W + 4) → ∃ pc' ps' pl' pm' : Nat → Int32, r_P (p_u P K (t / W + 4) (some (0, v, v, v))) pc' ps' pl' pm' ∧ ∀ post : SX → Prop, post (kd, wd, pn, la, mk, lc, nw, rc, km, kl, kw, kr, tc, ts, tl, tm, ec, et, ek, ev, po, gt, il, pc', ps', pl', pm', ss, ft, lt, sc, su, sl, sm, re, kp, kt, ki, kq, ks) → wpX_takeIntoPane post (kd, wd, pn, la, mk, lc, nw, rc, km, kl, kw, kr, tc, ts, tl, tm, ec, et, ek, ev, po, gt, il, pc, ps, pl, pm, ss, ft, lt, sc, su, sl, sm, re, kp, kt, ki, kq, ks) (nI t) (nI K) v) := by
  have hp64 : t / W < 64 := Nat.lt_of_le_of_lt (Nat.div_le_self t W) ht
  obtain ⟨p, ep⟩ : ∃ p, p = t / W := ⟨_, rfl⟩
  rw [← ep] at hp64 ⊢
  have bd := e_b (m := p + 4) (PN := PN) (W := W) (by omega) hPN hW
  have hd : nI t / wd = nI p := by rw [hw, ep]; exact pk_div (by omega) (by omega) (by omega)
  have hw0 : ¬ wd = 0 := by rw [hw]; exact nI_ne0 (by omega) (by omega)
  have cz : mk < hI (e_n PN W (p + 4)) ↔ zm < e_n PN W (p + 4) := hx_lt hz rfl (by omega) (by omega)
  have h4 : nI p = hI (((p + 4 : Nat) : Int) - 4) := (hI_c (by omega)).symm
  constructor
  · intro hle post hpost
    unfold wpX_takeIntoPane
    refine ⟨hw0, nm_r hd (x_end hp hw h4 (br_f (fun q => by have := cz.mp q; omega) (nm_e hpost)))⟩
  · intro hlt
    have hx := hP K (p + 4) hK (by omega) (by omega)
    obtain ⟨a, ea⟩ : ∃ a, a = 64 * K + p := ⟨_, rfl⟩
    rw [show 64 * K + (p + 4 - 4) = a by omega] at hx
    have ca : (nI a).toNatClampNeg = a := nI_clamp (by omega)
    have ia : vp_in (nI a) 256 := vp_in_nI (by omega) (by omega)
    have e64 : (64 : Int32) * nI K + nI p = nI a := by
      rw [show (64 : Int32) * nI K = nI (64 * K) from pk_mul 64 K, nI_add, ea]
    have oth : ∀ (pc' ps' pl' pm' : Nat → Int32), (∀ j, j ≠ a → pc' j = pc j ∧ ps' j = ps j ∧ pl' j = pl j ∧ pm' j = pm j) → q_X pc' ps' pl' pm' a (q_m (P K (p + 4)) (some (0, v, v, v))) → r_P (p_u P K (p + 4) (some (0, v, v, v))) pc' ps' pl' pm' := by
      intro pc' ps' pl' pm' ho hq k i hk hi1 hi2
      by_cases e : k = K ∧ i = p + 4
      · obtain ⟨e1, e2⟩ := e
        subst e1 e2
        rw [p_u_s, show 64 * k + (p + 4 - 4) = a by omega]
        exact hq
      · rw [p_u_n e]
        have hj := ho (64 * k + (i - 4)) (by omega)
        exact q_Xe hj.1 hj.2.1 hj.2.2.1 hj.2.2.2 (hP k i hk hi1 hi2)
    have k118 : ∀ (post : SX → Prop) (pl' : Nat → Int32) (w : Int32), post (kd, wd, pn, la, mk, lc, nw, rc, km, kl, kw, kr, tc, ts, tl, tm, ec, et, ek, ev, po, gt, il, upd pc a (pc a + 1), upd ps a (ps a + v), pl', upd pm a w, ss, ft, lt, sc, su, sl, sm, re, kp, kt, ki, kq, ks) → wX_takeIntoPane_118 post v (nI a) w (nI a) kd wd pn la mk lc nw rc km kl kw kr tc ts tl tm ec et ek ev po gt il pc ps pl' pm ss ft lt sc su sl sm re kp kt ki kq ks := by
      intro post pl' w hpost
      unfold wX_takeIntoPane_118
      exact ⟨ia, nm_r (by rw [ca]) ⟨ia, ia, nm_r (by rw [ca]) ⟨ia, ia, nm_r (by rw [ca]) hpost⟩⟩⟩
    have go : ∀ (post : SX → Prop), ((pc a = 0 → wX_takeIntoPane_79 post v (nI a) v (nI a) kd wd pn la mk lc nw rc km kl kw kr tc ts tl tm ec et ek ev po gt il pc ps pl pm ss ft lt sc su sl sm re kp kt ki kq ks) ∧ (¬ pc a = 0 → wX_takeIntoPane_79 post v (nI a) (q_mn (pl a) v) (nI a) kd wd pn la mk lc nw rc km kl kw kr tc ts tl tm ec et ek ev po gt il pc ps pl pm ss ft lt sc su sl sm re kp kt ki kq ks)) → wpX_takeIntoPane post (kd, wd, pn, la, mk, lc, nw, rc, km, kl, kw, kr, tc, ts, tl, tm, ec, et, ek, ev, po, gt, il, pc, ps, pl, pm, ss, ft, lt, sc, su, sl, sm, re, kp, kt, ki, kq, ks) (nI t) (nI K) v := by
      intro post h79
      unfold wpX_takeIntoPane
      refine ⟨hw0, nm_r hd (x_end hp hw h4 (br_t (cz.mpr hlt) (nm_r e64 ⟨ia, ?_⟩)))⟩
      rw [ca]
      refine br_c (fun c => ?_) (fun c => ⟨ia, br_c (fun d => ⟨ia, ?_⟩) (fun d => ?_)⟩)
      · unfold wX_takeIntoPane_68
        exact h79.1 c
      · have := h79.2 c
        rw [show q_mn (pl a) v = pl a from if_pos d] at this
        exact this
      · have := h79.2 c
        rw [show q_mn (pl a) v = v from if_neg d] at this
        unfold wX_takeIntoPane_68
        exact this
    cases eP : P K (p + 4) with
    | none =>
      rw [eP] at hx
      obtain ⟨x0, x1⟩ := hx
      refine ⟨upd pc a (pc a + 1), upd ps a (ps a + v), upd pl a v, upd pm a v, oth _ _ _ _ (fun j hj => ⟨pk_un hj, pk_un hj, pk_un hj, pk_un hj⟩) ?_, fun post hpost => go post (br_t x0 ?_)⟩
      · rw [eP]
        refine ⟨?_, ?_, pk_us, pk_us⟩
        · rw [pk_us, x0]; rfl
        · rw [pk_us, x1]; exact Int32.zero_add _
      · unfold wX_takeIntoPane_79
        refine ⟨ia, nm_r (e' := upd pl a v) (by rw [ca]) ⟨ia, ?_⟩⟩
        rw [ca]
        refine br_t x0 ?_
        unfold wX_takeIntoPane_107
        exact k118 post _ _ hpost
    | some y =>
      have hby := hb K (p + 4)
      rw [eP] at hx hby
      have hby' : y.1 + 1 ≤ 60 := hby
      obtain ⟨x0, x1, x2, x3⟩ := hx
      have hne : ¬ pc a = 0 := by rw [x0]; exact nI_ne0 (by omega) (by omega)
      refine ⟨upd pc a (pc a + 1), upd ps a (ps a + v), upd pl a (q_mn (pl a) v), upd pm a (q_mx (pm a) v), oth _ _ _ _ (fun j hj => ⟨pk_un hj, pk_un hj, pk_un hj, pk_un hj⟩) ?_, fun post hpost => go post (br_f hne ?_)⟩
      · rw [eP]
        refine ⟨?_, ?_, ?_, ?_⟩
        · rw [pk_us, x0, nI_1]; rfl
        · rw [pk_us, x1]; rfl
        · rw [pk_us, x2]; rfl
        · rw [pk_us, x3]; rfl
      · unfold wX_takeIntoPane_79
        refine ⟨ia, nm_r (e' := upd pl a (q_mn (pl a) v)) (by rw [ca]) ⟨ia, ?_⟩⟩
        rw [ca]
        refine br_f hne ⟨ia, br_c (fun d => ⟨ia, k118 post _ _ ?_⟩) (fun d => ?_)⟩
        · rw [show q_mx (pm a) v = pm a from if_pos d] at hpost
          exact hpost
        · unfold wX_takeIntoPane_107
          refine k118 post _ _ ?_
          rw [show q_mx (pm a) v = v from if_neg d] at hpost
          exact hpost
end XWIN
end
section
def r_W (V : Nat → Nat → Option Qv) (no : Nat → Int32) : Prop := ∀ k m, k < 4 → m < 68 → q_Y no (16 + 4 * (68 * k + m)) (V k m)
theorem r_W_f {V : Nat → Nat → Option Qv} {no no' : Nat → Int32} (h : r_W V no) (hf : ∀ j, 16 ≤ j → j < 1104 → no' j = no j) : r_W V no' :=
  fun k m hk hm => q_Yf (fun j h1 h2 => hf j (by omega) (by omega)) (h k m hk hm)
theorem r_W_c {V V' : Nat → Nat → Option Qv} {no : Nat → Int32} (h : r_W V no) (hf : ∀ k m, k < 4 → m < 68 → V' k m = V k m) : r_W V' no :=
  fun k m hk hm => by rw [hf k m hk hm]; exact h k m hk hm
theorem r_W_u {V V' : Nat → Nat → Option Qv} {no no' : Nat → Int32} {K M : Nat} (h : r_W V no) (hK : K < 4) (hM : M < 68) (h1 : q_Y no' (16 + 4 * (68 * K + M)) (V' K M)) (h2 : ∀ j, 16 ≤ j → j < 1104 → j < 16 + 4 * (68 * K + M) ∨ 16 + 4 * (68 * K + M) + 4 ≤ j → no' j = no j) (h3 : ∀ k m, k < 4 → m < 68 → ¬ (k = K ∧ m = M) → V' k m = V k m) : r_W V' no' := by
  intro k m hk hm
  by_cases e : k = K ∧ m = M
  · obtain ⟨e1, e2⟩ := e
    subst e1 e2
    exact h1
  · rw [h3 k m hk hm e]
    exact q_Yf (fun j j1 j2 => h2 j (by omega) (by omega) (by omega)) (h k m hk hm)
section YWIN
variable {kd wd pn la mk lc nw rc km kl kw kr tc ts tl tm : Int32} {ec et ek ev po gt il pc ps pl pm ss ft lt sc su sl sm re kp kt ki kq ks : Nat → Int32}
variable {yk yt yp yl : Int32} {sz cd vl no cp : Nat → Int32}
theorem y_end {post : Int32 → Prop} {PN W m : Nat} {p0 : Int32} (hw : yt = nI W) (hp : yp = nI (PN * W)) (h0 : p0 = hI ((m : Int) - 4)) (h : post (hI (e_n PN W m))) : wpY_endOf post (yk, yt, yp, yl, sz, cd, vl, no, cp) p0 := by
  unfold wpY_endOf
  show post (p0 * yt + yp)
  have e : p0 * yt + yp = hI (e_n PN W m) := by
    rw [hx_a (hx_m h0 (hx_n hw)) (hx_n hp)]
    refine congrArg hI ?_
    unfold e_n
    rw [Int.natCast_mul, ← Int.add_mul]
  rw [e]
  exact h
theorem y_wat {post : Int32 → Prop} {K m : Nat} {p1 : Int32} (h1 : p1 = hI ((m : Int) - 4)) (h : post (nI (16 + 4 * (68 * K + m)))) : wpY_windowAt post (yk, yt, yp, yl, sz, cd, vl, no, cp) (nI K) p1 := by
  unfold wpY_windowAt
  show post (16 + 4 * (68 * nI K + p1 + 4))
  have e : (16 : Int32) + 4 * (68 * nI K + p1 + 4) = nI (16 + 4 * (68 * K + m)) := by
    rw [show (68 : Int32) * nI K = nI (68 * K) from pk_mul 68 K, h1, hI_na, show hI ((68 * K : Nat) + ((m : Int) - 4)) + 4 = nI (68 * K + m) from by rw [show (4 : Int32) = hI 4 from by decide, hI_add]; exact hI_c (by omega)]
    exact (congrArg (16 + ·) (pk_mul 4 (68 * K + m))).trans (nI_add 16 _)
  rw [e]
  exact h
/-- an event counts in window m -/
def w_c (PN W p : Nat) (zm : Int) (m : Nat) : Prop := m ≤ p + 4 ∧ p + 4 < m + PN ∧ zm < e_n PN W m
theorem w_cd (PN W p : Nat) (zm : Int) (m : Nat) : w_c PN W p zm m ∨ ¬ w_c PN W p zm m := Classical.em _
theorem y_riw_l {K PN W t p : Nat} {v : Int32} {zm : Int} {V V' : Nat → Nat → Option Qv} (hK : K < 4) (ht : t < 64) (hPN1 : 1 ≤ PN) (hPN : PN ≤ 4) (hW1 : 1 ≤ W) (hW : W ≤ 8) (hw : yt = nI W) (hp : yp = nI (PN * W)) (hz1 : -1000 ≤ zm) (hz2 : zm ≤ 63) (ep : p = t / W) (hb : ∀ k m, q_n (V k m) ≤ 1000)
    (hV1 : ∀ m, m < 68 → w_c PN W p zm m → V' K m = q_m (V K m) (some (0, v, v, v))) (hV2 : ∀ k m, k < 4 → m < 68 → ¬ (k = K ∧ w_c PN W p zm m) → V' k m = V k m) :
    ∀ d m, m + d = 68 → ∀ (f : Bool) (no : Nat → Int32), r_W (fun k m' => if m' < m then V' k m' else V k m') no → no 9 = hI zm → (f = true → zm < e_n PN W (p + 4)) → (p + 4 < m → zm < e_n PN W (p + 4) → f = true) →
      ∃ no' : Nat → Int32, r_W V' no' ∧ (∀ j, j ≠ 10 → (j < 16 ∨ 1104 ≤ j) → no' j = no j) ∧ (zm < e_n PN W (p + 4) → no' 10 = no 10) ∧ (e_n PN W (p + 4) ≤ zm → no' 10 = no 10 + 1) ∧ ∀ post : SY → Prop, post (yk, yt, yp, yl, sz, cd, vl, no', cp) → wY_readIntoWindows_7 post (nI t) (nI K) v (d + 1) (b_i f) (hI ((m : Int) - 4)) yk yt yp yl sz cd vl no cp := by
  have hp64 : p < 64 := by rw [ep]; exact Nat.lt_of_le_of_lt (Nat.div_le_self t W) ht
  intro d
  induction d with
  | zero =>
    intro m hm f no hr h9 hf1 hf2
    have : m = 68 := by omega
    subst this
    have hr' : r_W V' no := r_W_c hr (fun k m hk hm => (if_pos hm).symm)
    by_cases c : zm < e_n PN W (p + 4)
    · have hft := hf2 (by omega) c
      refine ⟨no, hr', fun _ _ _ => rfl, fun _ => rfl, fun q => absurd c (by omega), fun post h => ?_⟩
      rw [wY_readIntoWindows_7, hft]
      exact br_t (show (64 : Int32) ≤ hI (((68 : Nat) : Int) - 4) by decide) (br_f (by decide) h)
    · have hff : f = false := by
        cases f with
        | false => rfl
        | true => exact absurd (hf1 rfl) c
      refine ⟨upd no 10 (no 10 + 1), r_W_f hr' (fun j h1 h2 => pk_un (by omega)), fun j h1 _ => pk_un h1, fun q => absurd q c, fun _ => pk_us, fun post h => ?_⟩
      rw [wY_readIntoWindows_7, hff]
      exact br_t (show (64 : Int32) ≤ hI (((68 : Nat) : Int) - 4) by decide) (br_t rfl (nm_e h))
  | succ d ih =>
    intro m hm f no hr h9 hf1 hf2
    have hm68 : m < 68 := by omega
    have bd := e_b (m := m) (PN := PN) (W := W) (by omega) hPN hW
    have bd2 := e_b2 (m := m) (W := W) (by omega) hW
    have hstep : hI ((m : Int) - 4) + 1 = hI (((m + 1 : Nat) : Int) - 4) := by
      rw [hI_1]; exact congrArg hI (by omega)
    have q0 : ¬ (64 : Int32) ≤ hI ((m : Int) - 4) := fun q => by
      have := (hx_le (a := 64) (b := (m : Int) - 4) rfl rfl (by omega) (by omega)).mp q
      omega
    have q1 : nI t < hI ((m : Int) - 4) * yt ↔ p + 4 < m := by
      rw [hx_lt (hI_n t).symm (hx_m rfl (hx_n hw)) (by omega) (by omega)]
      have := e_d (t := t) hW1 ((m : Int) - 4)
      rw [← ep] at this
      omega
    have q2 : hI (e_n PN W m) ≤ nI t ↔ m + PN ≤ p + 4 := by
      rw [hx_le rfl (hI_n t).symm (by omega) (by omega)]
      have := e_d (t := t) hW1 ((m : Int) - 4 + PN)
      rw [← ep] at this
      unfold e_n
      omega
    have q3 : hI (e_n PN W m) ≤ no 9 ↔ e_n PN W m ≤ zm := hx_le rfl h9 (by omega) (by omega)
    rcases w_cd PN W p zm m with c | c
    · -- it counts
      obtain ⟨c1, c2, c3⟩ := c
      have hmono := e_mono (PN := PN) (W := W) c1
      have hcell := hr K m hK hm68
      dsimp only at hcell
      rw [if_neg (show ¬ m < m by omega)] at hcell
      have hbk := hb K m
      obtain ⟨no1, n1q, n1o, n1w⟩ := y_count (yk := yk) (yt := yt) (yp := yp) (yl := yl) (sz := sz) (cd := cd) (vl := vl) (cp := cp) (x := (0, v, v, v)) (by omega) hcell (by show q_n (V K m) + 0 + 1 < 2 ^ 31; omega)
      have hr1 : r_W (fun k m' => if m' < m + 1 then V' k m' else V k m') no1 := by
        refine r_W_u hr hK hm68 ?_ (fun j _ _ h => n1o j h) ?_
        · rw [if_pos (show m < m + 1 by omega), hV1 m hm68 ⟨c1, c2, c3⟩]
          exact n1q
        · intro k m' hk hm' hne
          by_cases e1 : m' < m
          · rw [if_pos (show m' < m + 1 by omega), if_pos e1]
          · by_cases e2 : m' = m
            · subst e2
              rw [if_pos (show m' < m' + 1 by omega), if_neg e1]
              exact hV2 k m' hk hm' (fun z => hne ⟨z.1, rfl⟩)
            · rw [if_neg (show ¬ m' < m + 1 by omega), if_neg e1]
      obtain ⟨no', r1, r2, r3, r4, r5⟩ := ih (m + 1) (by omega) true no1 hr1 (by rw [n1o 9 (by omega)]; exact h9) (fun _ => by omega) (fun _ _ => rfl)
      refine ⟨no', r1, fun j h1 h2 => (r2 j h1 h2).trans (n1o j (by omega)), fun q => (r3 q).trans (n1o 10 (by omega)), fun q => absurd q (by omega), fun post h => ?_⟩
      rw [wY_readIntoWindows_7]
      refine br_f q0 (br_f (fun q => by have := q1.mp q; omega) (y_end hw hp rfl (br_f (fun q => by have := q2.mp q; omega) (y_end hw hp rfl (br_f (fun q => by have := q3.mp q; omega) (y_wat rfl ?_))))))
      exact n1w _ _ _ rfl rfl (nm_r hstep (r5 post h))
    · have hr1 : r_W (fun k m' => if m' < m + 1 then V' k m' else V k m') no := by
        refine r_W_c hr (fun k m' hk hm' => ?_)
        by_cases e1 : m' < m
        · rw [if_pos (show m' < m + 1 by omega), if_pos e1]
        · by_cases e2 : m' = m
          · subst e2
            rw [if_pos (show m' < m' + 1 by omega), if_neg e1]
            exact hV2 k m' hk hm' (fun z => c z.2)
          · rw [if_neg (show ¬ m' < m + 1 by omega), if_neg e1]
      obtain ⟨no', r1, r2, r3, r4, r5⟩ := ih (m + 1) (by omega) f no hr1 h9 hf1 (fun h1 h2 => by
        by_cases e : m = p + 4
        · exact absurd ⟨by omega, by omega, by rw [e]; exact h2⟩ c
        · exact hf2 (by omega) h2)
      refine ⟨no', r1, r2, r3, r4, fun post h => ?_⟩
      have r5' := r5 post h
      rw [wY_readIntoWindows_7]
      refine br_f q0 ?_
      by_cases c1 : p + 4 < m
      · exact br_t (q1.mpr c1) (nm_r hstep r5')
      · refine br_f (fun q => c1 (q1.mp q)) (y_end hw hp rfl ?_)
        by_cases c2 : m + PN ≤ p + 4
        · exact br_t (q2.mpr c2) (nm_r hstep r5')
        · refine br_f (fun q => c2 (q2.mp q)) (y_end hw hp rfl ?_)
          by_cases c3 : e_n PN W m ≤ zm
          · exact br_t (q3.mpr c3) (nm_r hstep r5')
          · exact absurd ⟨by omega, by omega, by omega⟩ c
theorem y_riw {K PN W t p : Nat} {v : Int32} {zm : Int} {V V' : Nat → Nat → Option Qv} (hK : K < 4) (ht : t < 64) (hPN1 : 1 ≤ PN) (hPN : PN ≤ 4) (hW1 : 1 ≤ W) (hW : W ≤ 8) (hw : yt = nI W) (hp : yp = nI (PN * W)) (hz1 : -1000 ≤ zm) (hz2 : zm ≤ 63) (ep : p = t / W) (hb : ∀ k m, q_n (V k m) ≤ 1000)
    (hV1 : ∀ m, m < 68 → w_c PN W p zm m → V' K m = q_m (V K m) (some (0, v, v, v))) (hV2 : ∀ k m, k < 4 → m < 68 → ¬ (k = K ∧ w_c PN W p zm m) → V' k m = V k m) (hr : r_W V no) (h9 : no 9 = hI zm) :
      ∃ no' : Nat → Int32, r_W V' no' ∧ (∀ j, j ≠ 10 → (j < 16 ∨ 1104 ≤ j) → no' j = no j) ∧ (zm < e_n PN W (p + 4) → no' 10 = no 10) ∧ (e_n PN W (p + 4) ≤ zm → no' 10 = no 10 + 1) ∧ ∀ post : SY → Prop, post (yk, yt, yp, yl, sz, cd, vl, no', cp) → wpY_readIntoWindows post (yk, yt, yp, yl, sz, cd, vl, no, cp) (nI t) (nI K) v := by
  obtain ⟨no', r1, r2, r3, r4, r5⟩ := y_riw_l (yk := yk) (yt := yt) (yp := yp) (yl := yl) (sz := sz) (cd := cd) (vl := vl) (cp := cp) hK ht hPN1 hPN hW1 hW hw hp hz1 hz2 ep hb hV1 hV2 68 0 (by omega) false no (r_W_c hr (fun k m _ _ => if_neg (Nat.not_lt_zero m))) h9 (fun q => nomatch q) (fun q => absurd q (by omega))
  refine ⟨no', r1, r2, r3, r4, fun post h => ?_⟩
  unfold wpY_readIntoWindows
  exact ⟨69, r5 post h⟩
/-- windows that don't close -/
theorem y_cwskip {post : SY → Prop} {J3 : Int32 → Int32 → Int32 → Int32 → Int32 → (Nat → Int32) → (Nat → Int32) → (Nat → Int32) → (Nat → Int32) → (Nat → Int32) → Prop} {PN W m : Nat} {zm : Int} (hPN : PN ≤ 4) (hW : W ≤ 8) (hw : yt = nI W) (hp : yp = nI (PN * W)) (hz1 : -1000 ≤ zm) (hz2 : zm ≤ 63) (h9 : no 9 = hI zm) (hm : m < 68) (hs : ∀ k, k < 4 → zm < e_n PN W m ∨ no (16 + 4 * (68 * k + m)) = 0) (hJ : J3 (hI (((m + 1 : Nat) : Int) - 4)) yk yt yp yl sz cd vl no cp) :
    ∀ d k, k + d = 4 → wY_closeWindows_11 post J3 (hI ((m : Int) - 4)) (d + 1) (nI k) yk yt yp yl sz cd vl no cp := by
  have bd := e_b (m := m) (PN := PN) (W := W) (by omega) hPN hW
  have hstep : hI ((m : Int) - 4) + 1 = hI (((m + 1 : Nat) : Int) - 4) := by
    rw [hI_1]; exact congrArg hI (by omega)
  have q3 : no 9 < hI (e_n PN W m) ↔ zm < e_n PN W m := hx_lt h9 rfl (by omega) (by omega)
  intro d
  induction d with
  | zero =>
    intro k hk
    have : k = 4 := by omega
    subst this
    rw [wY_closeWindows_11]
    exact br_t (Int32.le_refl _) (nm_r hstep hJ)
  | succ d ih =>
    intro k hk
    have ih' := ih (k + 1) (by omega)
    rw [wY_closeWindows_11]
    refine br_f (nI_ge (b := 4) (by omega) (by omega)) (y_wat rfl (y_end hw hp rfl ?_))
    by_cases c : zm < e_n PN W m
    · exact br_t (q3.mpr c) (nm_r (nI_1 k) ih')
    · refine br_f (fun q => c (q3.mp q)) ⟨vp_in_nI (by omega) (by omega), br_t ?_ (nm_r (nI_1 k) ih')⟩
      rw [nI_clamp (by omega)]
      rcases hs k (by omega) with h | h
      · exact absurd h c
      · rw [h]; exact Int32.le_refl _
theorem y_cwskips {post : SY → Prop} {PN W : Nat} {zm : Int} (hPN : PN ≤ 4) (hW : W ≤ 8) (hw : yt = nI W) (hp : yp = nI (PN * W)) (hz1 : -1000 ≤ zm) (hz2 : zm ≤ 63) (h9 : no 9 = hI zm) : ∀ d m, m + d ≤ 68 → (∀ m' k, m ≤ m' → m' < m + d → k < 4 → zm < e_n PN W m' ∨ no (16 + 4 * (68 * k + m')) = 0) → (∃ n, wY_closeWindows_3 post n (hI (((m + d : Nat) : Int) - 4)) yk yt yp yl sz cd vl no cp) → ∃ n, wY_closeWindows_3 post n (hI ((m : Int) - 4)) yk yt yp yl sz cd vl no cp := by
  intro d
  induction d with
  | zero => intro m _ _ h; exact h
  | succ d ih =>
    intro m hm hs h
    obtain ⟨n, hn⟩ := ih (m + 1) (by omega) (fun m' k h1 h2 hk => hs m' k (by omega) (by omega) hk) (by rw [show m + 1 + d = m + (d + 1) by omega]; exact h)
    refine ⟨n + 1, ?_⟩
    rw [wY_closeWindows_3]
    refine br_f (fun q => ?_) ⟨5, ?_⟩
    · have := (hx_le (a := 64) (b := (m : Int) - 4) rfl rfl (by omega) (by omega)).mp q
      omega
    · exact y_cwskip hPN hW hw hp hz1 hz2 h9 (by omega) (fun k hk => hs m k (by omega) (by omega) hk) hn 4 0 (by omega)
end YWIN
end
section
def w_of (P : Nat → Nat → Option Qv) (PN z : Nat) : Nat → Nat → Option Qv := fun k m => if 4 * m + k < z then none else q_w (P k) m PN
theorem w_of_l {P : Nat → Nat → Option Qv} {PN z k m : Nat} (h : 4 * m + k < z) : w_of P PN z k m = none := if_pos h
theorem w_of_g {P : Nat → Nat → Option Qv} {PN z k m : Nat} (h : z ≤ 4 * m + k) : w_of P PN z k m = q_w (P k) m PN := if_neg (by omega)
section LOCKCW
variable {kd wd pn la mk lc nw rc km kl kw kr tc ts tl tm : Int32} {ec et ek ev po gt il pc ps pl pm ss ft lt sc su sl sm re kp kt ki kq ks : Nat → Int32}
variable {yk yt yp yl : Int32} {sz cd vl no cp : Nat → Int32}
theorem lk_cw1 {P : Nat → Nat → Option Qv} {PN W m : Nat} {zm : Int} (hPN : PN ≤ 4) (hW : W ≤ 8) (hm : m < 68) (hp : pn = nI PN) (hw : wd = nI W) (hw' : yt = nI W) (hp' : yp = nI (PN * W)) (hz1 : -1000 ≤ zm) (hz2 : zm ≤ 63) (hP : r_P P pc ps pl pm) (hPn : ∀ k i, i < 4 ∨ 68 ≤ i → P k i = none) (hb : ∀ k i, q_n (P k i) ≤ 60) (hc : e_n PN W m ≤ zm) :
    ∀ d key, key + d = 4 → ∀ (R : Nat) (tc ts tl tm : Int32) (re no : Nat → Int32), r_W (w_of P PN (4 * m + key)) no → r_R R re no → R + d ≤ 255 → no 9 = hI zm →
    ∃ (R' : Nat) (tc' ts' tl' tm' : Int32) (re' no' : Nat → Int32), (r_W (w_of P PN (4 * (m + 1))) no' ∧ r_R R' re' no' ∧ R ≤ R' ∧ R' ≤ R + d ∧ (∀ j, j < 7 * R → re' j = re j) ∧ (∀ j, j ≠ 11 → (j < 16 ∨ (1104 ≤ j ∧ j < 1524)) → no' j = no j)) ∧
      (∀ (post : SX → Prop) (J0 : (Int32 → Int32 → Int32 → Int32 → Int32 → Int32 → Int32 → Int32 → Int32 → Int32 → Int32 → Int32 → Int32 → Int32 → Int32 → Int32 → (Nat → Int32) → (Nat → Int32) → (Nat → Int32) → (Nat → Int32) → (Nat → Int32) → (Nat → Int32) → (Nat → Int32) → (Nat → Int32) → (Nat → Int32) → (Nat → Int32) → (Nat → Int32) → (Nat → Int32) → (Nat → Int32) → (Nat → Int32) → (Nat → Int32) → (Nat → Int32) → (Nat → Int32) → (Nat → Int32) → (Nat → Int32) → (Nat → Int32) → (Nat → Int32) → (Nat → Int32) → (Nat → Int32) → (Nat → Int32) → Prop)), J0 kd wd pn la mk lc (hI (((m + 1 : Nat) : Int) - 4)) (nI R') km kl kw kr tc' ts' tl' tm' ec et ek ev po gt il pc ps pl pm ss ft lt sc su sl sm re' kp kt ki kq ks → wX_closeWindows_26 post J0 (d + 1) (nI key) kd wd pn la mk lc (hI ((m : Int) - 4)) (nI R) km kl kw kr tc ts tl tm ec et ek ev po gt il pc ps pl pm ss ft lt sc su sl sm re kp kt ki kq ks) ∧
      (∀ (post : SY → Prop) (J3 : (Int32 → Int32 → Int32 → Int32 → Int32 → (Nat → Int32) → (Nat → Int32) → (Nat → Int32) → (Nat → Int32) → (Nat → Int32) → Prop)), J3 (hI (((m + 1 : Nat) : Int) - 4)) yk yt yp yl sz cd vl no' cp → wY_closeWindows_11 post J3 (hI ((m : Int) - 4)) (d + 1) (nI key) yk yt yp yl sz cd vl no cp) := by
  have bd := e_b (m := m) (PN := PN) (W := W) (by omega) hPN hW
  have hstep : hI ((m : Int) - 4) + 1 = hI (((m + 1 : Nat) : Int) - 4) := by
    rw [hI_1]; exact congrArg hI (by omega)
  have est : hI ((m : Int) - 4) * wd = hI (((m : Int) - 4) * W) := hx_m rfl (hx_n hw)
  have est' : hI ((m : Int) - 4) * yt = hI (((m : Int) - 4) * W) := hx_m rfl (hx_n hw')
  intro d
  induction d with
  | zero =>
    intro key hk R tc ts tl tm re no hr hR hRb h9
    have : key = 4 := by omega
    subst this
    refine ⟨R, tc, ts, tl, tm, re, no, ⟨hr, hR, Nat.le_refl _, Nat.le_refl _, fun _ _ => rfl, fun _ _ _ => rfl⟩, fun post J0 h => ?_, fun post J3 h => ?_⟩
    · rw [wX_closeWindows_26]
      exact br_t (Int32.le_refl _) (nm_r hstep h)
    · rw [wY_closeWindows_11]
      exact br_t (Int32.le_refl _) (nm_r hstep h)
  | succ d ih =>
    intro key hk R tc ts tl tm re no hr hR hRb h9
    have hk4 : key < 4 := by omega
    have hcell := hr key m hk4 hm
    rw [w_of_g (Nat.le_refl _)] at hcell
    have hbq : q_n (q_w (P key) m PN) ≤ PN * 60 := q_w_n (hb key) PN
    have hbq2 : PN * 60 ≤ 240 := by omega
    have q3 : no 9 < hI (e_n PN W m) ↔ zm < e_n PN W m := hx_lt h9 rfl (by omega) (by omega)
    obtain ⟨a, ea⟩ : ∃ a, a = 16 + 4 * (68 * key + m) := ⟨_, rfl⟩
    rw [← ea] at hcell
    have ia : vp_in (nI a) 3316 := vp_in_nI (by omega) (by omega)
    have ca : (nI a).toNatClampNeg = a := nI_clamp (by omega)
    have hoth : ∀ (no1 : Nat → Int32), no1 a = 0 → (∀ j, 16 ≤ j → j < 1104 → j ≠ a → no1 j = no j) → r_W (w_of P PN (4 * m + (key + 1))) no1 := by
      intro no1 h0 h1 k m' hk' hm'
      by_cases e : k = key ∧ m' = m
      · obtain ⟨e1, e2⟩ := e
        subst e1 e2
        rw [w_of_l (by omega), ← ea]
        exact h0
      · have e1 : w_of P PN (4 * m + (key + 1)) k m' = w_of P PN (4 * m + key) k m' := by
          by_cases l : 4 * m' + k < 4 * m + key
          · rw [w_of_l l, w_of_l (by omega)]
          · rw [w_of_g (by omega), w_of_g (by omega)]
        rw [e1]
        exact q_Yf (fun j h1' h2' => h1 j (by omega) (by omega) (by omega)) (hr k m' hk' hm')
    cases eq : q_w (P key) m PN with
    | none =>
      rw [eq] at hcell
      have h0 : no a = 0 := hcell
      obtain ⟨R', tc', ts', tl', tm', re', no', ⟨r1, r2, r3, r4, r5, r6⟩, rX, rY⟩ := ih (key + 1) (by omega) R (q_0 none) (q_1 none) (q_2 none) (q_3 none) re no (hoth no h0 (fun _ _ _ _ => rfl)) hR (by omega) h9
      refine ⟨R', tc', ts', tl', tm', re', no', ⟨r1, r2, r3, by omega, r5, r6⟩, fun post J0 h => ?_, fun post J3 h => ?_⟩
      · rw [wX_closeWindows_26]
        refine br_f (nI_ge (b := 4) hk4 (by omega)) (x_pt hk4 (by omega) hPN hp rfl hP hPn hb ?_)
        rw [eq]
        exact br_t (Int32.le_refl _) (nm_r (nI_1 key) (rX post J0 h))
      · rw [wY_closeWindows_11]
        refine br_f (nI_ge (b := 4) hk4 (by omega)) (y_wat rfl (y_end hw' hp' rfl ?_))
        rw [← ea]
        refine br_f (fun q => by have := q3.mp q; omega) ⟨ia, br_t ?_ (nm_r (nI_1 key) (rY post J3 h))⟩
        rw [ca, h0]; exact Int32.le_refl _
    | some x =>
      rw [eq] at hcell hbq
      have hbx : x.1 + 1 ≤ 240 := Nat.le_trans hbq hbq2
      obtain ⟨c0, c1, c2, c3⟩ := hcell
      obtain ⟨re1, xr0, xa0, xa1, xa2, xa3, xa4, xa5, xa6, xw⟩ := x_addR (kd := kd) (wd := wd) (pn := pn) (la := la) (mk := mk) (lc := lc) (km := km) (kl := kl) (kw := kw) (kr := kr) (ec := ec) (et := et) (ek := ek) (ev := ev) (po := po) (gt := gt) (il := il) (pc := pc) (ps := ps) (pl := pl) (pm := pm) (ss := ss) (ft := ft) (lt := lt) (sc := sc) (su := su) (sl := sl) (sm := sm) (re := re) (kp := kp) (kt := kt) (ki := ki) (kq := kq) (ks := ks) (nw := hI ((m : Int) - 4)) (rc := nI R) (tc := q_0 (some x)) (ts := q_1 (some x)) (tl := q_2 (some x)) (tm := q_3 (some x)) (R := R) (p0 := nI key) (p1 := hI (((m : Int) - 4) * W)) (p2 := hI (e_n PN W m)) (by omega)
      obtain ⟨no1, n11, n1o, ya0, ya1, ya2, ya3, ya4, ya5, ya6, yw⟩ := y_add (yk := yk) (yt := yt) (yp := yp) (yl := yl) (sz := sz) (cd := cd) (vl := vl) (no := no) (cp := cp) (R := R) (a := a) (p0 := nI key) (p1 := hI (((m : Int) - 4) * W)) (p2 := hI (e_n PN W m)) (by omega) hR.1 (by omega) (by omega)
      have hR1 : r_R (R + 1) re1 no1 := by
        refine r_R_s hR n11 xr0 (fun j hj => n1o _ (by omega) (by omega)) (lt7 ?_ ?_ ?_ ?_ ?_ ?_ ?_)
        · exact ya0.trans xa0.symm
        · exact ya1.trans xa1.symm
        · exact ya2.trans xa2.symm
        · exact ya3.trans (c0.trans xa3.symm)
        · exact ya4.trans (c1.trans xa4.symm)
        · exact ya5.trans (c2.trans xa5.symm)
        · exact ya6.trans (c3.trans xa6.symm)
      have hR2 : r_R (R + 1) re1 (upd no1 a 0) := ⟨(pk_un (by omega)).trans hR1.1, fun j hj => (pk_un (by omega)).trans (hR1.2 j hj)⟩
      obtain ⟨R', tc', ts', tl', tm', re', no', ⟨r1, r2, r3, r4, r5, r6⟩, rX, rY⟩ := ih (key + 1) (by omega) (R + 1) (q_0 (some x)) (q_1 (some x)) (q_2 (some x)) (q_3 (some x)) re1 (upd no1 a 0) (hoth _ pk_us (fun j j1 j2 j3 => (pk_un j3).trans (n1o j (by omega) (by omega)))) hR2 (by omega) (by rw [pk_un (by omega), n1o 9 (by omega) (by omega)]; exact h9)
      refine ⟨R', tc', ts', tl', tm', re', no', ⟨r1, r2, by omega, by omega, fun j hj => (r5 j (by omega)).trans (xr0 j hj), fun j h1 h2 => (r6 j h1 h2).trans ((pk_un (by omega)).trans (n1o j h1 (by omega)))⟩, fun post J0 h => ?_, fun post J3 h => ?_⟩
      · rw [wX_closeWindows_26]
        refine br_f (nI_ge (b := 4) hk4 (by omega)) (x_pt hk4 (by omega) hPN hp rfl hP hPn hb ?_)
        rw [eq]
        refine br_f (nI_nle (Nat.succ_pos _) (by omega)) (x_end hp hw rfl ?_)
        rw [est]
        exact xw _ rfl (nm_r (nI_1 key) (rX post J0 h))
      · rw [wY_closeWindows_11]
        refine br_f (nI_ge (b := 4) hk4 (by omega)) (y_wat rfl (y_end hw' hp' rfl ?_))
        rw [← ea]
        refine br_f (fun q => by have := q3.mp q; omega) ⟨ia, br_f ?_ (y_end hw' hp' rfl ?_)⟩
        · rw [ca, c0]; exact nI_nle (Nat.succ_pos _) (by omega)
        · rw [est']
          refine yw _ _ rfl ⟨ia, nm_r (e' := upd no1 a 0) (by rw [ca]) (nm_r (nI_1 key) (rY post J3 h))⟩
theorem lk_cwl {P : Nat → Nat → Option Qv} {PN W : Nat} {zm : Int} (hPN1 : 1 ≤ PN) (hPN : PN ≤ 4) (hW1 : 1 ≤ W) (hW : W ≤ 8) (hp : pn = nI PN) (hw : wd = nI W) (hw' : yt = nI W) (hp' : yp = nI (PN * W)) (hz : mk = hI zm) (hz1 : -1000 ≤ zm) (hz2 : zm ≤ 63) (hP : r_P P pc ps pl pm) (hPn : ∀ k i, i < 4 ∨ 68 ≤ i → P k i = none) (hb : ∀ k i, q_n (P k i) ≤ 60) :
    ∀ d m, m + d = 68 → ∀ (R : Nat) (tc ts tl tm : Int32) (re no : Nat → Int32), r_W (w_of P PN (4 * m)) no → r_R R re no → no 9 = hI zm → 5 ≤ m + PN → m + PN ≤ 68 → R ≤ 4 * (m + PN - 5) → (∀ m', m' < m → 5 ≤ m' + PN → e_n PN W m' ≤ zm) →
    ∃ (m' R' : Nat) (tc' ts' tl' tm' : Int32) (re' no' : Nat → Int32), (r_W (w_of P PN (4 * m')) no' ∧ r_R R' re' no' ∧ R ≤ R' ∧ R' ≤ 4 * (m' + PN - 5) ∧ 5 ≤ m' + PN ∧ m' + PN ≤ 68 ∧ zm < e_n PN W m' ∧ (∀ j, j < m' → 5 ≤ j + PN → e_n PN W j ≤ zm) ∧ (∀ j, j < 7 * R → re' j = re j) ∧ (∀ j, j ≠ 11 → (j < 16 ∨ (1104 ≤ j ∧ j < 1524)) → no' j = no j)) ∧
      (∀ (post : SX → Prop), post (kd, wd, pn, la, mk, lc, hI ((m' : Int) - 4), nI R', km, kl, kw, kr, tc', ts', tl', tm', ec, et, ek, ev, po, gt, il, pc, ps, pl, pm, ss, ft, lt, sc, su, sl, sm, re', kp, kt, ki, kq, ks) → ∃ n, wX_closeWindows_0 post n kd wd pn la mk lc (hI ((m : Int) - 4)) (nI R) km kl kw kr tc ts tl tm ec et ek ev po gt il pc ps pl pm ss ft lt sc su sl sm re kp kt ki kq ks) ∧
      (∀ (post : SY → Prop), post (yk, yt, yp, yl, sz, cd, vl, no', cp) → ∃ n, wY_closeWindows_3 post n (hI ((m : Int) - 4)) yk yt yp yl sz cd vl no cp) := by
  intro d
  induction d with
  | zero =>
    intro m hm R tc ts tl tm re no hr hR h9 h5 h68 hRb hcl
    exact absurd h68 (by omega)
  | succ d ih =>
    intro m hm R tc ts tl tm re no hr hR h9 h5 h68 hRb hcl
    have bd := e_b (m := m) (PN := PN) (W := W) (by omega) hPN hW
    have q0 : ¬ (64 : Int32) ≤ hI ((m : Int) - 4) := fun q => by
      have := (hx_le (a := 64) (b := (m : Int) - 4) rfl rfl (by omega) (by omega)).mp q
      omega
    have q3 : mk < hI (e_n PN W m) ↔ zm < e_n PN W m := hx_lt hz rfl (by omega) (by omega)
    by_cases c : zm < e_n PN W m
    · refine ⟨m, R, tc, ts, tl, tm, re, no, ⟨hr, hR, Nat.le_refl _, hRb, h5, h68, c, hcl, fun _ _ => rfl, fun _ _ _ => rfl⟩, fun post h => ⟨1, ?_⟩, fun post h => ?_⟩
      · rw [wX_closeWindows_0]
        exact br_f q0 (x_end hp hw rfl (br_t (q3.mpr c) h))
      · refine y_cwskips hPN hW hw' hp' hz1 hz2 h9 (d + 1) m (by omega) (fun m' k h1 h2 hk => Or.inl ?_) ⟨1, ?_⟩
        · have := e_mono (PN := PN) (W := W) h1
          omega
        · rw [hm, wY_closeWindows_3]
          exact br_t (by decide) h
    · have h67 := e_63 (PN := PN) (m := m) hW1 (show e_n PN W m ≤ zm by omega) hz2
      obtain ⟨R1, tc1, ts1, tl1, tm1, re1, no1, ⟨r1, r2, r3, r4, r5, r6⟩, rX, rY⟩ := lk_cw1 (kd := kd) (wd := wd) (pn := pn) (la := la) (mk := mk) (lc := lc) (km := km) (kl := kl) (kw := kw) (kr := kr) (ec := ec) (et := et) (ek := ek) (ev := ev) (po := po) (gt := gt) (il := il) (pc := pc) (ps := ps) (pl := pl) (pm := pm) (ss := ss) (ft := ft) (lt := lt) (sc := sc) (su := su) (sl := sl) (sm := sm) (kp := kp) (kt := kt) (ki := ki) (kq := kq) (ks := ks) (yk := yk) (yt := yt) (yp := yp) (yl := yl) (sz := sz) (cd := cd) (vl := vl) (cp := cp) hPN hW (by omega) hp hw hw' hp' hz1 hz2 hP hPn hb (show e_n PN W m ≤ zm by omega) 4 0 (by omega) R tc ts tl tm re no hr hR (by omega) h9
      obtain ⟨m', R', tc', ts', tl', tm', re', no', ⟨s1, s2, s3, s4, s5, s6, s7, s8, s9, s10⟩, sX, sY⟩ := ih (m + 1) (by omega) R1 tc1 ts1 tl1 tm1 re1 no1 r1 r2 (by rw [r6 9 (by omega) (by omega)]; exact h9) (by omega) (by omega) (by omega) (fun j hj h => by
        by_cases e : j = m
        · rw [e]; omega
        · exact hcl j (by omega) h)
      refine ⟨m', R', tc', ts', tl', tm', re', no', ⟨s1, s2, by omega, s4, s5, s6, s7, s8, fun j hj => (s9 j (by omega)).trans (r5 j hj), fun j h1 h2 => (s10 j h1 h2).trans (r6 j h1 h2)⟩, fun post h => ?_, fun post h => ?_⟩
      · obtain ⟨n, hn⟩ := sX post h
        refine ⟨n + 1, ?_⟩
        rw [wX_closeWindows_0]
        exact br_f q0 (x_end hp hw rfl (br_f (fun q => c (q3.mp q)) ⟨5, rX post _ hn⟩))
      · obtain ⟨n, hn⟩ := sY post h
        refine ⟨n + 1, ?_⟩
        rw [wY_closeWindows_3]
        exact br_f q0 ⟨5, rY post _ hn⟩
end LOCKCW
end
section
/-! H: the relation -/
def r_A (e p : Nat → Nat) (po gt il no : Nat → Int32) : Prop := ∀ s, s < 3 → po s = nI (p s) ∧ no s = nI (p s) ∧ p s ≤ e s ∧ ((il s = 0 ∧ no (3 + s) = 0) ∨ (il s = 1 ∧ no (3 + s) = 1)) ∧ ((gt s = -1000 ∧ no (6 + s) = -1) ∨ ∃ t : Nat, t < 64 ∧ gt s = nI t ∧ no (6 + s) = nI t)
def r_E (e : Nat → Nat) (ec et ek ev sz cd vl : Nat → Int32) : Prop := ∀ s, s < 3 → ec s = nI (e s) ∧ sz s = nI (e s) ∧ e s ≤ 20 ∧ ∀ i, i < e s → ∃ t k : Nat, t < 64 ∧ k < 4 ∧ et (20 * s + i) = nI t ∧ ek (20 * s + i) = nI k ∧ cd (20 * s + i) = nI (64 * k + t) ∧ vl (20 * s + i) = ev (20 * s + i)
def r_K (K W PN LA : Nat) (kd wd pn la yk yt yp yl : Int32) : Prop := (kd = nI K ∧ wd = nI W ∧ pn = nI PN ∧ la = nI LA) ∧ (yk = nI K ∧ yt = nI W ∧ yp = nI (PN * W) ∧ yl = nI LA) ∧ K ≤ 2 ∧ 1 ≤ W ∧ W ≤ 8 ∧ 1 ≤ PN ∧ PN ≤ 4 ∧ LA ≤ 20
/-- what holds of the ghosts: time z, window m, results R, panes P, sessions L and M; st: settled -/
def r_G (st : Prop) (K W PN T : Nat) (z : Int) (m R : Nat) (P : Nat → Nat → Option Qv) (L : Nat → List Ses) (M : List (Nat × Ses)) : Prop :=
  (-1000 ≤ z ∧ z ≤ 63 ∧ 5 ≤ m + PN ∧ m + PN ≤ 68) ∧ (∀ k i, i < 4 ∨ 68 ≤ i → P k i = none) ∧ (∀ k i, q_n (P k i) ≤ T) ∧ M.Perm (s_fl L) ∧ (∀ k, k < 4 → s_ok W (L k)) ∧
  (K < 2 → R ≤ 4 * (m + PN - 5) ∧ (∀ j, j < m → 5 ≤ j + PN → e_n PN W j ≤ z) ∧ (st → z < e_n PN W m) ∧ M = [] ∧ ∀ k, L k = []) ∧
  (K = 2 → (∀ k i, P k i = none) ∧ R + s_n M ≤ T)
def r_C (st : Prop) (K W PN : Nat) (e p : Nat → Nat) (R : Nat) (po gt il : Nat → Int32) (mk lc nw : Int32) (pc ps pl pm ss ft lt sc su sl sm re no : Nat → Int32) : Prop :=
  ∃ (z : Int) (m : Nat) (P : Nat → Nat → Option Qv) (L : Nat → List Ses) (M : List (Nat × Ses)), r_G st K W PN (p 0 + p 1 + p 2) z m R P L M ∧ r_A e p po gt il no ∧ mk = hI z ∧ no 9 = hI z ∧ lc = no 10 ∧ nw = hI ((m : Int) - 4) ∧ r_R R re no ∧ r_P P pc ps pl pm ∧ r_W (w_of P PN (4 * m)) no ∧ s_XL ss (s_b ft lt sc su sl sm) L ∧ s_YL no M
def r_X (st : Prop) (e p : Nat → Nat) (kd wd pn la mk lc nw rc km kl kw kr tc ts tl tm : Int32) (ec et ek ev po gt il pc ps pl pm ss ft lt sc su sl sm re kp kt ki kq ks : Nat → Int32) (yk yt yp yl : Int32) (sz cd vl no cp : Nat → Int32) : Prop :=
  ∃ (K W PN LA R Rk : Nat) (pk : Nat → Nat), r_K K W PN LA kd wd pn la yk yt yp yl ∧ r_E e ec et ek ev sz cd vl ∧ rc = nI R ∧ kr = nI Rk ∧ Rk ≤ R ∧
    r_C st K W PN e p R po gt il mk lc nw pc ps pl pm ss ft lt sc su sl sm re no ∧
    r_C True K W PN e pk Rk kp kt ki km kl kw (fun j => kq (4 * j)) (fun j => kq (4 * j + 1)) (fun j => kq (4 * j + 2)) (fun j => kq (4 * j + 3)) (fun j => ks (768 + j)) (fun j => ks (6 * j)) (fun j => ks (6 * j + 1)) (fun j => ks (6 * j + 2)) (fun j => ks (6 * j + 3)) (fun j => ks (6 * j + 4)) (fun j => ks (6 * j + 5)) re cp
def r_V (e p : Nat → Nat) (u : SX) (v : SY) : Prop := r_X True e p u.1 u.2.1 u.2.2.1 u.2.2.2.1 u.2.2.2.2.1 u.2.2.2.2.2.1 u.2.2.2.2.2.2.1 u.2.2.2.2.2.2.2.1 u.2.2.2.2.2.2.2.2.1 u.2.2.2.2.2.2.2.2.2.1 u.2.2.2.2.2.2.2.2.2.2.1 u.2.2.2.2.2.2.2.2.2.2.2.1 u.2.2.2.2.2.2.2.2.2.2.2.2.1 u.2.2.2.2.2.2.2.2.2.2.2.2.2.1 u.2.2.2.2.2.2.2.2.2.2.2.2.2.2.1 u.2.2.2.2.2.2.2.2.2.2.2.2.2.2.2.1 u.2.2.2.2.2.2.2.2.2.2.2.2.2.2.2.2.1 u.2.2.2.2.2.2.2.2.2.2.2.2.2.2.2.2.2.1 u.2.2.2.2.2.2.2.2.2.2.2.2.2.2.2.2.2.2.1 u.2.2.2.2.2.2.2.2.2.2.2.2.2.2.2.2.2.2.2.1 u.2.2.2.2.2.2.2.2.2.2.2.2.2.2.2.2.2.2.2.2.1 u.2.2.2.2.2.2.2.2.2.2.2.2.2.2.2.2.2.2.2.2.2.1 u.2.2.2.2.2.2.2.2.2.2.2.2.2.2.2.2.2.2.2.2.2.2.1 u.2.2.2.2.2.2.2.2.2.2.2.2.2.2.2.2.2.2.2.2.2.2.2.1 u.2.2.2.2.2.2.2.2.2.2.2.2.2.2.2.2.2.2.2.2.2.2.2.2.1 u.2.2.2.2.2.2.2.2.2.2.2.2.2.2.2.2.2.2.2.2.2.2.2.2.2.1 u.2.2.2.2.2.2.2.2.2.2.2.2.2.2.2.2.2.2.2.2.2.2.2.2.2.2.1 u.2.2.2.2.2.2.2.2.2.2.2.2.2.2.2.2.2.2.2.2.2.2.2.2.2.2.2.1 u.2.2.2.2.2.2.2.2.2.2.2.2.2.2.2.2.2.2.2.2.2.2.2.2.2.2.2.2.1 u.2.2.2.2.2.2.2.2.2.2.2.2.2.2.2.2.2.2.2.2.2.2.2.2.2.2.2.2.2.1 u.2.2.2.2.2.2.2.2.2.2.2.2.2.2.2.2.2.2.2.2.2.2.2.2.2.2.2.2.2.2.1 u.2.2.2.2.2.2.2.2.2.2.2.2.2.2.2.2.2.2.2.2.2.2.2.2.2.2.2.2.2.2.2.1 u.2.2.2.2.2.2.2.2.2.2.2.2.2.2.2.2.2.2.2.2.2.2.2.2.2.2.2.2.2.2.2.2.1 u.2.2.2.2.2.2.2.2.2.2.2.2.2.2.2.2.2.2.2.2.2.2.2.2.2.2.2.2.2.2.2.2.2.1 u.2.2.2.2.2.2.2.2.2.2.2.2.2.2.2.2.2.2.2.2.2.2.2.2.2.2.2.2.2.2.2.2.2.2.1 u.2.2.2.2.2.2.2.2.2.2.2.2.2.2.2.2.2.2.2.2.2.2.2.2.2.2.2.2.2.2.2.2.2.2.2.1 u.2.2.2.2.2.2.2.2.2.2.2.2.2.2.2.2.2.2.2.2.2.2.2.2.2.2.2.2.2.2.2.2.2.2.2.2.1 u.2.2.2.2.2.2.2.2.2.2.2.2.2.2.2.2.2.2.2.2.2.2.2.2.2.2.2.2.2.2.2.2.2.2.2.2.2.1 u.2.2.2.2.2.2.2.2.2.2.2.2.2.2.2.2.2.2.2.2.2.2.2.2.2.2.2.2.2.2.2.2.2.2.2.2.2.2.1 u.2.2.2.2.2.2.2.2.2.2.2.2.2.2.2.2.2.2.2.2.2.2.2.2.2.2.2.2.2.2.2.2.2.2.2.2.2.2.2 v.1 v.2.1 v.2.2.1 v.2.2.2.1 v.2.2.2.2.1 v.2.2.2.2.2.1 v.2.2.2.2.2.2.1 v.2.2.2.2.2.2.2.1 v.2.2.2.2.2.2.2.2
def i_Rel (k : Nat) (u : SX) (v : SY) : Prop := ∃ e p, r_V e p u v
theorem i_up {k : Nat} {u : SX} {v : SY} (h : i_Rel k u v) : i_Rel (k + 3) u v := h
section REL
variable {kd wd pn la mk lc nw rc km kl kw kr tc ts tl tm : Int32} {ec et ek ev po gt il pc ps pl pm ss ft lt sc su sl sm re kp kt ki kq ks : Nat → Int32}
variable {yk yt yp yl : Int32} {sz cd vl no cp : Nat → Int32}
theorem zz_el {Z : SX → SY → Prop} {k : Nat} {u : SX} {v : SY} (h : ∀ (e p : Nat → Nat) (kd wd pn la mk lc nw rc km kl kw kr tc ts tl tm : Int32) (ec et ek ev po gt il pc ps pl pm ss ft lt sc su sl sm re kp kt ki kq ks : Nat → Int32) (yk yt yp yl : Int32) (sz cd vl no cp : Nat → Int32), r_X True e p kd wd pn la mk lc nw rc km kl kw kr tc ts tl tm ec et ek ev po gt il pc ps pl pm ss ft lt sc su sl sm re kp kt ki kq ks yk yt yp yl sz cd vl no cp → Z (kd, wd, pn, la, mk, lc, nw, rc, km, kl, kw, kr, tc, ts, tl, tm, ec, et, ek, ev, po, gt, il, pc, ps, pl, pm, ss, ft, lt, sc, su, sl, sm, re, kp, kt, ki, kq, ks) (yk, yt, yp, yl, sz, cd, vl, no, cp)) (I : i_Rel k u v) : Z u v :=
  Exists.elim I (fun e I => Exists.elim I (fun p I => h e p u.1 u.2.1 u.2.2.1 u.2.2.2.1 u.2.2.2.2.1 u.2.2.2.2.2.1 u.2.2.2.2.2.2.1 u.2.2.2.2.2.2.2.1 u.2.2.2.2.2.2.2.2.1 u.2.2.2.2.2.2.2.2.2.1 u.2.2.2.2.2.2.2.2.2.2.1 u.2.2.2.2.2.2.2.2.2.2.2.1 u.2.2.2.2.2.2.2.2.2.2.2.2.1 u.2.2.2.2.2.2.2.2.2.2.2.2.2.1 u.2.2.2.2.2.2.2.2.2.2.2.2.2.2.1 u.2.2.2.2.2.2.2.2.2.2.2.2.2.2.2.1 u.2.2.2.2.2.2.2.2.2.2.2.2.2.2.2.2.1 u.2.2.2.2.2.2.2.2.2.2.2.2.2.2.2.2.2.1 u.2.2.2.2.2.2.2.2.2.2.2.2.2.2.2.2.2.2.1 u.2.2.2.2.2.2.2.2.2.2.2.2.2.2.2.2.2.2.2.1 u.2.2.2.2.2.2.2.2.2.2.2.2.2.2.2.2.2.2.2.2.1 u.2.2.2.2.2.2.2.2.2.2.2.2.2.2.2.2.2.2.2.2.2.1 u.2.2.2.2.2.2.2.2.2.2.2.2.2.2.2.2.2.2.2.2.2.2.1 u.2.2.2.2.2.2.2.2.2.2.2.2.2.2.2.2.2.2.2.2.2.2.2.1 u.2.2.2.2.2.2.2.2.2.2.2.2.2.2.2.2.2.2.2.2.2.2.2.2.1 u.2.2.2.2.2.2.2.2.2.2.2.2.2.2.2.2.2.2.2.2.2.2.2.2.2.1 u.2.2.2.2.2.2.2.2.2.2.2.2.2.2.2.2.2.2.2.2.2.2.2.2.2.2.1 u.2.2.2.2.2.2.2.2.2.2.2.2.2.2.2.2.2.2.2.2.2.2.2.2.2.2.2.1 u.2.2.2.2.2.2.2.2.2.2.2.2.2.2.2.2.2.2.2.2.2.2.2.2.2.2.2.2.1 u.2.2.2.2.2.2.2.2.2.2.2.2.2.2.2.2.2.2.2.2.2.2.2.2.2.2.2.2.2.1 u.2.2.2.2.2.2.2.2.2.2.2.2.2.2.2.2.2.2.2.2.2.2.2.2.2.2.2.2.2.2.1 u.2.2.2.2.2.2.2.2.2.2.2.2.2.2.2.2.2.2.2.2.2.2.2.2.2.2.2.2.2.2.2.1 u.2.2.2.2.2.2.2.2.2.2.2.2.2.2.2.2.2.2.2.2.2.2.2.2.2.2.2.2.2.2.2.2.1 u.2.2.2.2.2.2.2.2.2.2.2.2.2.2.2.2.2.2.2.2.2.2.2.2.2.2.2.2.2.2.2.2.2.1 u.2.2.2.2.2.2.2.2.2.2.2.2.2.2.2.2.2.2.2.2.2.2.2.2.2.2.2.2.2.2.2.2.2.2.1 u.2.2.2.2.2.2.2.2.2.2.2.2.2.2.2.2.2.2.2.2.2.2.2.2.2.2.2.2.2.2.2.2.2.2.2.1 u.2.2.2.2.2.2.2.2.2.2.2.2.2.2.2.2.2.2.2.2.2.2.2.2.2.2.2.2.2.2.2.2.2.2.2.2.1 u.2.2.2.2.2.2.2.2.2.2.2.2.2.2.2.2.2.2.2.2.2.2.2.2.2.2.2.2.2.2.2.2.2.2.2.2.2.1 u.2.2.2.2.2.2.2.2.2.2.2.2.2.2.2.2.2.2.2.2.2.2.2.2.2.2.2.2.2.2.2.2.2.2.2.2.2.2.1 u.2.2.2.2.2.2.2.2.2.2.2.2.2.2.2.2.2.2.2.2.2.2.2.2.2.2.2.2.2.2.2.2.2.2.2.2.2.2.2 v.1 v.2.1 v.2.2.1 v.2.2.2.1 v.2.2.2.2.1 v.2.2.2.2.2.1 v.2.2.2.2.2.2.1 v.2.2.2.2.2.2.2.1 v.2.2.2.2.2.2.2.2 I))
theorem zz_ev {Z : SX → SY → Prop} {e p : Nat → Nat} {u : SX} {v : SY} (h : ∀ (kd wd pn la mk lc nw rc km kl kw kr tc ts tl tm : Int32) (ec et ek ev po gt il pc ps pl pm ss ft lt sc su sl sm re kp kt ki kq ks : Nat → Int32) (yk yt yp yl : Int32) (sz cd vl no cp : Nat → Int32), r_X True e p kd wd pn la mk lc nw rc km kl kw kr tc ts tl tm ec et ek ev po gt il pc ps pl pm ss ft lt sc su sl sm re kp kt ki kq ks yk yt yp yl sz cd vl no cp → Z (kd, wd, pn, la, mk, lc, nw, rc, km, kl, kw, kr, tc, ts, tl, tm, ec, et, ek, ev, po, gt, il, pc, ps, pl, pm, ss, ft, lt, sc, su, sl, sm, re, kp, kt, ki, kq, ks) (yk, yt, yp, yl, sz, cd, vl, no, cp)) (I : r_V e p u v) : Z u v :=
  h u.1 u.2.1 u.2.2.1 u.2.2.2.1 u.2.2.2.2.1 u.2.2.2.2.2.1 u.2.2.2.2.2.2.1 u.2.2.2.2.2.2.2.1 u.2.2.2.2.2.2.2.2.1 u.2.2.2.2.2.2.2.2.2.1 u.2.2.2.2.2.2.2.2.2.2.1 u.2.2.2.2.2.2.2.2.2.2.2.1 u.2.2.2.2.2.2.2.2.2.2.2.2.1 u.2.2.2.2.2.2.2.2.2.2.2.2.2.1 u.2.2.2.2.2.2.2.2.2.2.2.2.2.2.1 u.2.2.2.2.2.2.2.2.2.2.2.2.2.2.2.1 u.2.2.2.2.2.2.2.2.2.2.2.2.2.2.2.2.1 u.2.2.2.2.2.2.2.2.2.2.2.2.2.2.2.2.2.1 u.2.2.2.2.2.2.2.2.2.2.2.2.2.2.2.2.2.2.1 u.2.2.2.2.2.2.2.2.2.2.2.2.2.2.2.2.2.2.2.1 u.2.2.2.2.2.2.2.2.2.2.2.2.2.2.2.2.2.2.2.2.1 u.2.2.2.2.2.2.2.2.2.2.2.2.2.2.2.2.2.2.2.2.2.1 u.2.2.2.2.2.2.2.2.2.2.2.2.2.2.2.2.2.2.2.2.2.2.1 u.2.2.2.2.2.2.2.2.2.2.2.2.2.2.2.2.2.2.2.2.2.2.2.1 u.2.2.2.2.2.2.2.2.2.2.2.2.2.2.2.2.2.2.2.2.2.2.2.2.1 u.2.2.2.2.2.2.2.2.2.2.2.2.2.2.2.2.2.2.2.2.2.2.2.2.2.1 u.2.2.2.2.2.2.2.2.2.2.2.2.2.2.2.2.2.2.2.2.2.2.2.2.2.2.1 u.2.2.2.2.2.2.2.2.2.2.2.2.2.2.2.2.2.2.2.2.2.2.2.2.2.2.2.1 u.2.2.2.2.2.2.2.2.2.2.2.2.2.2.2.2.2.2.2.2.2.2.2.2.2.2.2.2.1 u.2.2.2.2.2.2.2.2.2.2.2.2.2.2.2.2.2.2.2.2.2.2.2.2.2.2.2.2.2.1 u.2.2.2.2.2.2.2.2.2.2.2.2.2.2.2.2.2.2.2.2.2.2.2.2.2.2.2.2.2.2.1 u.2.2.2.2.2.2.2.2.2.2.2.2.2.2.2.2.2.2.2.2.2.2.2.2.2.2.2.2.2.2.2.1 u.2.2.2.2.2.2.2.2.2.2.2.2.2.2.2.2.2.2.2.2.2.2.2.2.2.2.2.2.2.2.2.2.1 u.2.2.2.2.2.2.2.2.2.2.2.2.2.2.2.2.2.2.2.2.2.2.2.2.2.2.2.2.2.2.2.2.2.1 u.2.2.2.2.2.2.2.2.2.2.2.2.2.2.2.2.2.2.2.2.2.2.2.2.2.2.2.2.2.2.2.2.2.2.1 u.2.2.2.2.2.2.2.2.2.2.2.2.2.2.2.2.2.2.2.2.2.2.2.2.2.2.2.2.2.2.2.2.2.2.2.1 u.2.2.2.2.2.2.2.2.2.2.2.2.2.2.2.2.2.2.2.2.2.2.2.2.2.2.2.2.2.2.2.2.2.2.2.2.1 u.2.2.2.2.2.2.2.2.2.2.2.2.2.2.2.2.2.2.2.2.2.2.2.2.2.2.2.2.2.2.2.2.2.2.2.2.2.1 u.2.2.2.2.2.2.2.2.2.2.2.2.2.2.2.2.2.2.2.2.2.2.2.2.2.2.2.2.2.2.2.2.2.2.2.2.2.2.1 u.2.2.2.2.2.2.2.2.2.2.2.2.2.2.2.2.2.2.2.2.2.2.2.2.2.2.2.2.2.2.2.2.2.2.2.2.2.2.2 v.1 v.2.1 v.2.2.1 v.2.2.2.1 v.2.2.2.2.1 v.2.2.2.2.2.1 v.2.2.2.2.2.2.1 v.2.2.2.2.2.2.2.1 v.2.2.2.2.2.2.2.2 I
theorem zz_in {k : Nat} {e p : Nat → Nat} (h : r_X True e p kd wd pn la mk lc nw rc km kl kw kr tc ts tl tm ec et ek ev po gt il pc ps pl pm ss ft lt sc su sl sm re kp kt ki kq ks yk yt yp yl sz cd vl no cp) : i_Rel k (kd, wd, pn, la, mk, lc, nw, rc, km, kl, kw, kr, tc, ts, tl, tm, ec, et, ek, ev, po, gt, il, pc, ps, pl, pm, ss, ft, lt, sc, su, sl, sm, re, kp, kt, ki, kq, ks) (yk, yt, yp, yl, sz, cd, vl, no, cp) := ⟨e, p, h⟩
theorem zz_iv {e p : Nat → Nat} (h : r_X True e p kd wd pn la mk lc nw rc km kl kw kr tc ts tl tm ec et ek ev po gt il pc ps pl pm ss ft lt sc su sl sm re kp kt ki kq ks yk yt yp yl sz cd vl no cp) : r_V e p (kd, wd, pn, la, mk, lc, nw, rc, km, kl, kw, kr, tc, ts, tl, tm, ec, et, ek, ev, po, gt, il, pc, ps, pl, pm, ss, ft, lt, sc, su, sl, sm, re, kp, kt, ki, kq, ks) (yk, yt, yp, yl, sz, cd, vl, no, cp) := h
end REL
theorem r_A_f {e p : Nat → Nat} {po gt il no no' : Nat → Int32} (h : r_A e p po gt il no) (hf : ∀ j, j < 9 → no' j = no j) : r_A e p po gt il no' := by
  intro s hs
  rw [hf s (by omega), hf (3 + s) (by omega), hf (6 + s) (by omega)]
  exact h s hs
theorem r_R_f {R : Nat} {re re' no no' : Nat → Int32} (h : r_R R re no) (h1 : no' 11 = no 11) (h2 : ∀ j, 1524 ≤ j → j < 1524 + 7 * R → no' j = no j) (h3 : ∀ j, j < 7 * R → re' j = re j) : r_R R re' no' :=
  ⟨h1.trans h.1, fun j hj => (h2 _ (by omega) (by omega)).trans ((h.2 j hj).trans (h3 j hj).symm)⟩
theorem s_YL_f {M : List (Nat × Ses)} {no no' : Nat → Int32} (h : s_YL no M) (h1 : no' 12 = no 12) (h2 : ∀ j, 1104 ≤ j → j < 1104 + 7 * M.length → no' j = no j) : s_YL no' M :=
  ⟨h1.trans h.1, s_ys_f M 0 (fun j j1 j2 => h2 j (by omega) (by omega)) h.2⟩
end
section
def o_x : Option Int → Int32
  | none => 1000
  | some a => hI a
def o_y : Option Int → Int32
  | none => 100000
  | some a => hI a
theorem r_C_re {st : Prop} {K W PN : Nat} {e p : Nat → Nat} {R : Nat} {po gt il : Nat → Int32} {mk lc nw : Int32} {pc ps pl pm ss ft lt sc su sl sm re re' no : Nat → Int32} (h : r_C st K W PN e p R po gt il mk lc nw pc ps pl pm ss ft lt sc su sl sm re no) (hr : ∀ j, j < 7 * R → re' j = re j) : r_C st K W PN e p R po gt il mk lc nw pc ps pl pm ss ft lt sc su sl sm re' no := by
  obtain ⟨z, m, P, L, M, hG, hA, hz, h9, hlc, hnw, hR, hP, hW, hX, hY⟩ := h
  exact ⟨z, m, P, L, M, hG, hA, hz, h9, hlc, hnw, r_R_f hR rfl (fun _ _ _ => rfl) hr, hP, hW, hX, hY⟩
section SETTLE
variable {kd wd pn la mk lc nw rc km kl kw kr tc ts tl tm : Int32} {ec et ek ev po gt il pc ps pl pm ss ft lt sc su sl sm re kp kt ki kq ks : Nat → Int32}
variable {yk yt yp yl : Int32} {sz cd vl no cp : Nat → Int32}
theorem lk_mkl {e p : Nat → Nat} {LA : Nat} {z : Int} (hA : r_A e p po gt il no) (hla : la = nI LA) (hyl : yl = nI LA) (hLA : LA ≤ 20) (hz : mk = hI z) (h9 : no 9 = hI z) (hz1 : -1000 ≤ z) (hz2 : z ≤ 63) :
    ∀ d s, s + d = 3 → ∀ o : Option Int, (∀ a, o = some a → -1000 ≤ a ∧ a ≤ 63) → ∃ z' : Int, z ≤ z' ∧ z' ≤ 63 ∧ (∀ post : Int32 → SX → Prop, wX_lookAtMark_91 post (hI z') kd wd pn la mk lc nw rc km kl kw kr tc ts tl tm ec et ek ev po gt il pc ps pl pm ss ft lt sc su sl sm re kp kt ki kq ks → wX_lookAtMark_6 post kd wd pn la mk lc nw rc km kl kw kr tc ts tl tm ec et ek ev po gt il pc ps pl pm ss ft lt sc su sl sm re kp kt ki kq ks (d + 1) (o_x o) (nI s)) ∧ (∀ post : SY → Prop, post (yk, yt, yp, yl, sz, cd, vl, upd no 9 (hI z'), cp) → wY_lookAtMark_5 post yk yt yp yl sz cd vl no cp (d + 1) (o_y o) (nI s)) := by
  have hself : upd no 9 (hI z) = no := by rw [← h9]; exact upd_self no 9
  intro d
  induction d with
  | zero =>
    intro s hs o ho
    have : s = 3 := by omega
    subst this
    cases o with
    | none =>
      refine ⟨z, by omega, hz2, fun post h => ?_, fun post h => ?_⟩
      · rw [wX_lookAtMark_6]
        refine br_t (Int32.le_refl _) (br_t (Int32.le_refl _) ?_)
        unfold wX_lookAtMark_87
        rw [hz] at h ⊢
        exact h
      · rw [wY_lookAtMark_5]
        rw [hself] at h
        exact br_t (Int32.le_refl _) (br_t (Int32.le_refl _) h)
    | some a =>
      obtain ⟨a1, a2⟩ := ho a rfl
      have q1 : ¬ (1000 : Int32) ≤ hI a := fun q => by
        have := (hx_le (a := 1000) (b := a) rfl rfl (by omega) (by omega)).mp q
        omega
      have q2 : ¬ (100000 : Int32) ≤ hI a := fun q => by
        have := (hx_le (a := 100000) (b := a) rfl rfl (by omega) (by omega)).mp q
        omega
      have q3 : hI a ≤ mk ↔ a ≤ z := hx_le rfl hz (by omega) (by omega)
      have q4 : hI a ≤ no 9 ↔ a ≤ z := hx_le rfl h9 (by omega) (by omega)
      by_cases c : a ≤ z
      · refine ⟨z, by omega, hz2, fun post h => ?_, fun post h => ?_⟩
        · rw [wX_lookAtMark_6]
          refine br_t (Int32.le_refl _) (br_f q1 (br_t (q3.mpr c) ?_))
          unfold wX_lookAtMark_87
          rw [hz] at h ⊢
          exact h
        · rw [wY_lookAtMark_5]
          rw [hself] at h
          exact br_t (Int32.le_refl _) (br_f q2 (br_t (q4.mpr c) h))
      · refine ⟨a, by omega, a2, fun post h => ?_, fun post h => ?_⟩
        · rw [wX_lookAtMark_6]
          exact br_t (Int32.le_refl _) (br_f q1 (br_f (fun q => c (q3.mp q)) h))
        · rw [wY_lookAtMark_5]
          exact br_t (Int32.le_refl _) (br_f q2 (br_f (fun q => c (q4.mp q)) (nm_e h)))
  | succ d ih =>
    intro s hs o ho
    have hs3 : s < 3 := by omega
    obtain ⟨-, -, -, hil, hgt⟩ := hA s hs3
    have cs : (nI s).toNatClampNeg = s := nI_clamp (by omega)
    have is : vp_in (nI s) 3 := vp_in_nI hs3 (by omega)
    have e6 : (6 : Int32) + nI s = nI (6 + s) := nI_add 6 s
    have e3 : (3 : Int32) + nI s = nI (3 + s) := nI_add 3 s
    have i6 : vp_in ((6 : Int32) + nI s) 3316 := by rw [e6]; exact vp_in_nI (by omega) (by omega)
    have i3 : vp_in ((3 : Int32) + nI s) 3316 := by rw [e3]; exact vp_in_nI (by omega) (by omega)
    have c6 : ((6 : Int32) + nI s).toNatClampNeg = 6 + s := by rw [e6]; exact nI_clamp (by omega)
    have c3 : ((3 : Int32) + nI s).toNatClampNeg = 3 + s := by rw [e3]; exact nI_clamp (by omega)
    have hm : (-1000 : Int32) = hI (-1000) := by decide
    obtain ⟨a0, b1, b2, hX, hY⟩ : ∃ a0 : Int, -1000 ≤ a0 ∧ a0 ≤ 63 ∧ (∀ (post : Int32 → SX → Prop) (n : Nat) (x1 : Int32), wX_lookAtMark_40 post (wX_lookAtMark_6 post kd wd pn la mk lc nw rc km kl kw kr tc ts tl tm ec et ek ev po gt il pc ps pl pm ss ft lt sc su sl sm re kp kt ki kq ks n) x1 (nI s) (hI a0) kd wd pn la mk lc nw rc km kl kw kr tc ts tl tm ec et ek ev po gt il pc ps pl pm ss ft lt sc su sl sm re kp kt ki kq ks → wX_lookAtMark_6 post kd wd pn la mk lc nw rc km kl kw kr tc ts tl tm ec et ek ev po gt il pc ps pl pm ss ft lt sc su sl sm re kp kt ki kq ks (n + 1) x1 (nI s)) ∧ (∀ (post : SY → Prop) (n : Nat) (x1 : Int32), wY_lookAtMark_42 post (wY_lookAtMark_5 post yk yt yp yl sz cd vl no cp n) x1 (nI s) (hI a0) yk yt yp yl sz cd vl no cp → wY_lookAtMark_5 post yk yt yp yl sz cd vl no cp (n + 1) x1 (nI s)) := by
      rcases hgt with ⟨g1, g2⟩ | ⟨t, t1, g1, g2⟩
      · refine ⟨-1000, by omega, by omega, fun post n x1 h => ?_, fun post n x1 h => ?_⟩
        · rw [wX_lookAtMark_6]
          rw [← hm] at h
          exact br_f (nI_ge (b := 3) hs3 (by omega)) ⟨is, br_t (by rw [cs]; exact g1) h⟩
        · rw [wY_lookAtMark_5]
          rw [← hm] at h
          exact br_f (nI_ge (b := 3) hs3 (by omega)) ⟨i6, br_f (by rw [c6, g2]; decide) h⟩
      · refine ⟨(t : Int) - LA, by omega, by omega, fun post n x1 h => ?_, fun post n x1 h => ?_⟩
        · rw [wX_lookAtMark_6]
          refine br_f (nI_ge (b := 3) hs3 (by omega)) ⟨is, br_f ?_ ⟨is, ?_⟩⟩
          · rw [cs, g1, hm]
            intro q
            have := (hx_eq (hI_n t).symm rfl (by omega) (by omega)).mp q
            omega
          · rw [cs, g1, show nI t - la = hI ((t : Int) - LA) from hx_s (hI_n t).symm (hx_n hla)]
            exact h
        · rw [wY_lookAtMark_5]
          refine br_f (nI_ge (b := 3) hs3 (by omega)) ⟨i6, br_t ?_ ⟨i6, ?_⟩⟩
          · rw [c6, g2]; exact nI_pos' (by omega)
          · rw [c6, g2, show nI t - yl = hI ((t : Int) - LA) from hx_s (hI_n t).symm (hx_n hyl)]
            exact h
    rcases hil with ⟨l1, l2⟩ | ⟨l1, l2⟩
    · -- not idle
      cases o with
      | none =>
        obtain ⟨z', z1, z2, zX, zY⟩ := ih (s + 1) (by omega) (some a0) (fun a ha => by cases ha; exact ⟨b1, b2⟩)
        refine ⟨z', z1, z2, fun post h => hX post _ _ ?_, fun post h => hY post _ _ ?_⟩
        · unfold wX_lookAtMark_40
          refine ⟨is, br_t (by rw [cs]; exact l1) (br_f (fun q => ?_) (nm_r (nI_1 s) (zX post h)))⟩
          have := (hx_le (a := 1000) (b := a0) rfl rfl (by omega) (by omega)).mp q
          omega
        · unfold wY_lookAtMark_42
          refine ⟨i3, br_t (by rw [c3]; exact l2) (br_f (fun q => ?_) (nm_r (nI_1 s) (zY post h)))⟩
          have := (hx_le (a := 100000) (b := a0) rfl rfl (by omega) (by omega)).mp q
          omega
      | some a =>
        obtain ⟨a1, a2⟩ := ho a rfl
        have q1 : hI a ≤ hI a0 ↔ a ≤ a0 := hI_le (by omega) (by omega)
        by_cases c : a ≤ a0
        · obtain ⟨z', z1, z2, zX, zY⟩ := ih (s + 1) (by omega) (some a) ho
          refine ⟨z', z1, z2, fun post h => hX post _ _ ?_, fun post h => hY post _ _ ?_⟩
          · unfold wX_lookAtMark_40
            exact ⟨is, br_t (by rw [cs]; exact l1) (br_t (q1.mpr c) (nm_r (nI_1 s) (zX post h)))⟩
          · unfold wY_lookAtMark_42
            exact ⟨i3, br_t (by rw [c3]; exact l2) (br_t (q1.mpr c) (nm_r (nI_1 s) (zY post h)))⟩
        · obtain ⟨z', z1, z2, zX, zY⟩ := ih (s + 1) (by omega) (some a0) (fun a ha => by cases ha; exact ⟨b1, b2⟩)
          refine ⟨z', z1, z2, fun post h => hX post _ _ ?_, fun post h => hY post _ _ ?_⟩
          · unfold wX_lookAtMark_40
            exact ⟨is, br_t (by rw [cs]; exact l1) (br_f (fun q => c (q1.mp q)) (nm_r (nI_1 s) (zX post h)))⟩
          · unfold wY_lookAtMark_42
            exact ⟨i3, br_t (by rw [c3]; exact l2) (br_f (fun q => c (q1.mp q)) (nm_r (nI_1 s) (zY post h)))⟩
    · obtain ⟨z', z1, z2, zX, zY⟩ := ih (s + 1) (by omega) o ho
      refine ⟨z', z1, z2, fun post h => hX post _ _ ?_, fun post h => hY post _ _ ?_⟩
      · unfold wX_lookAtMark_40
        exact ⟨is, br_f (by rw [cs, l1]; decide) (nm_r (nI_1 s) (zX post h))⟩
      · unfold wY_lookAtMark_42
        exact ⟨i3, br_f (by rw [c3, l2]; decide) (nm_r (nI_1 s) (zY post h))⟩
theorem r_A_T {e p : Nat → Nat} {po gt il no ec et ek ev sz cd vl : Nat → Int32} (hA : r_A e p po gt il no) (hE : r_E e ec et ek ev sz cd vl) : p 0 + p 1 + p 2 ≤ 60 := by
  have a0 := (hA 0 (by omega)).2.2.1
  have a1 := (hA 1 (by omega)).2.2.1
  have a2 := (hA 2 (by omega)).2.2.1
  have b0 := (hE 0 (by omega)).2.2.1
  have b1 := (hE 1 (by omega)).2.2.1
  have b2 := (hE 2 (by omega)).2.2.1
  omega
theorem lk_settle {e p : Nat → Nat} (h : r_X False e p kd wd pn la mk lc nw rc km kl kw kr tc ts tl tm ec et ek ev po gt il pc ps pl pm ss ft lt sc su sl sm re kp kt ki kq ks yk yt yp yl sz cd vl no cp) : ∃ (u' : SX) (v' : SY) (r : Int32), r_V e p u' v' ∧ (∀ post : Int32 → SX → Prop, post r u' → wpX_lookAtMark post (kd, wd, pn, la, mk, lc, nw, rc, km, kl, kw, kr, tc, ts, tl, tm, ec, et, ek, ev, po, gt, il, pc, ps, pl, pm, ss, ft, lt, sc, su, sl, sm, re, kp, kt, ki, kq, ks)) ∧ (∀ post : Int32 → SY → Prop, post r v' → wpY_settle post (yk, yt, yp, yl, sz, cd, vl, no, cp)) := by
  obtain ⟨K, W, PN, LA, R, Rk, pk, hK, hE, hrc, hkr, hRk, hC, hCk⟩ := h
  obtain ⟨⟨k1, k2, k3, k4⟩, ⟨j1, j2, j3, j4⟩, hK2, hW1, hW8, hPN1, hPN4, hLA⟩ := id hK
  obtain ⟨z, m, P, L, M, hG, hA, hz, h9, hlc, hnw, hR, hP, hW, hXL, hYL⟩ := hC
  obtain ⟨⟨g1, g2, g3, g4⟩, gn, gb, gp, gok, gw, gs⟩ := hG
  have hT := r_A_T hA hE
  have hb60 : ∀ k i, q_n (P k i) ≤ 60 := fun k i => Nat.le_trans (gb k i) hT
  obtain ⟨z', zz1, zz2, wX, wY⟩ := lk_mkl (kd := kd) (wd := wd) (pn := pn) (la := la) (mk := mk) (lc := lc) (nw := nw) (rc := rc) (km := km) (kl := kl) (kw := kw) (kr := kr) (tc := tc) (ts := ts) (tl := tl) (tm := tm) (ec := ec) (et := et) (ek := ek) (ev := ev) (po := po) (gt := gt) (il := il) (pc := pc) (ps := ps) (pl := pl) (pm := pm) (ss := ss) (ft := ft) (lt := lt) (sc := sc) (su := su) (sl := sl) (sm := sm) (re := re) (kp := kp) (kt := kt) (ki := ki) (kq := kq) (ks := ks) (yk := yk) (yt := yt) (yp := yp) (yl := yl) (sz := sz) (cd := cd) (vl := vl) (no := no) (cp := cp) hA k4 j4 hLA hz h9 g1 g2 3 0 (by omega) none (fun a ha => nomatch ha)
  have no1f : ∀ j, j ≠ 9 → upd no 9 (hI z') j = no j := fun j hj => pk_un hj
  have hR1 : r_R R re (upd no 9 (hI z')) := r_R_f hR (no1f 11 (by omega)) (fun j h1 h2 => no1f j (by omega)) (fun _ _ => rfl)
  have hW1' : r_W (w_of P PN (4 * m)) (upd no 9 (hI z')) := r_W_f hW (fun j h1 h2 => no1f j (by omega))
  have hYL1 : s_YL (upd no 9 (hI z')) M := s_YL_f hYL (no1f 12 (by omega)) (fun j h1 h2 => no1f j (by omega))
  have hA1 : r_A e p po gt il (upd no 9 (hI z')) := r_A_f hA (fun j hj => no1f j (by omega))
  have h91 : upd no 9 (hI z') 9 = hI z' := pk_us
  have h101 : upd no 9 (hI z') 10 = no 10 := no1f 10 (by omega)
  have h111 : upd no 9 (hI z') 11 = nI R := (no1f 11 (by omega)).trans hR.1
  subst hrc
  by_cases hK' : K = 2
  · obtain ⟨gs1, gs2⟩ := gs hK'
    obtain ⟨R', tc', ts', tl', tm', re', ss', ft', lt', sc', su', sl', sm', no', L', M', ⟨q1, q2, q3, q4, q5, q6, q7, q8, q9⟩, qX, qY⟩ := lk_cs (kd := kd) (wd := wd) (pn := pn) (la := la) (lc := lc) (nw := nw) (km := km) (kl := kl) (kw := kw) (kr := kr) (ec := ec) (et := et) (ek := ek) (ev := ev) (po := po) (gt := gt) (il := il) (pc := pc) (ps := ps) (pl := pl) (pm := pm) (kp := kp) (kt := kt) (ki := ki) (kq := kq) (ks := ks) (mk := hI z') (yk := yk) (yt := yt) (yp := yp) (yl := yl) (sz := sz) (cd := cd) (vl := vl) (cp := cp) k2 j2 hW1 hW8 rfl (by omega) zz2 M.length M L R tc ts tl tm re ss ft lt sc su sl sm (upd no 9 (hI z')) rfl hXL hYL1 gp gok hR1 (by omega) h91
    refine ⟨(kd, wd, pn, la, hI z', lc, nw, nI R', km, kl, kw, kr, tc', ts', tl', tm', ec, et, ek, ev, po, gt, il, pc, ps, pl, pm, ss', ft', lt', sc', su', sl', sm', re', kp, kt, ki, kq, ks), (yk, yt, yp, yl, sz, cd, vl, no', cp), nI R' - nI R, ?_, fun post hp => ?_, fun post hp => ?_⟩
    · refine zz_iv ⟨K, W, PN, LA, R', Rk, pk, hK, hE, rfl, hkr, by omega, ⟨z', m, P, L', M', ?_, r_A_f hA1 (fun j hj => q9 j (by omega) (by omega) (by omega)), rfl, (q9 9 (by omega) (by omega) (by omega)).trans h91, ?_, hnw, q5, hP, r_W_f hW1' (fun j h1 h2 => q9 j (by omega) (by omega) h2), q1, q2⟩, r_C_re hCk (fun j hj => q8 j (by omega))⟩
      · exact ⟨⟨by omega, zz2, g3, g4⟩, gn, gb, q3, q4, fun q => absurd q (by omega), fun _ => ⟨gs1, by omega⟩⟩
      · rw [q9 10 (by omega) (by omega) (by omega), h101]; exact hlc
    · unfold wpX_lookAtMark
      refine ⟨4, wX post ?_⟩
      unfold wX_lookAtMark_91
      refine br_t (by rw [k1, hK']; exact Int32.le_refl _) ?_
      obtain ⟨mm, rr, s1, s2⟩ := qX (fun u => match u with | (kd, wd, pn, la, mk, lc, nw, rc, km, kl, kw, kr, tc, ts, tl, tm, ec, et, ek, ev, po, gt, il, pc, ps, pl, pm, ss, ft, lt, sc, su, sl, sm, re, kp, kt, ki, kq, ks) => post (rc - nI R) (kd, wd, pn, la, mk, lc, nw, rc, km, kl, kw, kr, tc, ts, tl, tm, ec, et, ek, ev, po, gt, il, pc, ps, pl, pm, ss, ft, lt, sc, su, sl, sm, re, kp, kt, ki, kq, ks)) hp
      unfold wpX_closeSessions
      exact s1 _ ⟨mm, s2⟩
    · unfold wpY_settle
      refine nm_r (e' := nI R) hR.1 ?_
      unfold wpY_lookAtMark
      refine ⟨4, wY _ ?_⟩
      refine br_t (by rw [j1, hK']; rfl) ?_
      unfold wpY_closeSessions
      refine qY _ ?_
      show post (no' 11 - nI R) (yk, yt, yp, yl, sz, cd, vl, no', cp)
      rw [q5.1]
      exact hp
  · obtain ⟨w1, w2, w3, w4, w5⟩ := gw (by omega)
    obtain ⟨m', R', tc', ts', tl', tm', re', no', ⟨s1, s2, s3, s4, s5, s6, s7, s8, s9, s10⟩, sX, sY⟩ := lk_cwl (kd := kd) (wd := wd) (pn := pn) (la := la) (lc := lc) (km := km) (kl := kl) (kw := kw) (kr := kr) (ec := ec) (et := et) (ek := ek) (ev := ev) (po := po) (gt := gt) (il := il) (pc := pc) (ps := ps) (pl := pl) (pm := pm) (ss := ss) (ft := ft) (lt := lt) (sc := sc) (su := su) (sl := sl) (sm := sm) (kp := kp) (kt := kt) (ki := ki) (kq := kq) (ks := ks) (mk := hI z') (yk := yk) (yt := yt) (yp := yp) (yl := yl) (sz := sz) (cd := cd) (vl := vl) (cp := cp) hPN1 hPN4 hW1 hW8 k3 k2 j2 j3 rfl (show -1000 ≤ z' by omega) zz2 hP gn hb60 (68 - m) m (by omega) R tc ts tl tm re (upd no 9 (hI z')) hW1' hR1 h91 g3 g4 w1 (fun j hj h5 => by have := w2 j hj h5; omega)
    refine ⟨(kd, wd, pn, la, hI z', lc, hI ((m' : Int) - 4), nI R', km, kl, kw, kr, tc', ts', tl', tm', ec, et, ek, ev, po, gt, il, pc, ps, pl, pm, ss, ft, lt, sc, su, sl, sm, re', kp, kt, ki, kq, ks), (yk, yt, yp, yl, sz, cd, vl, no', cp), nI R' - nI R, ?_, fun post hp => ?_, fun post hp => ?_⟩
    · have f13 : ∀ j, j ≠ 11 → (j < 16 ∨ (1104 ≤ j ∧ j < 1524)) → no' j = upd no 9 (hI z') j := s10
      refine zz_iv ⟨K, W, PN, LA, R', Rk, pk, hK, hE, rfl, hkr, by omega, ⟨z', m', P, L, M, ?_, r_A_f hA1 (fun j hj => s10 j (by omega) (by omega)), rfl, (s10 9 (by omega) (by omega)).trans h91, ?_, rfl, s2, hP, s1, hXL, ?_⟩, r_C_re hCk (fun j hj => s9 j (by omega))⟩
      · exact ⟨⟨by omega, zz2, s5, s6⟩, gn, gb, gp, gok, fun _ => ⟨s4, s8, fun _ => s7, w4, w5⟩, fun q => absurd q hK'⟩
      · rw [s10 10 (by omega) (by omega), h101]; exact hlc
      · refine s_YL_f hYL1 (s10 12 (by omega) (by omega)) (fun j h1 h2 => s10 j (by omega) ?_)
        rw [w4] at h2
        exact absurd h2 (by show ¬ j < 1104 + 7 * 0; omega)
    · unfold wpX_lookAtMark
      refine ⟨4, wX post ?_⟩
      unfold wX_lookAtMark_91
      refine br_f (by rw [k1]; exact nI_ge (b := 2) (by omega) (by omega)) ?_
      obtain ⟨n, hn⟩ := sX (fun u => match u with | (kd, wd, pn, la, mk, lc, nw, rc, km, kl, kw, kr, tc, ts, tl, tm, ec, et, ek, ev, po, gt, il, pc, ps, pl, pm, ss, ft, lt, sc, su, sl, sm, re, kp, kt, ki, kq, ks) => post (rc - nI R) (kd, wd, pn, la, mk, lc, nw, rc, km, kl, kw, kr, tc, ts, tl, tm, ec, et, ek, ev, po, gt, il, pc, ps, pl, pm, ss, ft, lt, sc, su, sl, sm, re, kp, kt, ki, kq, ks)) hp
      unfold wpX_closeWindows
      rw [hnw]
      exact ⟨n, hn⟩
    · unfold wpY_settle
      refine nm_r (e' := nI R) hR.1 ?_
      unfold wpY_lookAtMark
      refine ⟨4, wY _ ?_⟩
      refine br_f (by rw [j1]; intro q; exact hK' ((nI_eq (by omega) (by omega)).mp q)) ?_
      unfold wpY_closeWindows
      have h0 := y_cwskips (yk := yk) (yt := yt) (yp := yp) (yl := yl) (sz := sz) (cd := cd) (vl := vl) (cp := cp) (no := upd no 9 (hI z')) (PN := PN) (W := W) (zm := z') hPN4 hW8 j2 j3 (by omega) zz2 h91 m 0 (by omega) (fun m'' k h1 h2 hk => Or.inr ?_) ?_ (post := fun u => match u with | (yk, yt, yp, yl, sz, cd, vl, no, cp) => post (no 11 - nI R) (yk, yt, yp, yl, sz, cd, vl, no, cp))
      · exact h0
      · have hc := hW1' k m'' hk (by omega)
        rw [w_of_l (by omega)] at hc
        exact hc
      · rw [Nat.zero_add]
        refine sY _ ?_
        show post (no' 11 - nI R) (yk, yt, yp, yl, sz, cd, vl, no', cp)
        rw [s2.1]
        exact hp
end SETTLE
end
section
section TAKE
variable {kd wd pn la mk lc nw rc km kl kw kr tc ts tl tm : Int32} {ec et ek ev po gt il pc ps pl pm ss ft lt sc su sl sm re kp kt ki kq ks : Nat → Int32}
variable {yk yt yp yl : Int32} {sz cd vl no cp : Nat → Int32}
theorem lk_tw {W PN T m k t : Nat} {P : Nat → Nat → Option Qv} {z : Int} {v : Int32} (hk : k < 4) (ht : t < 64) (hPN1 : 1 ≤ PN) (hPN : PN ≤ 4) (hW1 : 1 ≤ W) (hW8 : W ≤ 8) (hp : pn = nI PN) (hw : wd = nI W) (hw' : yt = nI W) (hp' : yp = nI (PN * W)) (hz : mk = hI z) (h9 : no 9 = hI z) (hz1 : -1000 ≤ z) (hz2 : z ≤ 63) (hlc : lc = no 10) (hP : r_P P pc ps pl pm) (hW : r_W (w_of P PN (4 * m)) no) (gn : ∀ k i, i < 4 ∨ 68 ≤ i → P k i = none) (gb : ∀ k i, q_n (P k i) ≤ T) (hT : T ≤ 60) (hcl : ∀ j, j < m → 5 ≤ j + PN → e_n PN W j ≤ z) (hst : z < e_n PN W m) :
    ∃ (lc' : Int32) (pc' ps' pl' pm' no' : Nat → Int32) (P' : Nat → Nat → Option Qv), (r_P P' pc' ps' pl' pm' ∧ r_W (w_of P' PN (4 * m)) no' ∧ (∀ k i, i < 4 ∨ 68 ≤ i → P' k i = none) ∧ (∀ k i, q_n (P' k i) ≤ T + 1) ∧ lc' = no' 10 ∧ (∀ j, j ≠ 10 → (j < 16 ∨ 1104 ≤ j) → no' j = no j)) ∧ (∀ post : SX → Prop, post (kd, wd, pn, la, mk, lc', nw, rc, km, kl, kw, kr, tc, ts, tl, tm, ec, et, ek, ev, po, gt, il, pc', ps', pl', pm', ss, ft, lt, sc, su, sl, sm, re, kp, kt, ki, kq, ks) → wpX_takeIntoPane post (kd, wd, pn, la, mk, lc, nw, rc, km, kl, kw, kr, tc, ts, tl, tm, ec, et, ek, ev, po, gt, il, pc, ps, pl, pm, ss, ft, lt, sc, su, sl, sm, re, kp, kt, ki, kq, ks) (nI t) (nI k) v) ∧ (∀ post : SY → Prop, post (yk, yt, yp, yl, sz, cd, vl, no', cp) → wpY_readIntoWindows post (yk, yt, yp, yl, sz, cd, vl, no, cp) (nI t) (nI k) v) := by
  have hb60 : ∀ k i, q_n (P k i) ≤ 60 := fun k i => Nat.le_trans (gb k i) hT
  have hbV : ∀ k m', q_n (w_of P PN (4 * m) k m') ≤ 1000 := by
    intro k' m'
    by_cases c : 4 * m' + k' < 4 * m
    · rw [w_of_l c]; exact Nat.zero_le _
    · rw [w_of_g (by omega)]
      have h1 : q_n (q_w (P k') m' PN) ≤ PN * 60 := q_w_n (hb60 k') PN
      omega
  obtain ⟨p, ep⟩ : ∃ p, p = t / W := ⟨_, rfl⟩
  have hp64 : p < 64 := by rw [ep]; exact Nat.lt_of_le_of_lt (Nat.div_le_self t W) ht
  obtain ⟨tA, tB⟩ := x_tip (kd := kd) (wd := wd) (pn := pn) (la := la) (mk := mk) (lc := lc) (nw := nw) (rc := rc) (km := km) (kl := kl) (kw := kw) (kr := kr) (tc := tc) (ts := ts) (tl := tl) (tm := tm) (ec := ec) (et := et) (ek := ek) (ev := ev) (po := po) (gt := gt) (il := il) (pc := pc) (ps := ps) (pl := pl) (pm := pm) (ss := ss) (ft := ft) (lt := lt) (sc := sc) (su := su) (sl := sl) (sm := sm) (re := re) (kp := kp) (kt := kt) (ki := ki) (kq := kq) (ks := ks) (v := v) hk ht hPN hW1 hW8 hp hw hz hz1 hz2 hP hb60
  rw [← ep] at tA tB
  by_cases c : e_n PN W (p + 4) ≤ z
  · obtain ⟨no', r1, r2, r3, r4, r5⟩ := y_riw (yk := yk) (yt := yt) (yp := yp) (yl := yl) (sz := sz) (cd := cd) (vl := vl) (no := no) (cp := cp) (V := w_of P PN (4 * m)) (V' := w_of P PN (4 * m)) (v := v) hk ht hPN1 hPN hW1 hW8 hw' hp' hz1 hz2 ep hbV (fun m' hm' q => by
      have := e_mono (PN := PN) (W := W) q.1
      have := q.2.2
      omega) (fun _ _ _ _ _ => rfl) hW h9
    exact ⟨lc + 1, pc, ps, pl, pm, no', P, ⟨hP, r1, gn, fun k i => Nat.le_succ_of_le (gb k i), by rw [r4 c, hlc], r2⟩, tA c, r5⟩
  · obtain ⟨pc', ps', pl', pm', hP', xw⟩ := tB (by omega)
    have hout : ∀ k' i, i < 4 ∨ 68 ≤ i → p_u P k (p + 4) (some (0, v, v, v)) k' i = none := by
      intro k' i hi
      rw [p_u_n (by omega)]
      exact gn k' i hi
    have hrow : ∀ k', k' ≠ k → p_u P k (p + 4) (some (0, v, v, v)) k' = P k' := by
      intro k' hk'
      funext i
      exact p_u_n (fun q => hk' q.1)
    have hne : ∀ j, j ≠ p + 4 → p_u P k (p + 4) (some (0, v, v, v)) k j = P k j := fun j hj => p_u_n (fun q => hj q.2)
    obtain ⟨no', r1, r2, r3, r4, r5⟩ := y_riw (yk := yk) (yt := yt) (yp := yp) (yl := yl) (sz := sz) (cd := cd) (vl := vl) (no := no) (cp := cp) (V := w_of P PN (4 * m)) (V' := w_of (p_u P k (p + 4) (some (0, v, v, v))) PN (4 * m)) (v := v) hk ht hPN1 hPN hW1 hW8 hw' hp' hz1 hz2 ep hbV (fun m' hm' q => by
        obtain ⟨q1, q2, q3⟩ := q
        have hge : m ≤ m' := by
          by_cases l : m ≤ m'
          · exact l
          · have := hcl m' (by omega) (by omega); omega
        rw [w_of_g (by omega), w_of_g (by omega)]
        exact q_w_u p_u_s hne PN q1 q2) (fun k' m' hk' hm' hq => by
        by_cases l : m ≤ m'
        · rw [w_of_g (by omega), w_of_g (by omega)]
          by_cases ek : k' = k
          · subst ek
            refine q_w_k hne PN (fun q => hq ⟨rfl, q.1, q.2, ?_⟩)
            have := e_mono (PN := PN) (W := W) l
            omega
          · rw [hrow k' ek]
        · rw [w_of_l (by omega), w_of_l (by omega)]) hW h9
    refine ⟨lc, pc', ps', pl', pm', no', p_u P k (p + 4) (some (0, v, v, v)), ⟨hP', r1, hout, fun k' i => ?_, by rw [r3 (by omega), hlc], r2⟩, xw, r5⟩
    by_cases q : k' = k ∧ i = p + 4
    · obtain ⟨q1, q2⟩ := q
      subst q1 q2
      rw [p_u_s, q_n_m]
      have := gb k' (p + 4)
      show q_n (P k' (p + 4)) + 1 ≤ T + 1
      omega
    · rw [p_u_n q]
      exact Nat.le_succ_of_le (gb k' i)
theorem lk_ts {W T R k t : Nat} {L : Nat → List Ses} {M : List (Nat × Ses)} {z : Int} {v : Int32} (hk : k < 4) (ht : t < 64) (hW1 : 1 ≤ W) (hW8 : W ≤ 8) (hw : wd = nI W) (hw' : yt = nI W) (hz : mk = hI z) (h9 : no 9 = hI z) (hz1 : -1000 ≤ z) (hz2 : z ≤ 63) (hlc : lc = no 10) (hXL : s_XL ss (s_b ft lt sc su sl sm) L) (hYL : s_YL no M) (gp : M.Perm (s_fl L)) (gok : ∀ k, k < 4 → s_ok W (L k)) (hT : T ≤ 59) (hRT : R + s_n M ≤ T) :
    ∃ (lc' : Int32) (ss' ft' lt' sc' su' sl' sm' no' : Nat → Int32) (L' : Nat → List Ses) (M' : List (Nat × Ses)), (s_XL ss' (s_b ft' lt' sc' su' sl' sm') L' ∧ s_YL no' M' ∧ M'.Perm (s_fl L') ∧ (∀ k, k < 4 → s_ok W (L' k)) ∧ R + s_n M' ≤ T + 1 ∧ lc' = no' 10 ∧ (∀ j, j ≠ 10 → j ≠ 12 → (j < 1104 ∨ 1524 ≤ j) → no' j = no j)) ∧ (∀ post : SX → Prop, post (kd, wd, pn, la, mk, lc', nw, rc, km, kl, kw, kr, tc, ts, tl, tm, ec, et, ek, ev, po, gt, il, pc, ps, pl, pm, ss', ft', lt', sc', su', sl', sm', re, kp, kt, ki, kq, ks) → wpX_takeIntoSession post (kd, wd, pn, la, mk, lc, nw, rc, km, kl, kw, kr, tc, ts, tl, tm, ec, et, ek, ev, po, gt, il, pc, ps, pl, pm, ss, ft, lt, sc, su, sl, sm, re, kp, kt, ki, kq, ks) (nI t) (nI k) v) ∧ (∀ post : SY → Prop, post (yk, yt, yp, yl, sz, cd, vl, no', cp) → wpY_readIntoSessions post (yk, yt, yp, yl, sz, cd, vl, no, cp) (nI t) (nI k) v) := by
  have hv := s_allv gok gp
  have hlM := s_n_l M
  obtain ⟨A, C, B, eL, hA, hB, hC, hcase⟩ := x_take (kd := kd) (wd := wd) (pn := pn) (la := la) (mk := mk) (lc := lc) (nw := nw) (rc := rc) (km := km) (kl := kl) (kw := kw) (kr := kr) (tc := tc) (ts := ts) (tl := tl) (tm := tm) (ec := ec) (et := et) (ek := ek) (ev := ev) (po := po) (gt := gt) (il := il) (pc := pc) (ps := ps) (pl := pl) (pm := pm) (ss := ss) (ft := ft) (lt := lt) (sc := sc) (su := su) (sl := sl) (sm := sm) (re := re) (kp := kp) (kt := kt) (ki := ki) (kq := kq) (ks := ks) (v := v) hk hw hW1 hW8 ht hz hz1 hz2 hXL gok
  obtain ⟨yA, yB⟩ := y_rs (yk := yk) (yt := yt) (yp := yp) (yl := yl) (sz := sz) (cd := cd) (vl := vl) (no := no) (cp := cp) (v := v) hw' hW8 ht hk hYL (by omega) hv (by omega) h9 hz1 hz2
  have hp1 : M.Perm (s_tg k C ++ s_fl (s_st L k (A ++ B))) := by
    have := s_fl_l (L := L) (A := A) (B := B) hk C
    rw [← eL, s_st_e] at this
    exact gp.trans this
  have f1 : (s_tg k C ++ s_fl (s_st L k (A ++ B))).filter (s_tch W t k) = s_tg k C := by
    rw [List.filter_append]
    have e1 : (s_tg k C).filter (s_tch W t k) = s_tg k C := List.filter_eq_self.mpr (fun x hx => by
      obtain ⟨c, hc, e⟩ := List.mem_map.mp hx
      subst e
      exact decide_eq_true ⟨rfl, (hC c hc).1, (hC c hc).2⟩)
    have e2 : (s_fl (s_st L k (A ++ B))).filter (s_tch W t k) = [] := List.filter_eq_nil_iff.mpr (fun x hx q => by
      have h1 := s_fl_m.mp hx
      have h2 := of_decide_eq_true q
      obtain ⟨q1, q2, q3⟩ := h2
      have h3 := h1.2
      rw [q1, s_st_s] at h3
      rcases List.mem_append.mp h3 with h4 | h4
      · have := hA _ h4; omega
      · have := hB _ h4; omega)
    rw [e1, e2, List.append_nil]
  have f2 : (s_tg k C ++ s_fl (s_st L k (A ++ B))).filter (fun x => !s_tch W t k x) = s_fl (s_st L k (A ++ B)) := by
    rw [List.filter_append]
    have e1 : (s_tg k C).filter (fun x => !s_tch W t k x) = [] := List.filter_eq_nil_iff.mpr (fun x hx q => by
      obtain ⟨c, hc, e⟩ := List.mem_map.mp hx
      subst e
      have h1 : s_tch W t k (k, c) = true := decide_eq_true ⟨rfl, (hC c hc).1, (hC c hc).2⟩
      rw [h1] at q
      cases q)
    have e2 : (s_fl (s_st L k (A ++ B))).filter (fun x => !s_tch W t k x) = s_fl (s_st L k (A ++ B)) := List.filter_eq_self.mpr (fun x hx => by
      have h1 := s_fl_m.mp hx
      have h5 : s_tch W t k x = false := decide_eq_false (fun h2 => by
        obtain ⟨q1, q2, q3⟩ := h2
        have h3 := h1.2
        rw [q1, s_st_s] at h3
        rcases List.mem_append.mp h3 with h4 | h4
        · have := hA _ h4; omega
        · have := hB _ h4; omega)
      rw [h5]; rfl)
    rw [e1, e2, List.nil_append]
  have g1 : (M.filter (s_tch W t k)).Perm (s_tg k C) := f1 ▸ hp1.filter (s_tch W t k)
  have g2 : (M.filter (fun x => !s_tch W t k x)).Perm (s_fl (s_st L k (A ++ B))) := f2 ▸ hp1.filter (fun x => !s_tch W t k x)
  rcases hcase with ⟨cC, cz, cX⟩ | ⟨cz, ss', ft', lt', sc', su', sl', sm', cL, cX⟩
  · subst cC
    have g1' : M.filter (s_tch W t k) = [] := g1.eq_nil
    refine ⟨lc + 1, ss, ft, lt, sc, su, sl, sm, upd no 10 (no 10 + 1), L, M, ⟨hXL, s_YL_f hYL (pk_un (by omega)) (fun j h1 h2 => pk_un (by omega)), gp, gok, by omega, by rw [pk_us, hlc], fun j h1 _ _ => pk_un h1⟩, cX, yA g1' cz⟩
  · obtain ⟨no', M', r1, r2, r3, r4⟩ := yB (fun q => cz (by
      rw [q] at g1
      have := g1.nil_eq
      cases C with
      | nil => rfl
      | cons c C => exact nomatch this))
    rw [s_f_p g1, s_f_g] at r2
    have hperm : M'.Perm (s_fl (s_st L k (A ++ s_g C (t, t, 0, v, v, v) :: B))) := (r2.trans (g2.cons _)).trans (s_fl_i hk).symm
    have hcn : s_n M' = 1 + s_n M := by
      rw [s_n_p (r2.trans (g2.cons _)), s_n_p hp1, s_n_a]
      have h1 := s_n_g k C (t, t, 0, v, v, v)
      have h2 : (s_g C (t, t, 0, v, v, v)).2.2.1 + 1 = 0 + 1 + s_n (s_tg k C) := h1
      show (s_g C (t, t, 0, v, v, v)).2.2.1 + 1 + s_n (s_fl (s_st L k (A ++ B))) = _
      omega
    refine ⟨lc, ss', ft', lt', sc', su', sl', sm', no', s_st L k (A ++ s_g C (t, t, 0, v, v, v) :: B), M', ⟨cL, r1, hperm, fun j hj => ?_, by omega, by rw [r3 10 (by omega) (by omega), hlc], fun j _ h2 h3 => r3 j h2 h3⟩, cX, r4⟩
    by_cases e : j = k
    · subst e
      rw [s_st_s]
      exact s_ins (eL ▸ gok j hj) hA hB ht
    · rw [s_st_n e]
      exact gok j hj
end TAKE
end
section
def p_1 (p : Nat → Nat) (s : Nat) : Nat → Nat := fun j => if j = s then p s + 1 else p j
theorem p_1_s {p : Nat → Nat} {s : Nat} : p_1 p s s = p s + 1 := if_pos rfl
theorem p_1_n {p : Nat → Nat} {s j : Nat} (h : j ≠ s) : p_1 p s j = p j := if_neg h
theorem p_1_t {p : Nat → Nat} {s : Nat} (hs : s < 3) : p_1 p s 0 + p_1 p s 1 + p_1 p s 2 = p 0 + p 1 + p 2 + 1 := by
  have c : s = 0 ∨ s = 1 ∨ s = 2 := by omega
  rcases c with rfl | rfl | rfl
  · rw [p_1_s, p_1_n (by decide), p_1_n (by decide)]; omega
  · rw [p_1_s, p_1_n (by decide), p_1_n (by decide)]; omega
  · rw [p_1_s, p_1_n (by decide), p_1_n (by decide)]; omega
section READ
variable {kd wd pn la mk lc nw rc km kl kw kr tc ts tl tm : Int32} {ec et ek ev po gt il pc ps pl pm ss ft lt sc su sl sm re kp kt ki kq ks : Nat → Int32}
variable {yk yt yp yl : Int32} {sz cd vl no cp : Nat → Int32}
/-- the positions, times and idle marks behind an event -/
theorem r_A_1 {e p : Nat → Nat} {s t : Nat} {no3 : Nat → Int32} (hA : r_A e p po gt il no) (hs : s < 3) (ht : t < 64) (hlt : p s < e s) (h1 : no3 s = nI (p s + 1)) (h2 : no3 (6 + s) = q_mx (no (6 + s)) (nI t)) (h3 : ∀ j, j < 9 → j ≠ s → j ≠ 6 + s → no3 j = no j) : r_A e (p_1 p s) (upd po s (nI (p s + 1))) (upd gt s (q_mx (gt s) (nI t))) il no3 := by
  intro j hj
  obtain ⟨a1, a2, a3, a4, a5⟩ := hA j hj
  by_cases c : j = s
  · subst c
    rw [pk_us, pk_us, p_1_s, h1, h2, h3 (3 + j) (by omega) (by omega) (by omega)]
    refine ⟨rfl, rfl, hlt, a4, Or.inr ?_⟩
    rcases a5 with ⟨b1, b2⟩ | ⟨t0, b0, b1, b2⟩
    · refine ⟨t, ht, ?_, ?_⟩
      · rw [b1]
        exact if_neg (fun q => by
          have := (hx_le (hI_n t).symm (show (-1000 : Int32) = hI (-1000) from by decide) (by omega) (by omega)).mp q
          omega)
      · rw [b2]
        exact if_neg (fun q => by
          have := (hx_le (hI_n t).symm (show (-1 : Int32) = hI (-1) from by decide) (by omega) (by omega)).mp q
          omega)
    · refine ⟨max t0 t, by omega, ?_, ?_⟩
      · rw [b1, nI_mx _ _ (by omega) (by omega)]
      · rw [b2, nI_mx _ _ (by omega) (by omega)]
  · rw [pk_un c, pk_un c, p_1_n c, h3 j (by omega) c (by omega), h3 (3 + j) (by omega) (by omega) (by omega), h3 (6 + j) (by omega) (by omega) (by omega)]
    exact ⟨a1, a2, a3, a4, a5⟩
theorem lk_read {e p : Nat → Nat} {s : Nat} (h : r_X True e p kd wd pn la mk lc nw rc km kl kw kr tc ts tl tm ec et ek ev po gt il pc ps pl pm ss ft lt sc su sl sm re kp kt ki kq ks yk yt yp yl sz cd vl no cp) (hs : s < 3) (hlt : p s < e s) : ∃ (u' : SX) (v' : SY) (r : Int32), r_V e (p_1 p s) u' v' ∧ (∀ post : Int32 → SX → Prop, post r u' → wpX_readOne post (kd, wd, pn, la, mk, lc, nw, rc, km, kl, kw, kr, tc, ts, tl, tm, ec, et, ek, ev, po, gt, il, pc, ps, pl, pm, ss, ft, lt, sc, su, sl, sm, re, kp, kt, ki, kq, ks) (nI s)) ∧ (∀ post : Int32 → SY → Prop, post r v' → wpY_read post (yk, yt, yp, yl, sz, cd, vl, no, cp) (nI s)) := by
  obtain ⟨K, W, PN, LA, R, Rk, pk, hK, hE, hrc, hkr, hRk, hC, hCk⟩ := h
  obtain ⟨⟨k1, k2, k3, k4⟩, ⟨j1, j2, j3, j4⟩, hK2, hW1, hW8, hPN1, hPN4, hLA⟩ := id hK
  obtain ⟨z, m, P, L, M, hG, hA, hz, h9, hlc, hnw, hR, hP, hW, hXL, hYL⟩ := hC
  obtain ⟨⟨g1, g2, g3, g4⟩, gn, gb, gp, gok, gw, gs⟩ := hG
  obtain ⟨a1, a2, a3, a4, a5⟩ := hA s hs
  obtain ⟨e1, e2, e3, e4⟩ := hE s hs
  obtain ⟨t, k, ht, hk, x1, x2, x3, x4⟩ := e4 (p s) hlt
  have hpT : p 0 + p 1 + p 2 ≤ 59 := by
    have b0 := (hA 0 (by omega)).2.2.1
    have b1 := (hA 1 (by omega)).2.2.1
    have b2 := (hA 2 (by omega)).2.2.1
    have c0 := (hE 0 (by omega)).2.2.1
    have c1 := (hE 1 (by omega)).2.2.1
    have c2 := (hE 2 (by omega)).2.2.1
    have c : s = 0 ∨ s = 1 ∨ s = 2 := by omega
    rcases c with rfl | rfl | rfl <;> omega
  have cs : (nI s).toNatClampNeg = s := nI_clamp (by omega)
  have is : vp_in (nI s) 3 := vp_in_nI hs (by omega)
  have isY : vp_in (nI s) 3316 := vp_in_nI (by omega) (by omega)
  obtain ⟨a, ea⟩ : ∃ a, a = 20 * s + p s := ⟨_, rfl⟩
  rw [← ea] at x1 x2 x3 x4
  have ia : vp_in (nI a) 60 := vp_in_nI (by omega) (by omega)
  have ca : (nI a).toNatClampNeg = a := nI_clamp (by omega)
  have eaX : (20 : Int32) * nI s + po (nI s).toNatClampNeg = nI a := by
    rw [cs, a1, show (20 : Int32) * nI s = nI (20 * s) from pk_mul 20 s, nI_add, ea]
  have eaY : (20 : Int32) * nI s + no (nI s).toNatClampNeg = nI a := by
    rw [cs, a2, show (20 : Int32) * nI s = nI (20 * s) from pk_mul 20 s, nI_add, ea]
  have et1 : cd (nI a).toNatClampNeg - cd (nI a).toNatClampNeg / 64 * 64 = nI t := by
    rw [ca, x3]
    refine (pk_rem (a := 64 * k + t) (d := 64) (by omega) (by omega) (by omega)).trans (congrArg nI (by omega))
  have ek1 : cd (nI a).toNatClampNeg / 64 = nI k := by
    rw [ca, x3]
    refine (pk_div (a := 64 * k + t) (d := 64) (by omega) (by omega) (by omega)).trans (congrArg nI (by omega))
  have e6 : (6 : Int32) + nI s = nI (6 + s) := nI_add 6 s
  have i6 : vp_in ((6 : Int32) + nI s) 3316 := by rw [e6]; exact vp_in_nI (by omega) (by omega)
  have c6 : ((6 : Int32) + nI s).toNatClampNeg = 6 + s := by rw [e6]; exact nI_clamp (by omega)
  -- the row of the reference with its position moved
  obtain ⟨no1, en1⟩ : ∃ f, f = upd no s (nI (p s + 1)) := ⟨_, rfl⟩
  have n1s : no1 s = nI (p s + 1) := by rw [en1, pk_us]
  have n1o : ∀ j, j ≠ s → no1 j = no j := fun j hj => by rw [en1, pk_un hj]
  have hR1 : r_R R re no1 := r_R_f hR (n1o 11 (by omega)) (fun j h1 h2 => n1o j (by omega)) (fun _ _ => rfl)
  have hW1' : r_W (w_of P PN (4 * m)) no1 := r_W_f hW (fun j h1 h2 => n1o j (by omega))
  have hYL1 : s_YL no1 M := s_YL_f hYL (n1o 12 (by omega)) (fun j h1 h2 => n1o j (by omega))
  have h91 : no1 9 = hI z := (n1o 9 (by omega)).trans h9
  have h101 : lc = no1 10 := hlc.trans (n1o 10 (by omega)).symm
  -- the two walks up to the taking, and behind it
  have goX : ∀ (post : Int32 → SX → Prop), ((2 ≤ kd → wpX_takeIntoSession (fun u => wpX_lookAtMark post u) (kd, wd, pn, la, mk, lc, nw, rc, km, kl, kw, kr, tc, ts, tl, tm, ec, et, ek, ev, upd po s (nI (p s + 1)), upd gt s (q_mx (gt s) (nI t)), il, pc, ps, pl, pm, ss, ft, lt, sc, su, sl, sm, re, kp, kt, ki, kq, ks) (nI t) (nI k) (ev a)) ∧ (¬ 2 ≤ kd → wpX_takeIntoPane (fun u => wpX_lookAtMark post u) (kd, wd, pn, la, mk, lc, nw, rc, km, kl, kw, kr, tc, ts, tl, tm, ec, et, ek, ev, upd po s (nI (p s + 1)), upd gt s (q_mx (gt s) (nI t)), il, pc, ps, pl, pm, ss, ft, lt, sc, su, sl, sm, re, kp, kt, ki, kq, ks) (nI t) (nI k) (ev a))) → wpX_readOne post (kd, wd, pn, la, mk, lc, nw, rc, km, kl, kw, kr, tc, ts, tl, tm, ec, et, ek, ev, po, gt, il, pc, ps, pl, pm, ss, ft, lt, sc, su, sl, sm, re, kp, kt, ki, kq, ks) (nI s) := by
    intro post hp
    have k54 : ∀ w : Int32, w = q_mx (gt s) (nI t) → wX_readOne_54 post (nI a) (nI t) w (nI s) kd wd pn la mk lc nw rc km kl kw kr tc ts tl tm ec et ek ev (upd po s (nI (p s + 1))) gt il pc ps pl pm ss ft lt sc su sl sm re kp kt ki kq ks := by
      intro w hw
      subst hw
      unfold wX_readOne_54
      refine ⟨is, nm_r (e' := upd gt s (q_mx (gt s) (nI t))) (by rw [cs]) ?_⟩
      rw [ca, x2]
      exact ⟨fun q => ⟨ia, ia, hp.1 q⟩, fun q => ⟨ia, ia, hp.2 q⟩⟩
    unfold wpX_readOne
    refine ⟨is, nm_r eaX ⟨is, is, nm_r (e' := upd po s (nI (p s + 1))) (by rw [cs, a1, nI_1]) ⟨ia, nm_r (e' := nI t) (by rw [ca, x1]) ⟨is, br_c (fun c => ⟨is, k54 _ ?_⟩) (fun c => k54 _ ?_)⟩⟩⟩⟩
    · rw [cs] at c ⊢; exact (if_pos c).symm
    · rw [cs] at c; exact (if_neg c).symm
  have go111 : ∀ (post : Int32 → SY → Prop) (no2 : Nat → Int32), wpY_settle post (yk, yt, yp, yl, sz, cd, vl, upd no2 (6 + s) (q_mx (no2 (6 + s)) (nI t)), cp) → wY_read_111 post (nI s) (nI t) yk yt yp yl sz cd vl no2 cp := by
    intro post no2 hp
    unfold wY_read_111
    refine ⟨i6, br_c (fun c => ?_) (fun c => ⟨i6, nm_r (e' := upd no2 (6 + s) (q_mx (no2 (6 + s)) (nI t))) ?_ hp⟩)⟩
    · rw [c6] at c
      rw [show q_mx (no2 (6 + s)) (nI t) = no2 (6 + s) from if_pos c, upd_self] at hp
      exact hp
    · rw [c6] at c ⊢
      rw [show q_mx (no2 (6 + s)) (nI t) = nI t from if_neg c]
  have goY : ∀ (post : Int32 → SY → Prop), ((yk = 2 → wpY_readIntoSessions (fun u => match u with | (yk, yt, yp, yl, sz, cd, vl, no, cp) => wY_read_111 post (nI s) (nI t) yk yt yp yl sz cd vl no cp) (yk, yt, yp, yl, sz, cd, vl, no1, cp) (nI t) (nI k) (ev a)) ∧ (¬ yk = 2 → wpY_readIntoWindows (fun u => match u with | (yk, yt, yp, yl, sz, cd, vl, no, cp) => wY_read_111 post (nI s) (nI t) yk yt yp yl sz cd vl no cp) (yk, yt, yp, yl, sz, cd, vl, no1, cp) (nI t) (nI k) (ev a))) → wpY_read post (yk, yt, yp, yl, sz, cd, vl, no, cp) (nI s) := by
    intro post hp
    unfold wpY_read
    unfold wpY_badSource
    refine br_f (nI_pos (by omega)) (br_t (nI_le (b := 2) (by omega) (by omega)) (br_t rfl ⟨isY, is, br_f ?_ ⟨isY, nm_r eaY ⟨isY, isY, nm_r (e' := no1) (by rw [cs, a2, nI_1, en1]) ⟨ia, by decide, nm_r et1 ⟨ia, by decide, nm_r ek1 ?_⟩⟩⟩⟩⟩))
    · rw [cs, a2, e2]
      intro q
      have := (nI_eq (by omega) (by omega)).mp q
      omega
    · rw [ca, x4]
      exact ⟨fun q => ⟨ia, hp.1 q⟩, fun q => ⟨ia, hp.2 q⟩⟩
  by_cases hK' : K = 2
  · obtain ⟨gs1, gs2⟩ := gs hK'
    obtain ⟨lc', ss', ft', lt', sc', su', sl', sm', no2, L', M', ⟨r1, r2, r3, r4, r5, r6, r7⟩, rX, rY⟩ := lk_ts (kd := kd) (wd := wd) (pn := pn) (la := la) (mk := mk) (lc := lc) (nw := nw) (rc := rc) (km := km) (kl := kl) (kw := kw) (kr := kr) (tc := tc) (ts := ts) (tl := tl) (tm := tm) (ec := ec) (et := et) (ek := ek) (ev := ev) (il := il) (pc := pc) (ps := ps) (pl := pl) (pm := pm) (ss := ss) (ft := ft) (lt := lt) (sc := sc) (su := su) (sl := sl) (sm := sm) (re := re) (kp := kp) (kt := kt) (ki := ki) (kq := kq) (ks := ks) (po := upd po s (nI (p s + 1))) (gt := upd gt s (q_mx (gt s) (nI t))) (yk := yk) (yt := yt) (yp := yp) (yl := yl) (sz := sz) (cd := cd) (vl := vl) (cp := cp) (no := no1) (v := ev a) (R := R) hk ht hW1 hW8 k2 j2 hz h91 g1 g2 h101 hXL hYL1 gp gok hpT gs2
    obtain ⟨no3, en3⟩ : ∃ f, f = upd no2 (6 + s) (q_mx (no2 (6 + s)) (nI t)) := ⟨_, rfl⟩
    have n3o : ∀ j, j ≠ 6 + s → no3 j = no2 j := fun j hj => by rw [en3, pk_un hj]
    have hX' : r_X False e (p_1 p s) kd wd pn la mk lc' nw rc km kl kw kr tc ts tl tm ec et ek ev (upd po s (nI (p s + 1))) (upd gt s (q_mx (gt s) (nI t))) il pc ps pl pm ss' ft' lt' sc' su' sl' sm' re kp kt ki kq ks yk yt yp yl sz cd vl no3 cp := by
      refine ⟨K, W, PN, LA, R, Rk, pk, hK, hE, hrc, hkr, hRk, ⟨z, m, P, L', M', ?_, ?_, hz, ?_, ?_, hnw, ?_, hP, ?_, r1, ?_⟩, hCk⟩
      · rw [p_1_t hs]
        exact ⟨⟨g1, g2, g3, g4⟩, gn, fun k i => Nat.le_succ_of_le (gb k i), r3, r4, fun q => absurd q (by omega), fun _ => ⟨gs1, r5⟩⟩
      · refine r_A_1 hA hs ht hlt ?_ ?_ (fun j h1 h2 h3 => ?_)
        · rw [n3o s (by omega), r7 s (by omega) (by omega) (by omega), n1s]
        · rw [en3, pk_us, r7 (6 + s) (by omega) (by omega) (by omega), n1o (6 + s) (by omega)]
        · rw [n3o j h3, r7 j (by omega) (by omega) (by omega), n1o j h2]
      · rw [n3o 9 (by omega), r7 9 (by omega) (by omega) (by omega), h91]
      · rw [n3o 10 (by omega)]; exact r6
      · have hln := s_n_l M
        refine r_R_f hR1 ?_ (fun j h1 h2 => ?_) (fun _ _ => rfl)
        · rw [n3o 11 (by omega), r7 11 (by omega) (by omega) (by omega)]
        · rw [n3o j (by omega), r7 j (by omega) (by omega) (by omega)]
      · exact r_W_f hW1' (fun j h1 h2 => by rw [n3o j (by omega), r7 j (by omega) (by omega) (by omega)])
      · exact s_YL_f r2 (n3o 12 (by omega)) (fun j h1 h2 => n3o j (by omega))
    obtain ⟨u', v', r, q1, q2, q3⟩ := lk_settle hX'
    refine ⟨u', v', r, q1, fun post hp => goX post (br_t ?_ (rX _ (q2 post hp))), fun post hp => goY post (br_t ?_ (rY _ ?_))⟩
    · rw [k1, hK']; exact Int32.le_refl _
    · rw [j1, hK']; rfl
    · refine go111 post no2 ?_
      rw [← en3]
      exact q3 post hp
  · obtain ⟨w1, w2, w3, w4, w5⟩ := gw (by omega)
    obtain ⟨lc', pc', ps', pl', pm', no2, P', ⟨r1, r2, r3, r4, r5, r6⟩, rX, rY⟩ := lk_tw (kd := kd) (wd := wd) (pn := pn) (la := la) (mk := mk) (lc := lc) (nw := nw) (rc := rc) (km := km) (kl := kl) (kw := kw) (kr := kr) (tc := tc) (ts := ts) (tl := tl) (tm := tm) (ec := ec) (et := et) (ek := ek) (ev := ev) (il := il) (pc := pc) (ps := ps) (pl := pl) (pm := pm) (ss := ss) (ft := ft) (lt := lt) (sc := sc) (su := su) (sl := sl) (sm := sm) (re := re) (kp := kp) (kt := kt) (ki := ki) (kq := kq) (ks := ks) (po := upd po s (nI (p s + 1))) (gt := upd gt s (q_mx (gt s) (nI t))) (yk := yk) (yt := yt) (yp := yp) (yl := yl) (sz := sz) (cd := cd) (vl := vl) (cp := cp) (no := no1) (v := ev a) hk ht hPN1 hPN4 hW1 hW8 k3 k2 j2 j3 hz h91 g1 g2 h101 hP hW1' gn gb (by omega) w2 (w3 trivial)
    obtain ⟨no3, en3⟩ : ∃ f, f = upd no2 (6 + s) (q_mx (no2 (6 + s)) (nI t)) := ⟨_, rfl⟩
    have n3o : ∀ j, j ≠ 6 + s → no3 j = no2 j := fun j hj => by rw [en3, pk_un hj]
    have hX' : r_X False e (p_1 p s) kd wd pn la mk lc' nw rc km kl kw kr tc ts tl tm ec et ek ev (upd po s (nI (p s + 1))) (upd gt s (q_mx (gt s) (nI t))) il pc' ps' pl' pm' ss ft lt sc su sl sm re kp kt ki kq ks yk yt yp yl sz cd vl no3 cp := by
      refine ⟨K, W, PN, LA, R, Rk, pk, hK, hE, hrc, hkr, hRk, ⟨z, m, P', L, M, ?_, ?_, hz, ?_, ?_, hnw, ?_, r1, ?_, hXL, ?_⟩, hCk⟩
      · rw [p_1_t hs]
        exact ⟨⟨g1, g2, g3, g4⟩, r3, r4, gp, gok, fun q => ⟨w1, w2, fun z => z.elim, w4, w5⟩, fun q => absurd q hK'⟩
      · refine r_A_1 hA hs ht hlt ?_ ?_ (fun j h1 h2 h3 => ?_)
        · rw [n3o s (by omega), r6 s (by omega) (by omega), n1s]
        · rw [en3, pk_us, r6 (6 + s) (by omega) (by omega), n1o (6 + s) (by omega)]
        · rw [n3o j h3, r6 j (by omega) (by omega), n1o j h2]
      · rw [n3o 9 (by omega), r6 9 (by omega) (by omega), h91]
      · rw [n3o 10 (by omega)]; exact r5
      · refine r_R_f hR1 ?_ (fun j h1 h2 => ?_) (fun _ _ => rfl)
        · rw [n3o 11 (by omega), r6 11 (by omega) (by omega)]
        · rw [n3o j (by omega), r6 j (by omega) (by omega)]
      · exact r_W_f r2 (fun j h1 h2 => n3o j (by omega))
      · refine s_YL_f hYL1 ?_ (fun j h1 h2 => ?_)
        · rw [n3o 12 (by omega), r6 12 (by omega) (by omega)]
        · rw [n3o j (by omega), r6 j (by omega) (by omega)]
    obtain ⟨u', v', r, q1, q2, q3⟩ := lk_settle hX'
    refine ⟨u', v', r, q1, fun post hp => goX post (br_f ?_ (rX _ (q2 post hp))), fun post hp => goY post (br_f ?_ (rY _ ?_))⟩
    · rw [k1]; exact nI_ge (b := 2) (by omega) (by omega)
    · rw [j1]; intro q; exact hK' ((nI_eq (by omega) (by omega)).mp q)
    · refine go111 post no2 ?_
      rw [← en3]
      exact q3 post hp
end READ
end
section
theorem v_3 {x : Int32} (h : (3 : Int32) ≤ x) : ¬ x ≤ 2 := by
  rw [Int32.le_iff_toInt_le] at h ⊢
  have h3 : (3 : Int32).toInt = 3 := by decide
  have h2 : (2 : Int32).toInt = 2 := by decide
  omega
theorem v_4 {x : Int32} (h : (4 : Int32) ≤ x) : ¬ x ≤ 3 := by
  rw [Int32.le_iff_toInt_le] at h ⊢
  have h3 : (4 : Int32).toInt = 4 := by decide
  have h2 : (3 : Int32).toInt = 3 := by decide
  omega
theorem x_sb {post : Int32 → Prop} {x : Int32} (h : x < 0 ∨ (3 : Int32) ≤ x) (hp : post 0) : wpX_isSource post x := by
  unfold wpX_isSource
  by_cases c : x < 0
  · exact br_t c hp
  · exact br_f c (br_t (h.resolve_left c) hp)
theorem x_sk {post : Int32 → Prop} {j : Nat} (h : j < 3) (hp : post 1) : wpX_isSource post (nI j) := by
  unfold wpX_isSource
  exact br_f (nI_pos (by omega)) (br_f (nI_ge (b := 3) h (by omega)) hp)
theorem x_kb {post : Int32 → Prop} {x : Int32} (h : x < 0 ∨ (4 : Int32) ≤ x) (hp : post 0) : wpX_isKey post x := by
  unfold wpX_isKey
  by_cases c : x < 0
  · exact br_t c hp
  · exact br_f c (br_t (h.resolve_left c) hp)
theorem x_kk {post : Int32 → Prop} {j : Nat} (h : j < 4) (hp : post 1) : wpX_isKey post (nI j) := by
  unfold wpX_isKey
  exact br_f (nI_pos (by omega)) (br_f (nI_ge (b := 4) h (by omega)) hp)
section IDLE
variable {kd wd pn la mk lc nw rc km kl kw kr tc ts tl tm : Int32} {ec et ek ev po gt il pc ps pl pm ss ft lt sc su sl sm re kp kt ki kq ks : Nat → Int32}
variable {yk yt yp yl : Int32} {sz cd vl no cp : Nat → Int32}
theorem y_sb {post : Int32 → Prop} {x : Int32} (h : x < 0 ∨ (3 : Int32) ≤ x) (hp : post 1) : wpY_badSource post (yk, yt, yp, yl, sz, cd, vl, no, cp) x := by
  unfold wpY_badSource
  by_cases c : x < 0
  · exact br_t c hp
  · exact br_f c (br_f (v_3 (h.resolve_left c)) hp)
theorem y_sk {post : Int32 → Prop} {j : Nat} (h : j < 3) (hp : post 0) : wpY_badSource post (yk, yt, yp, yl, sz, cd, vl, no, cp) (nI j) := by
  unfold wpY_badSource
  exact br_f (nI_pos (by omega)) (br_t (nI_le (b := 2) (by omega) (by omega)) hp)
theorem y_kb {post : Int32 → Prop} {x : Int32} (h : x < 0 ∨ (4 : Int32) ≤ x) (hp : post 1) : wpY_badKey post (yk, yt, yp, yl, sz, cd, vl, no, cp) x := by
  unfold wpY_badKey
  by_cases c : x < 0
  · exact br_t c hp
  · exact br_f c (br_f (v_4 (h.resolve_left c)) hp)
theorem y_kk {post : Int32 → Prop} {j : Nat} (h : j < 4) (hp : post 0) : wpY_badKey post (yk, yt, yp, yl, sz, cd, vl, no, cp) (nI j) := by
  unfold wpY_badKey
  exact br_f (nI_pos (by omega)) (br_t (nI_le (b := 3) (by omega) (by omega)) hp)
/-- the counts of events and positions, out of the relation -/
theorem r_X_p {st : Prop} {e p : Nat → Nat} (h : r_X st e p kd wd pn la mk lc nw rc km kl kw kr tc ts tl tm ec et ek ev po gt il pc ps pl pm ss ft lt sc su sl sm re kp kt ki kq ks yk yt yp yl sz cd vl no cp) {s : Nat} (hs : s < 3) : ec s = nI (e s) ∧ sz s = nI (e s) ∧ e s ≤ 20 ∧ po s = nI (p s) ∧ no s = nI (p s) ∧ p s ≤ e s := by
  obtain ⟨K, W, PN, LA, R, Rk, pk, hK, hE, hrc, hkr, hRk, hC, hCk⟩ := h
  obtain ⟨z, m, P, L, M, hG, hA, hz, h9, hlc, hnw, hR, hP, hW, hXL, hYL⟩ := hC
  obtain ⟨a1, a2, a3, a4, a5⟩ := hA s hs
  obtain ⟨e1, e2, e3, e4⟩ := hE s hs
  exact ⟨e1, e2, e3, a1, a2, a3⟩
end IDLE
theorem i_vc_idle {k : Nat} {u : SX} {v : SY} (I : i_Rel k u v) (hk : k + 3 ≤ 1540) (v1 : Int32) (v2 : Int32) : wpX_idle (fun r u' => wpY_idle (fun r' v' => r' = r ∧ i_Rel (k + 3) u' v') v v1 (lw_bz v2)) u v1 (lw_bz v2) := by
  refine zz_el (Z := fun u v => wpX_idle (fun r u' => wpY_idle (fun r' v' => r' = r ∧ i_Rel (k + 3) u' v') v v1 (lw_bz v2)) u v1 (lw_bz v2)) ?_ I
  clear I u v
  intro e p kd wd pn la mk lc nw rc km kl kw kr tc ts tl tm ec et ek ev po gt il pc ps pl pm ss ft lt sc su sl sm re kp kt ki kq ks yk yt yp yl sz cd vl no cp h
  rcases pk_ix v1 (n := 3) (by omega) with c | c | ⟨j, hj, c⟩
  · unfold wpX_idle
    refine x_sb (Or.inl c) (br_t rfl ?_)
    unfold wpY_idle
    exact y_sb (Or.inl c) (br_f (by decide) ⟨rfl, zz_in h⟩)
  · unfold wpX_idle
    refine x_sb (Or.inr c) (br_t rfl ?_)
    unfold wpY_idle
    exact y_sb (Or.inr c) (br_f (by decide) ⟨rfl, zz_in h⟩)
  · subst c
    have cj : (nI j).toNatClampNeg = j := nI_clamp (by omega)
    have ij : vp_in (nI j) 3 := vp_in_nI hj (by omega)
    have e3 : (3 : Int32) + nI j = nI (3 + j) := nI_add 3 j
    have i3 : vp_in ((3 : Int32) + nI j) 3316 := by rw [e3]; exact vp_in_nI (by omega) (by omega)
    have c3 : ((3 : Int32) + nI j).toNatClampNeg = 3 + j := by rw [e3]; exact nI_clamp (by omega)
    have key : ∀ f : Int32, f = 0 ∨ f = 1 → r_X False e p kd wd pn la mk lc nw rc km kl kw kr tc ts tl tm ec et ek ev po gt (upd il j f) pc ps pl pm ss ft lt sc su sl sm re kp kt ki kq ks yk yt yp yl sz cd vl (upd no (3 + j) f) cp := by
      intro f hf
      obtain ⟨K, W, PN, LA, R, Rk, pk, hK, hE, hrc, hkr, hRk, hC, hCk⟩ := h
      obtain ⟨z, m, P, L, M, hG, hA, hz, h9, hlc, hnw, hR, hP, hW, hXL, hYL⟩ := hC
      obtain ⟨g0, gn, gb, gp, gok, gw, gs⟩ := hG
      have nf : ∀ i, i ≠ 3 + j → upd no (3 + j) f i = no i := fun i hi => pk_un hi
      refine ⟨K, W, PN, LA, R, Rk, pk, hK, hE, hrc, hkr, hRk, ⟨z, m, P, L, M, ⟨g0, gn, gb, gp, gok, fun q => ?_, gs⟩, ?_, hz, (nf 9 (by omega)).trans h9, hlc.trans (nf 10 (by omega)).symm, hnw, ?_, hP, ?_, hXL, ?_⟩, hCk⟩
      · obtain ⟨w1, w2, w3, w4, w5⟩ := gw q
        exact ⟨w1, w2, fun z => z.elim, w4, w5⟩
      · intro i hi
        obtain ⟨a1, a2, a3, a4, a5⟩ := hA i hi
        rw [nf i (by omega), nf (6 + i) (by omega)]
        refine ⟨a1, a2, a3, ?_, a5⟩
        by_cases ci : i = j
        · subst ci
          rw [pk_us, pk_us]
          rcases hf with rfl | rfl
          · exact Or.inl ⟨rfl, rfl⟩
          · exact Or.inr ⟨rfl, rfl⟩
        · rw [pk_un ci, nf (3 + i) (by omega)]
          exact a4
      · exact r_R_f hR (nf 11 (by omega)) (fun i h1 h2 => nf i (by omega)) (fun _ _ => rfl)
      · exact r_W_f hW (fun i h1 h2 => nf i (by omega))
      · exact s_YL_f hYL (nf 12 (by omega)) (fun i h1 h2 => nf i (by omega))
    rcases lw_bz_01 v2 with b | b
    · rw [b]
      obtain ⟨u', v', r, q1, q2, q3⟩ := lk_settle (key 0 (Or.inl rfl))
      unfold wpX_idle
      refine x_sk hj (br_f (by decide) ⟨ij, nm_r (e' := upd il j 0) (by rw [cj]; rfl) (q2 _ ?_)⟩)
      show wpY_idle (fun r' v' => r' = r ∧ i_Rel (k + 3) u' v') (yk, yt, yp, yl, sz, cd, vl, no, cp) (nI j) 0
      unfold wpY_idle
      refine y_sk hj (br_t rfl (br_t rfl ?_))
      unfold wY_idle_28
      exact ⟨i3, nm_r (e' := upd no (3 + j) 0) (by rw [c3]) (q3 _ ⟨rfl, e, p, q1⟩)⟩
    · rw [b]
      obtain ⟨u', v', r, q1, q2, q3⟩ := lk_settle (key 1 (Or.inr rfl))
      unfold wpX_idle
      refine x_sk hj (br_f (by decide) ⟨ij, nm_r (e' := upd il j 1) (by rw [cj]; rfl) (q2 _ ?_)⟩)
      show wpY_idle (fun r' v' => r' = r ∧ i_Rel (k + 3) u' v') (yk, yt, yp, yl, sz, cd, vl, no, cp) (nI j) 1
      unfold wpY_idle
      refine y_sk hj (br_t rfl (br_f (by decide) ?_))
      unfold wY_idle_28
      exact ⟨i3, nm_r (e' := upd no (3 + j) 1) (by rw [c3]) (q3 _ ⟨rfl, e, p, q1⟩)⟩
theorem i_vc_read {k : Nat} {u : SX} {v : SY} (I : i_Rel k u v) (hk : k + 3 ≤ 1540) (v1 : Int32) : wpX_read (fun r u' => wpY_read (fun r' v' => r' = r ∧ i_Rel (k + 3) u' v') v v1) u v1 := by
  refine zz_el (Z := fun u v => wpX_read (fun r u' => wpY_read (fun r' v' => r' = r ∧ i_Rel (k + 3) u' v') v v1) u v1) ?_ I
  clear I u v
  intro e p kd wd pn la mk lc nw rc km kl kw kr tc ts tl tm ec et ek ev po gt il pc ps pl pm ss ft lt sc su sl sm re kp kt ki kq ks yk yt yp yl sz cd vl no cp h
  rcases pk_ix v1 (n := 3) (by omega) with c | c | ⟨j, hj, c⟩
  · unfold wpX_read
    refine x_sb (Or.inl c) (br_t rfl ?_)
    unfold wpY_read
    exact y_sb (Or.inl c) (br_f (by decide) ⟨rfl, zz_in h⟩)
  · unfold wpX_read
    refine x_sb (Or.inr c) (br_t rfl ?_)
    unfold wpY_read
    exact y_sb (Or.inr c) (br_f (by decide) ⟨rfl, zz_in h⟩)
  · subst c
    obtain ⟨e1, e2, e3, a1, a2, a3⟩ := r_X_p h hj
    have cj : (nI j).toNatClampNeg = j := nI_clamp (by omega)
    have ij : vp_in (nI j) 3 := vp_in_nI hj (by omega)
    have ijY : vp_in (nI j) 3316 := vp_in_nI (by omega) (by omega)
    have eu : ec (nI j).toNatClampNeg - po (nI j).toNatClampNeg = nI (e j - p j) := by
      rw [cj, e1, a1]; exact pk_sub a3
    by_cases q : p j = e j
    · unfold wpX_read
      refine x_sk hj (br_f (by decide) ?_)
      unfold wpX_unread
      refine ⟨ij, ij, br_t ?_ ?_⟩
      · rw [eu, show e j - p j = 0 by omega]; rfl
      · unfold wpY_read
        refine y_sk hj (br_t rfl ⟨ijY, ij, br_t ?_ ⟨rfl, zz_in h⟩⟩)
        rw [cj, a2, e2, q]
    · obtain ⟨u', v', r, q1, q2, q3⟩ := lk_read h hj (by omega)
      unfold wpX_read
      refine x_sk hj (br_f (by decide) ?_)
      unfold wpX_unread
      refine ⟨ij, ij, br_f ?_ (q2 _ ?_)⟩
      · rw [eu]; exact nI_ne0 (by omega) (by omega)
      · show wpY_read (fun r' v' => r' = r ∧ i_Rel (k + 3) u' v') (yk, yt, yp, yl, sz, cd, vl, no, cp) (nI j)
        exact q3 _ ⟨rfl, e, _, q1⟩
end
section
def x_ra (post : Int32 → SX → Prop) (n : Nat) (x1 x2 : Int32) (u : SX) : Prop := wX_readAll_7 post n x1 x2 u.1 u.2.1 u.2.2.1 u.2.2.2.1 u.2.2.2.2.1 u.2.2.2.2.2.1 u.2.2.2.2.2.2.1 u.2.2.2.2.2.2.2.1 u.2.2.2.2.2.2.2.2.1 u.2.2.2.2.2.2.2.2.2.1 u.2.2.2.2.2.2.2.2.2.2.1 u.2.2.2.2.2.2.2.2.2.2.2.1 u.2.2.2.2.2.2.2.2.2.2.2.2.1 u.2.2.2.2.2.2.2.2.2.2.2.2.2.1 u.2.2.2.2.2.2.2.2.2.2.2.2.2.2.1 u.2.2.2.2.2.2.2.2.2.2.2.2.2.2.2.1 u.2.2.2.2.2.2.2.2.2.2.2.2.2.2.2.2.1 u.2.2.2.2.2.2.2.2.2.2.2.2.2.2.2.2.2.1 u.2.2.2.2.2.2.2.2.2.2.2.2.2.2.2.2.2.2.1 u.2.2.2.2.2.2.2.2.2.2.2.2.2.2.2.2.2.2.2.1 u.2.2.2.2.2.2.2.2.2.2.2.2.2.2.2.2.2.2.2.2.1 u.2.2.2.2.2.2.2.2.2.2.2.2.2.2.2.2.2.2.2.2.2.1 u.2.2.2.2.2.2.2.2.2.2.2.2.2.2.2.2.2.2.2.2.2.2.1 u.2.2.2.2.2.2.2.2.2.2.2.2.2.2.2.2.2.2.2.2.2.2.2.1 u.2.2.2.2.2.2.2.2.2.2.2.2.2.2.2.2.2.2.2.2.2.2.2.2.1 u.2.2.2.2.2.2.2.2.2.2.2.2.2.2.2.2.2.2.2.2.2.2.2.2.2.1 u.2.2.2.2.2.2.2.2.2.2.2.2.2.2.2.2.2.2.2.2.2.2.2.2.2.2.1 u.2.2.2.2.2.2.2.2.2.2.2.2.2.2.2.2.2.2.2.2.2.2.2.2.2.2.2.1 u.2.2.2.2.2.2.2.2.2.2.2.2.2.2.2.2.2.2.2.2.2.2.2.2.2.2.2.2.1 u.2.2.2.2.2.2.2.2.2.2.2.2.2.2.2.2.2.2.2.2.2.2.2.2.2.2.2.2.2.1 u.2.2.2.2.2.2.2.2.2.2.2.2.2.2.2.2.2.2.2.2.2.2.2.2.2.2.2.2.2.2.1 u.2.2.2.2.2.2.2.2.2.2.2.2.2.2.2.2.2.2.2.2.2.2.2.2.2.2.2.2.2.2.2.1 u.2.2.2.2.2.2.2.2.2.2.2.2.2.2.2.2.2.2.2.2.2.2.2.2.2.2.2.2.2.2.2.2.1 u.2.2.2.2.2.2.2.2.2.2.2.2.2.2.2.2.2.2.2.2.2.2.2.2.2.2.2.2.2.2.2.2.2.1 u.2.2.2.2.2.2.2.2.2.2.2.2.2.2.2.2.2.2.2.2.2.2.2.2.2.2.2.2.2.2.2.2.2.2.1 u.2.2.2.2.2.2.2.2.2.2.2.2.2.2.2.2.2.2.2.2.2.2.2.2.2.2.2.2.2.2.2.2.2.2.2.1 u.2.2.2.2.2.2.2.2.2.2.2.2.2.2.2.2.2.2.2.2.2.2.2.2.2.2.2.2.2.2.2.2.2.2.2.2.1 u.2.2.2.2.2.2.2.2.2.2.2.2.2.2.2.2.2.2.2.2.2.2.2.2.2.2.2.2.2.2.2.2.2.2.2.2.2.1 u.2.2.2.2.2.2.2.2.2.2.2.2.2.2.2.2.2.2.2.2.2.2.2.2.2.2.2.2.2.2.2.2.2.2.2.2.2.2.1 u.2.2.2.2.2.2.2.2.2.2.2.2.2.2.2.2.2.2.2.2.2.2.2.2.2.2.2.2.2.2.2.2.2.2.2.2.2.2.2
def y_ra (post : Int32 → SY → Prop) (n : Nat) (x1 : Int32) (v : SY) : Prop := wY_readAll_2 post n x1 v.1 v.2.1 v.2.2.1 v.2.2.2.1 v.2.2.2.2.1 v.2.2.2.2.2.1 v.2.2.2.2.2.2.1 v.2.2.2.2.2.2.2.1 v.2.2.2.2.2.2.2.2
section READALL
variable {kd wd pn la mk lc nw rc km kl kw kr tc ts tl tm : Int32} {ec et ek ev po gt il pc ps pl pm ss ft lt sc su sl sm re kp kt ki kq ks : Nat → Int32}
variable {yk yt yp yl : Int32} {sz cd vl no cp : Nat → Int32}
theorem lk_ful {e p : Nat → Nat} (h : ∀ s, s < 3 → ec s = nI (e s) ∧ sz s = nI (e s) ∧ e s ≤ 20 ∧ po s = nI (p s) ∧ no s = nI (p s) ∧ p s ≤ e s) :
    ∀ d s b, s + d = 3 → b < 3 → (∀ j, j < s → e j - p j ≤ e b - p b) → ∃ b', b' < 3 ∧ (∀ j, j < 3 → e j - p j ≤ e b' - p b') ∧ (∀ post : Int32 → Prop, post (nI b') → wX_fullest_4 post kd wd pn la mk lc nw rc km kl kw kr tc ts tl tm ec et ek ev po gt il pc ps pl pm ss ft lt sc su sl sm re kp kt ki kq ks (d + 1) (nI b) (nI s)) ∧ (∀ (post : Int32 → SY → Prop) (J2 : (Int32 → Int32 → Int32 → Int32 → Int32 → (Nat → Int32) → (Nat → Int32) → (Nat → Int32) → (Nat → Int32) → (Nat → Int32) → Prop)) (x1 : Int32), wpY_read (fun r_3 u => match u with | (yk, yt, yp, yl, sz, cd, vl, no, cp) => ∀ x, x = x1 + 1 → J2 x yk yt yp yl sz cd vl no cp) (yk, yt, yp, yl, sz, cd, vl, no, cp) (nI b') → wY_readAll_49 post J2 x1 yk yt yp yl sz cd vl no cp (d + 1) (nI b) (nI s)) := by
  intro d
  induction d with
  | zero =>
    intro s b hs hb hj
    have : s = 3 := by omega
    subst this
    refine ⟨b, hb, hj, fun post hp => ?_, fun post J2 x1 hp => ?_⟩
    · rw [wX_fullest_4]
      exact br_t (Int32.le_refl _) hp
    · rw [wY_readAll_49]
      exact br_t (Int32.le_refl _) hp
  | succ d ih =>
    intro s b hs hb hj
    have hs3 : s < 3 := by omega
    obtain ⟨s1, s2, s3, s4, s5, s6⟩ := h s hs3
    obtain ⟨b1, b2, b3, b4, b5, b6⟩ := h b hb
    have cs : (nI s).toNatClampNeg = s := nI_clamp (by omega)
    have cb : (nI b).toNatClampNeg = b := nI_clamp (by omega)
    have is : vp_in (nI s) 3 := vp_in_nI hs3 (by omega)
    have ib : vp_in (nI b) 3 := vp_in_nI hb (by omega)
    have is' : vp_in (nI s) 3316 := vp_in_nI (by omega) (by omega)
    have ib' : vp_in (nI b) 3316 := vp_in_nI (by omega) (by omega)
    have qX : ec (nI s).toNatClampNeg - po (nI s).toNatClampNeg ≤ ec (nI b).toNatClampNeg - po (nI b).toNatClampNeg ↔ e s - p s ≤ e b - p b := by
      rw [cs, cb, s1, s4, b1, b4, pk_sub s6, pk_sub b6, nI_leI (by omega) (by omega)]
    have qY : sz (nI s).toNatClampNeg - no (nI s).toNatClampNeg ≤ sz (nI b).toNatClampNeg - no (nI b).toNatClampNeg ↔ e s - p s ≤ e b - p b := by
      rw [cs, cb, s2, s5, b2, b5, pk_sub s6, pk_sub b6, nI_leI (by omega) (by omega)]
    by_cases c : e s - p s ≤ e b - p b
    · obtain ⟨b', r1, r2, r3, r4⟩ := ih (s + 1) b (by omega) hb (fun j hj' => by
        by_cases ej : j = s
        · rw [ej]; exact c
        · exact hj j (by omega))
      refine ⟨b', r1, r2, fun post hp => ?_, fun post J2 x1 hp => ?_⟩
      · rw [wX_fullest_4]
        refine br_f (nI_ge (b := 3) hs3 (by omega)) ?_
        unfold wpX_unread
        exact ⟨is, is, ib, ib, br_t (qX.mpr c) (nm_r (nI_1 s) (r3 post hp))⟩
      · rw [wY_readAll_49]
        exact br_f (nI_ge (b := 3) hs3 (by omega)) ⟨is, is', ib, ib', br_t (qY.mpr c) (nm_r (nI_1 s) (r4 post J2 x1 hp))⟩
    · obtain ⟨b', r1, r2, r3, r4⟩ := ih (s + 1) s (by omega) hs3 (fun j hj' => by
        by_cases ej : j = s
        · rw [ej]; exact Nat.le_refl _
        · have := hj j (by omega); omega)
      refine ⟨b', r1, r2, fun post hp => ?_, fun post J2 x1 hp => ?_⟩
      · rw [wX_fullest_4]
        refine br_f (nI_ge (b := 3) hs3 (by omega)) ?_
        unfold wpX_unread
        exact ⟨is, is, ib, ib, br_f (fun q => c (qX.mp q)) (nm_r (nI_1 s) (r3 post hp))⟩
      · rw [wY_readAll_49]
        exact br_f (nI_ge (b := 3) hs3 (by omega)) ⟨is, is', ib, ib', br_f (fun q => c (qY.mp q)) (nm_r (nI_1 s) (r4 post J2 x1 hp))⟩
end READALL
theorem lk_all {e : Nat → Nat} : ∀ (U c : Nat) (p : Nat → Nat) (u : SX) (v : SY), r_V e p u v → e 0 + e 1 + e 2 = p 0 + p 1 + p 2 + U → c + U ≤ 60 → ∃ (u' : SX) (v' : SY) (p' : Nat → Nat), r_V e p' u' v' ∧ (∀ post : Int32 → SX → Prop, post (nI (c + U)) u' → ∃ (n : Nat) (r : Int32), (∀ q : Int32 → Prop, q r → wpX_fullest q u) ∧ x_ra post n (nI c) r u) ∧ (∀ post : Int32 → SY → Prop, post (nI (c + U)) v' → ∃ n : Nat, y_ra post n (nI c) v) := by
  intro U
  induction U with
  | zero =>
    intro c p u v h hU hc
    refine zz_ev (Z := fun u v => ∃ (u' : SX) (v' : SY) (p' : Nat → Nat), r_V e p' u' v' ∧ (∀ post : Int32 → SX → Prop, post (nI (c + 0)) u' → ∃ (n : Nat) (r : Int32), (∀ q : Int32 → Prop, q r → wpX_fullest q u) ∧ x_ra post n (nI c) r u) ∧ (∀ post : Int32 → SY → Prop, post (nI (c + 0)) v' → ∃ n : Nat, y_ra post n (nI c) v)) ?_ h
    clear h u v
    intro kd wd pn la mk lc nw rc km kl kw kr tc ts tl tm ec et ek ev po gt il pc ps pl pm ss ft lt sc su sl sm re kp kt ki kq ks yk yt yp yl sz cd vl no cp h
    have hs := fun s hs => r_X_p h (s := s) hs
    obtain ⟨b, hb, hmax, fX, fY⟩ := lk_ful (kd := kd) (wd := wd) (pn := pn) (la := la) (mk := mk) (lc := lc) (nw := nw) (rc := rc) (km := km) (kl := kl) (kw := kw) (kr := kr) (tc := tc) (ts := ts) (tl := tl) (tm := tm) (ec := ec) (et := et) (ek := ek) (ev := ev) (po := po) (gt := gt) (il := il) (pc := pc) (ps := ps) (pl := pl) (pm := pm) (ss := ss) (ft := ft) (lt := lt) (sc := sc) (su := su) (sl := sl) (sm := sm) (re := re) (kp := kp) (kt := kt) (ki := ki) (kq := kq) (ks := ks) (yk := yk) (yt := yt) (yp := yp) (yl := yl) (sz := sz) (cd := cd) (vl := vl) (no := no) (cp := cp) hs 2 1 0 (by omega) (by omega) (fun j hj => by rw [show j = 0 by omega]; exact Nat.le_refl _)
    obtain ⟨b1, b2, b3, b4, b5, b6⟩ := hs b hb
    obtain ⟨x1, x2, x3, x4, x5, x6⟩ := hs 0 (by omega)
    obtain ⟨y1, y2, y3, y4, y5, y6⟩ := hs 1 (by omega)
    obtain ⟨w1, w2, w3, w4, w5, w6⟩ := hs 2 (by omega)
    have hbe : e b - p b = 0 := by
      have c : b = 0 ∨ b = 1 ∨ b = 2 := by omega
      rcases c with rfl | rfl | rfl <;> omega
    have cb : (nI b).toNatClampNeg = b := nI_clamp (by omega)
    have ib : vp_in (nI b) 3 := vp_in_nI hb (by omega)
    refine ⟨(kd, wd, pn, la, mk, lc, nw, rc, km, kl, kw, kr, tc, ts, tl, tm, ec, et, ek, ev, po, gt, il, pc, ps, pl, pm, ss, ft, lt, sc, su, sl, sm, re, kp, kt, ki, kq, ks), (yk, yt, yp, yl, sz, cd, vl, no, cp), p, zz_iv h, fun post hp => ⟨1, nI b, fun q hq => ?_, ?_⟩, fun post hp => ⟨1, ?_⟩⟩
    · unfold wpX_fullest
      exact ⟨3, fX q hq⟩
    · show wX_readAll_7 post 1 (nI c) (nI b) kd wd pn la mk lc nw rc km kl kw kr tc ts tl tm ec et ek ev po gt il pc ps pl pm ss ft lt sc su sl sm re kp kt ki kq ks
      rw [wX_readAll_7]
      by_cases c60 : c = 60
      · exact br_t (by rw [c60]; exact Int32.le_refl _) hp
      · refine br_f (nI_ge (b := 60) (by omega) (by omega)) ?_
        unfold wpX_unread
        refine ⟨ib, ib, br_t ?_ hp⟩
        rw [cb, b1, b4, pk_sub b6, hbe]
        exact Int32.le_refl _
    · show wY_readAll_2 post 1 (nI c) yk yt yp yl sz cd vl no cp
      rw [wY_readAll_2]
      refine br_t ?_ hp
      rw [x2, x5, y2, y5, w2, w5, nI_add, nI_add, nI_add, nI_add]
      exact nI_le (by omega) (by omega)
  | succ U ih =>
    intro c p u v h hU hc
    refine zz_ev (Z := fun u v => ∃ (u' : SX) (v' : SY) (p' : Nat → Nat), r_V e p' u' v' ∧ (∀ post : Int32 → SX → Prop, post (nI (c + (U + 1))) u' → ∃ (n : Nat) (r : Int32), (∀ q : Int32 → Prop, q r → wpX_fullest q u) ∧ x_ra post n (nI c) r u) ∧ (∀ post : Int32 → SY → Prop, post (nI (c + (U + 1))) v' → ∃ n : Nat, y_ra post n (nI c) v)) ?_ h
    clear h u v
    intro kd wd pn la mk lc nw rc km kl kw kr tc ts tl tm ec et ek ev po gt il pc ps pl pm ss ft lt sc su sl sm re kp kt ki kq ks yk yt yp yl sz cd vl no cp h
    have hs := fun s hs => r_X_p h (s := s) hs
    obtain ⟨b, hb, hmax, fX, fY⟩ := lk_ful (kd := kd) (wd := wd) (pn := pn) (la := la) (mk := mk) (lc := lc) (nw := nw) (rc := rc) (km := km) (kl := kl) (kw := kw) (kr := kr) (tc := tc) (ts := ts) (tl := tl) (tm := tm) (ec := ec) (et := et) (ek := ek) (ev := ev) (po := po) (gt := gt) (il := il) (pc := pc) (ps := ps) (pl := pl) (pm := pm) (ss := ss) (ft := ft) (lt := lt) (sc := sc) (su := su) (sl := sl) (sm := sm) (re := re) (kp := kp) (kt := kt) (ki := ki) (kq := kq) (ks := ks) (yk := yk) (yt := yt) (yp := yp) (yl := yl) (sz := sz) (cd := cd) (vl := vl) (no := no) (cp := cp) hs 2 1 0 (by omega) (by omega) (fun j hj => by rw [show j = 0 by omega]; exact Nat.le_refl _)
    obtain ⟨b1, b2, b3, b4, b5, b6⟩ := hs b hb
    obtain ⟨x1, x2, x3, x4, x5, x6⟩ := hs 0 (by omega)
    obtain ⟨y1, y2, y3, y4, y5, y6⟩ := hs 1 (by omega)
    obtain ⟨w1, w2, w3, w4, w5, w6⟩ := hs 2 (by omega)
    have hbe : p b < e b := by
      have m0 := hmax 0 (by omega)
      have m1 := hmax 1 (by omega)
      have m2 := hmax 2 (by omega)
      omega
    have cb : (nI b).toNatClampNeg = b := nI_clamp (by omega)
    have ib : vp_in (nI b) 3 := vp_in_nI hb (by omega)
    obtain ⟨u1, v1, r, q1, q2, q3⟩ := lk_read h hb hbe
    obtain ⟨u', v', p', s1, s2, s3⟩ := ih (c + 1) (p_1 p b) u1 v1 q1 (by rw [p_1_t hb]; omega) (by omega)
    rw [show c + 1 + U = c + (U + 1) by omega] at s2 s3
    refine ⟨u', v', p', s1, fun post hp => ?_, fun post hp => ?_⟩
    · obtain ⟨n, rr, t1, t2⟩ := s2 post hp
      refine ⟨n + 1, nI b, fun q hq => ?_, ?_⟩
      · unfold wpX_fullest
        exact ⟨3, fX q hq⟩
      · show wX_readAll_7 post (n + 1) (nI c) (nI b) kd wd pn la mk lc nw rc km kl kw kr tc ts tl tm ec et ek ev po gt il pc ps pl pm ss ft lt sc su sl sm re kp kt ki kq ks
        rw [wX_readAll_7]
        refine br_f (nI_ge (b := 60) (by omega) (by omega)) ?_
        unfold wpX_unread
        refine ⟨ib, ib, br_f ?_ ?_⟩
        · rw [cb, b1, b4, pk_sub b6]
          exact nI_nle (by omega) (by omega)
        · refine q2 _ ?_
          have t3 : ∀ x : Int32, x = nI c + 1 → wpX_fullest (fun r => x_ra post n x r u1) u1 := by
            intro x hx
            rw [hx, nI_1]
            exact t1 _ t2
          exact t3
    · obtain ⟨n, t2⟩ := s3 post hp
      refine ⟨n + 1, ?_⟩
      show wY_readAll_2 post (n + 1) (nI c) yk yt yp yl sz cd vl no cp
      rw [wY_readAll_2]
      refine br_f ?_ ⟨3, fY post _ _ (q3 _ ?_)⟩
      · rw [x2, x5, y2, y5, w2, w5, nI_add, nI_add, nI_add, nI_add]
        exact nI_ge (by omega) (by omega)
      · have t3 : ∀ x : Int32, x = nI c + 1 → y_ra post n x v1 := by
          intro x hx
          rw [hx, nI_1]
          exact t2
        exact t3
theorem i_vc_readAll {k : Nat} {u : SX} {v : SY} (I : i_Rel k u v) (hk : k + 3 ≤ 1540) : wpX_readAll (fun r u' => wpY_readAll (fun r' v' => r' = r ∧ i_Rel (k + 3) u' v') v) u := by
  obtain ⟨e, p, I⟩ := I
  have hb : p 0 + p 1 + p 2 ≤ e 0 + e 1 + e 2 ∧ e 0 + e 1 + e 2 ≤ 60 := by
    refine zz_ev (Z := fun _ _ => p 0 + p 1 + p 2 ≤ e 0 + e 1 + e 2 ∧ e 0 + e 1 + e 2 ≤ 60) ?_ I
    intro kd wd pn la mk lc nw rc km kl kw kr tc ts tl tm ec et ek ev po gt il pc ps pl pm ss ft lt sc su sl sm re kp kt ki kq ks yk yt yp yl sz cd vl no cp h
    obtain ⟨x1, x2, x3, x4, x5, x6⟩ := r_X_p h (s := 0) (by omega)
    obtain ⟨y1, y2, y3, y4, y5, y6⟩ := r_X_p h (s := 1) (by omega)
    obtain ⟨w1, w2, w3, w4, w5, w6⟩ := r_X_p h (s := 2) (by omega)
    omega
  obtain ⟨u', v', p', s1, s2, s3⟩ := lk_all (e := e) (e 0 + e 1 + e 2 - (p 0 + p 1 + p 2)) 0 p u v I (by omega) (by omega)
  have hY : wpY_readAll (fun r' v' => r' = nI (0 + (e 0 + e 1 + e 2 - (p 0 + p 1 + p 2))) ∧ i_Rel (k + 3) u' v') v := by
    obtain ⟨n, t⟩ := s3 (fun r' v' => r' = nI (0 + (e 0 + e 1 + e 2 - (p 0 + p 1 + p 2))) ∧ i_Rel (k + 3) u' v') ⟨rfl, e, p', s1⟩
    exact ⟨n, t⟩
  obtain ⟨n, r, t1, t2⟩ := s2 (fun r u' => wpY_readAll (fun r' v' => r' = r ∧ i_Rel (k + 3) u' v') v) hY
  exact t1 _ ⟨n, t2⟩
end
section
theorem r_C_R {st : Prop} {K W PN : Nat} {e p : Nat → Nat} {R : Nat} {po gt il : Nat → Int32} {mk lc nw : Int32} {pc ps pl pm ss ft lt sc su sl sm re no ec et ek ev sz cd vl : Nat → Int32} (h : r_C st K W PN e p R po gt il mk lc nw pc ps pl pm ss ft lt sc su sl sm re no) (hK : K ≤ 2) (hE : r_E e ec et ek ev sz cd vl) : R ≤ 252 := by
  obtain ⟨z, m, P, L, M, hG, hA, hz, h9, hlc, hnw, hR, hP, hW, hX, hY⟩ := h
  obtain ⟨⟨g1, g2, g3, g4⟩, gn, gb, gp, gok, gw, gs⟩ := hG
  have hT := r_A_T hA hE
  by_cases c : K = 2
  · have := (gs c).2; omega
  · have := (gw (by omega)).1; omega
theorem i_vc_mark {k : Nat} {u : SX} {v : SY} (I : i_Rel k u v) (hk : k + 3 ≤ 1540) : wpX_mark (fun r => wpY_mark (fun r' => r' = r ∧ i_Rel (k + 3) u v) v) u := by
  refine zz_el (Z := fun u v => wpX_mark (fun r => wpY_mark (fun r' => r' = r ∧ i_Rel (k + 3) u v) v) u) ?_ I
  clear I u v
  intro e p kd wd pn la mk lc nw rc km kl kw kr tc ts tl tm ec et ek ev po gt il pc ps pl pm ss ft lt sc su sl sm re kp kt ki kq ks yk yt yp yl sz cd vl no cp h
  have h0 := h
  obtain ⟨K, W, PN, LA, R, Rk, pk, hK, hE, hrc, hkr, hRk, ⟨z, m, P, L, M, hG, hA, hz, h9, -⟩, hCk⟩ := h
  exact ⟨h9.trans hz.symm, zz_in h0⟩
theorem i_vc_results {k : Nat} {u : SX} {v : SY} (I : i_Rel k u v) (hk : k + 3 ≤ 1540) : wpX_results (fun r => wpY_results (fun r' => r' = r ∧ i_Rel (k + 3) u v) v) u := by
  refine zz_el (Z := fun u v => wpX_results (fun r => wpY_results (fun r' => r' = r ∧ i_Rel (k + 3) u v) v) u) ?_ I
  clear I u v
  intro e p kd wd pn la mk lc nw rc km kl kw kr tc ts tl tm ec et ek ev po gt il pc ps pl pm ss ft lt sc su sl sm re kp kt ki kq ks yk yt yp yl sz cd vl no cp h
  have h0 := h
  obtain ⟨K, W, PN, LA, R, Rk, pk, hK, hE, hrc, hkr, hRk, ⟨z, m, P, L, M, hG, hA, hz, h9, hlc, hnw, hR, -⟩, hCk⟩ := h
  exact ⟨hR.1.trans hrc.symm, zz_in h0⟩
theorem i_vc_late {k : Nat} {u : SX} {v : SY} (I : i_Rel k u v) (hk : k + 3 ≤ 1540) : wpX_late (fun r => wpY_late (fun r' => r' = r ∧ i_Rel (k + 3) u v) v) u := by
  refine zz_el (Z := fun u v => wpX_late (fun r => wpY_late (fun r' => r' = r ∧ i_Rel (k + 3) u v) v) u) ?_ I
  clear I u v
  intro e p kd wd pn la mk lc nw rc km kl kw kr tc ts tl tm ec et ek ev po gt il pc ps pl pm ss ft lt sc su sl sm re kp kt ki kq ks yk yt yp yl sz cd vl no cp h
  have h0 := h
  obtain ⟨K, W, PN, LA, R, Rk, pk, hK, hE, hrc, hkr, hRk, ⟨z, m, P, L, M, hG, hA, hz, h9, hlc, -⟩, hCk⟩ := h
  exact ⟨hlc.symm, zz_in h0⟩
theorem i_vc_kept {k : Nat} {u : SX} {v : SY} (I : i_Rel k u v) (hk : k + 3 ≤ 1540) : wpX_kept (fun r => wpY_kept (fun r' => r' = r ∧ i_Rel (k + 3) u v) v) u := by
  refine zz_el (Z := fun u v => wpX_kept (fun r => wpY_kept (fun r' => r' = r ∧ i_Rel (k + 3) u v) v) u) ?_ I
  clear I u v
  intro e p kd wd pn la mk lc nw rc km kl kw kr tc ts tl tm ec et ek ev po gt il pc ps pl pm ss ft lt sc su sl sm re kp kt ki kq ks yk yt yp yl sz cd vl no cp h
  have h0 := h
  obtain ⟨K, W, PN, LA, R, Rk, pk, hK, hE, hrc, hkr, hRk, hC, ⟨z, m, P, L, M, hG, hA, hz, h9, hlc, hnw, hR, -⟩⟩ := h
  exact ⟨hR.1.trans hkr.symm, zz_in h0⟩
theorem i_vc_position {k : Nat} {u : SX} {v : SY} (I : i_Rel k u v) (hk : k + 3 ≤ 1540) (v1 : Int32) : wpX_position (fun r => wpY_position (fun r' => r' = r ∧ i_Rel (k + 3) u v) v v1) u v1 := by
  refine zz_el (Z := fun u v => wpX_position (fun r => wpY_position (fun r' => r' = r ∧ i_Rel (k + 3) u v) v v1) u v1) ?_ I
  clear I u v
  intro e p kd wd pn la mk lc nw rc km kl kw kr tc ts tl tm ec et ek ev po gt il pc ps pl pm ss ft lt sc su sl sm re kp kt ki kq ks yk yt yp yl sz cd vl no cp h
  rcases pk_ix v1 (n := 3) (by omega) with c | c | ⟨j, hj, c⟩
  · unfold wpX_position
    refine x_sb (Or.inl c) (br_t rfl ?_)
    unfold wpY_position
    exact y_sb (Or.inl c) (br_f (by decide) ⟨rfl, zz_in h⟩)
  · unfold wpX_position
    refine x_sb (Or.inr c) (br_t rfl ?_)
    unfold wpY_position
    exact y_sb (Or.inr c) (br_f (by decide) ⟨rfl, zz_in h⟩)
  · subst c
    obtain ⟨e1, e2, e3, a1, a2, a3⟩ := r_X_p h hj
    have cj : (nI j).toNatClampNeg = j := nI_clamp (by omega)
    unfold wpX_position
    refine x_sk hj (br_f (by decide) ⟨vp_in_nI hj (by omega), ?_⟩)
    unfold wpY_position
    refine y_sk hj (br_t rfl ⟨vp_in_nI (by omega) (by omega), ?_, zz_in h⟩)
    rw [cj, a1, a2]
theorem i_vc_result {k : Nat} {u : SX} {v : SY} (I : i_Rel k u v) (hk : k + 3 ≤ 1540) (v1 : Int32) (v2 : Int32) : wpX_result (fun r => wpY_result (fun r' => r' = r ∧ i_Rel (k + 3) u v) v v1 v2) u v1 v2 := by
  refine zz_el (Z := fun u v => wpX_result (fun r => wpY_result (fun r' => r' = r ∧ i_Rel (k + 3) u v) v v1 v2) u v1 v2) ?_ I
  clear I u v
  intro e p kd wd pn la mk lc nw rc km kl kw kr tc ts tl tm ec et ek ev po gt il pc ps pl pm ss ft lt sc su sl sm re kp kt ki kq ks yk yt yp yl sz cd vl no cp h
  have h0 : i_Rel (k + 3) (kd, wd, pn, la, mk, lc, nw, rc, km, kl, kw, kr, tc, ts, tl, tm, ec, et, ek, ev, po, gt, il, pc, ps, pl, pm, ss, ft, lt, sc, su, sl, sm, re, kp, kt, ki, kq, ks) (yk, yt, yp, yl, sz, cd, vl, no, cp) := zz_in h
  obtain ⟨K, W, PN, LA, R, Rk, pk, hK, hE, hrc, hkr, hRk, hC, hCk⟩ := h
  have hR252 := r_C_R hC hK.2.2.1 hE
  obtain ⟨z, m, P, L, M, hG, hA, hz, h9, hlc, hnw, hR, -⟩ := hC
  unfold wpX_result wpY_result
  dsimp only
  rw [hrc, hR.1]
  rw [hrc] at h0
  rcases pk_ix v1 (n := R) (by omega) with c | c | ⟨i, hi, c⟩
  · exact br_t c (br_t c ⟨rfl, h0⟩)
  · by_cases c0 : v1 < 0
    · exact br_t c0 (br_t c0 ⟨rfl, h0⟩)
    · exact br_f c0 (br_t c (br_f c0 (br_t c ⟨rfl, h0⟩)))
  · subst c
    have n1 : ¬ nI i < 0 := nI_pos (by omega)
    have n2 : ¬ nI R ≤ nI i := nI_ge hi (by omega)
    rcases pk_ix v2 (n := 7) (by omega) with d | d | ⟨j, hj, d⟩
    · exact br_f n1 (br_f n2 (br_t d (br_f n1 (br_f n2 (br_t d ⟨rfl, h0⟩)))))
    · by_cases d0 : v2 < 0
      · exact br_f n1 (br_f n2 (br_t d0 (br_f n1 (br_f n2 (br_t d0 ⟨rfl, h0⟩)))))
      · have d1 : ¬ v2 < 7 := Int32.not_lt.mpr d
        have d2 : ¬ v2 ≤ 6 := by
          have d' : (7 : Int32) ≤ v2 := d
          rw [Int32.le_iff_toInt_le] at d' ⊢
          have h7 : (7 : Int32).toInt = 7 := by decide
          have h6 : (6 : Int32).toInt = 6 := by decide
          omega
        exact br_f n1 (br_f n2 (br_f d0 (br_f d1 (br_f n1 (br_f n2 (br_f d0 (br_f d2 ⟨rfl, h0⟩)))))))
    · subst d
      have d0 : ¬ nI j < 0 := nI_pos (by omega)
      have d1 : nI j < 7 := nI_lt (b := 7) hj (by omega)
      have d2 : nI j ≤ 6 := nI_le (b := 6) (by omega) (by omega)
      have e1 : (7 : Int32) * nI i + nI j = nI (7 * i + j) := by rw [show (7 : Int32) * nI i = nI (7 * i) from pk_mul 7 i, nI_add]
      have e2 : (1524 : Int32) + 7 * nI i + nI j = nI (1524 + (7 * i + j)) := by
        rw [show (7 : Int32) * nI i = nI (7 * i) from pk_mul 7 i, show (1524 : Int32) + nI (7 * i) = nI (1524 + 7 * i) from nI_add 1524 _, nI_add]
        exact congrArg nI (by omega)
      rw [e1, e2]
      refine br_f n1 (br_f n2 (br_f d0 (br_t d1 ⟨vp_in_nI (by omega) (by omega), br_f n1 (br_f n2 (br_f d0 (br_t d2 ⟨vp_in_nI (by omega) (by omega), ?_, h0⟩)))⟩)))
      rw [nI_clamp (by omega), nI_clamp (by omega)]
      exact hR.2 _ (by omega)
/-! the digest -/
def d_w (j : Nat) : Int32 := if j = 0 then 1 else if j = 1 then 3 else if j = 2 then 5 else if j = 3 then 7 else if j = 4 then 11 else if j = 5 then 13 else 17
def d_x (c : Nat → Int32) : Nat → Nat → Int32 → Int32
  | 0, _, acc => acc
  | d + 1, j, acc => d_x c d (j + 1) (acc + d_w j * c j)
def d_y (c : Nat → Int32) (f : Int32) : Nat → Nat → Int32 → Int32
  | 0, _, acc => acc
  | d + 1, j, acc => d_y c f d (j + 1) (acc + f * d_w j * c j)
theorem d_e {c c' : Nat → Int32} {f : Int32} : ∀ (d j : Nat) (x acc : Int32), (∀ i, j ≤ i → i < j + d → c' i = c i) → d_y c' f d j (x + f * acc) = x + f * d_x c d j acc
  | 0, _, _, _, _ => rfl
  | d + 1, j, x, acc, h => by
    have ih := d_e (c := c) (c' := c') (f := f) d (j + 1) x (acc + d_w j * c j) (fun i h1 h2 => h i (by omega) (by omega))
    show d_y c' f d (j + 1) (x + f * acc + f * d_w j * c' j) = x + f * d_x c d (j + 1) (acc + d_w j * c j)
    rw [← ih, h j (by omega) (by omega), Int32.mul_add, Int32.mul_assoc, Int32.add_assoc]
section DIGEST
variable {kd wd pn la mk lc nw rc km kl kw kr tc ts tl tm : Int32} {ec et ek ev po gt il pc ps pl pm ss ft lt sc su sl sm re kp kt ki kq ks : Nat → Int32}
variable {yk yt yp yl : Int32} {sz cd vl no cp : Nat → Int32}
theorem x_wt {post : Int32 → Prop} {j : Nat} (hj : j < 7) (hp : post (d_w j)) : wpX_weightOf post (kd, wd, pn, la, mk, lc, nw, rc, km, kl, kw, kr, tc, ts, tl, tm, ec, et, ek, ev, po, gt, il, pc, ps, pl, pm, ss, ft, lt, sc, su, sl, sm, re, kp, kt, ki, kq, ks) (nI j) := by
  unfold wpX_weightOf
  have c : j = 0 ∨ j = 1 ∨ j = 2 ∨ j = 3 ∨ j = 4 ∨ j = 5 ∨ j = 6 := by omega
  rcases c with rfl | rfl | rfl | rfl | rfl | rfl | rfl
  · exact br_t (by decide) hp
  · exact br_f (by decide) (br_t (by decide) hp)
  · exact br_f (by decide) (br_f (by decide) (br_t (by decide) hp))
  · exact br_f (by decide) (br_f (by decide) (br_f (by decide) (br_t (by decide) hp)))
  · exact br_f (by decide) (br_f (by decide) (br_f (by decide) (br_f (by decide) (br_t (by decide) hp))))
  · exact br_f (by decide) (br_f (by decide) (br_f (by decide) (br_f (by decide) (br_f (by decide) (br_t (by decide) hp)))))
  · exact br_f (by decide) (br_f (by decide) (br_f (by decide) (br_f (by decide) (br_f (by decide) (br_f (by decide) hp)))))
theorem y_wt {post : Int32 → Prop} {j : Nat} (hj : j < 7) (hp : post (d_w j)) : wpY_factor post (yk, yt, yp, yl, sz, cd, vl, no, cp) (nI j) := by
  unfold wpY_factor
  have c : j = 0 ∨ j = 1 ∨ j = 2 ∨ j = 3 ∨ j = 4 ∨ j = 5 ∨ j = 6 := by omega
  rcases c with rfl | rfl | rfl | rfl | rfl | rfl | rfl
  · exact br_t (by decide) hp
  · exact br_f (by decide) (br_t (by decide) hp)
  · exact br_f (by decide) (br_f (by decide) (br_t (by decide) hp))
  · exact br_f (by decide) (br_f (by decide) (br_f (by decide) (br_t (by decide) hp)))
  · exact br_f (by decide) (br_f (by decide) (br_f (by decide) (br_f (by decide) (br_t (by decide) hp))))
  · exact br_f (by decide) (br_f (by decide) (br_f (by decide) (br_f (by decide) (br_f (by decide) (br_t (by decide) hp)))))
  · exact br_f (by decide) (br_f (by decide) (br_f (by decide) (br_f (by decide) (br_f (by decide) (br_f (by decide) hp)))))
theorem x_d17 {post : Int32 → Prop} {J4 : Int32 → Int32 → Prop} {i : Nat} {x1 : Int32} (hi : i < 300) : ∀ d j acc, j + d = 7 → J4 (x1 + (nI i + 1) * d_x (fun j => re (7 * i + j)) d j acc) (nI (i + 1)) → wX_digest_17 post J4 x1 (nI i) kd wd pn la mk lc nw rc km kl kw kr tc ts tl tm ec et ek ev po gt il pc ps pl pm ss ft lt sc su sl sm re kp kt ki kq ks (d + 1) acc (nI j) := by
  intro d
  induction d with
  | zero =>
    intro j acc hj h
    have : j = 7 := by omega
    subst this
    rw [wX_digest_17]
    exact br_t (Int32.le_refl _) (nm_e (nm_r (nI_1 i) h))
  | succ d ih =>
    intro j acc hj h
    have e1 : (7 : Int32) * nI i + nI j = nI (7 * i + j) := by rw [show (7 : Int32) * nI i = nI (7 * i) from pk_mul 7 i, nI_add]
    rw [wX_digest_17]
    refine br_f (nI_ge (b := 7) (by omega) (by omega)) (x_wt (by omega) ?_)
    rw [e1]
    refine ⟨vp_in_nI (by omega) (by omega), nm_r (e' := acc + d_w j * re (7 * i + j)) ?_ (nm_r (nI_1 j) (ih (j + 1) _ (by omega) h))⟩
    rw [nI_clamp (by omega)]
theorem y_d17 {post : Int32 → Prop} {J4 : Int32 → Int32 → Prop} {i : Nat} (hi : i < 256) : ∀ d j acc, j + d = 7 → J4 (d_y (fun j => no (1524 + (7 * i + j))) (nI i + 1) d j acc) (nI (i + 1)) → wY_digest_17 post J4 (nI i) yk yt yp yl sz cd vl no cp (d + 1) acc (nI j) := by
  intro d
  induction d with
  | zero =>
    intro j acc hj h
    have : j = 7 := by omega
    subst this
    rw [wY_digest_17]
    exact br_t (Int32.le_refl _) (nm_r (nI_1 i) h)
  | succ d ih =>
    intro j acc hj h
    have e2 : (1524 : Int32) + 7 * nI i + nI j = nI (1524 + (7 * i + j)) := by
      rw [show (7 : Int32) * nI i = nI (7 * i) from pk_mul 7 i, show (1524 : Int32) + nI (7 * i) = nI (1524 + 7 * i) from nI_add 1524 _, nI_add]
      exact congrArg nI (by omega)
    rw [wY_digest_17]
    refine br_f (nI_ge (b := 7) (by omega) (by omega)) (y_wt (by omega) ?_)
    rw [e2]
    refine ⟨vp_in_nI (by omega) (by omega), nm_r (e' := acc + (nI i + 1) * d_w j * no (1524 + (7 * i + j))) ?_ (nm_r (nI_1 j) (ih (j + 1) _ (by omega) h))⟩
    rw [nI_clamp (by omega)]
theorem lk_dig {R : Nat} (hrc : rc = nI R) (hR : r_R R re no) (hRb : R ≤ 252) : ∀ d i x, i + d = R → ∃ r : Int32, (∀ post : Int32 → Prop, post r → wX_digest_4 post kd wd pn la mk lc nw rc km kl kw kr tc ts tl tm ec et ek ev po gt il pc ps pl pm ss ft lt sc su sl sm re kp kt ki kq ks (d + 1) x (nI i)) ∧ (∀ post : Int32 → Prop, post r → wY_digest_4 post yk yt yp yl sz cd vl no cp (d + 1) x (nI i)) := by
  intro d
  induction d with
  | zero =>
    intro i x hi
    have : i = R := by omega
    subst this
    refine ⟨x, fun post hp => ?_, fun post hp => ?_⟩
    · rw [wX_digest_4]
      exact br_t (by rw [hrc]; exact Int32.le_refl _) hp
    · rw [wY_digest_4]
      exact br_t (by rw [hR.1]; exact Int32.le_refl _) hp
  | succ d ih =>
    intro i x hi
    obtain ⟨r, r1, r2⟩ := ih (i + 1) (x + (nI i + 1) * d_x (fun j => re (7 * i + j)) 7 0 0) (by omega)
    refine ⟨r, fun post hp => ?_, fun post hp => ?_⟩
    · rw [wX_digest_4]
      exact br_f (by rw [hrc]; exact nI_ge (by omega) (by omega)) ⟨8, x_d17 (by omega) 7 0 0 (by omega) (r1 post hp)⟩
    · rw [wY_digest_4]
      refine br_f (by rw [hR.1]; exact nI_ge (by omega) (by omega)) ⟨8, y_d17 (by omega) 7 0 x (by omega) ?_⟩
      have e := d_e (c := fun j => re (7 * i + j)) (c' := fun j => no (1524 + (7 * i + j))) (f := nI i + 1) 7 0 x 0 (fun j _ h2 => hR.2 _ (by omega))
      rw [Int32.mul_zero, Int32.add_zero] at e
      rw [e]
      exact r2 post hp
end DIGEST
theorem i_vc_digest {k : Nat} {u : SX} {v : SY} (I : i_Rel k u v) (hk : k + 3 ≤ 1540) : wpX_digest (fun r => wpY_digest (fun r' => r' = r ∧ i_Rel (k + 3) u v) v) u := by
  refine zz_el (Z := fun u v => wpX_digest (fun r => wpY_digest (fun r' => r' = r ∧ i_Rel (k + 3) u v) v) u) ?_ I
  clear I u v
  intro e p kd wd pn la mk lc nw rc km kl kw kr tc ts tl tm ec et ek ev po gt il pc ps pl pm ss ft lt sc su sl sm re kp kt ki kq ks yk yt yp yl sz cd vl no cp h
  have h0 : i_Rel (k + 3) (kd, wd, pn, la, mk, lc, nw, rc, km, kl, kw, kr, tc, ts, tl, tm, ec, et, ek, ev, po, gt, il, pc, ps, pl, pm, ss, ft, lt, sc, su, sl, sm, re, kp, kt, ki, kq, ks) (yk, yt, yp, yl, sz, cd, vl, no, cp) := zz_in h
  obtain ⟨K, W, PN, LA, R, Rk, pk, hK, hE, hrc, hkr, hRk, hC, hCk⟩ := h
  have hR252 := r_C_R hC hK.2.2.1 hE
  obtain ⟨z, m, P, L, M, hG, hA, hz, h9, hlc, hnw, hR, -⟩ := hC
  obtain ⟨r, r1, r2⟩ := lk_dig (kd := kd) (wd := wd) (pn := pn) (la := la) (mk := mk) (lc := lc) (nw := nw) (rc := rc) (km := km) (kl := kl) (kw := kw) (kr := kr) (tc := tc) (ts := ts) (tl := tl) (tm := tm) (ec := ec) (et := et) (ek := ek) (ev := ev) (po := po) (gt := gt) (il := il) (pc := pc) (ps := ps) (pl := pl) (pm := pm) (ss := ss) (ft := ft) (lt := lt) (sc := sc) (su := su) (sl := sl) (sm := sm) (re := re) (kp := kp) (kt := kt) (ki := ki) (kq := kq) (ks := ks) (yk := yk) (yt := yt) (yp := yp) (yl := yl) (sz := sz) (cd := cd) (vl := vl) (no := no) (cp := cp) hrc hR hR252 R 0 0 (by omega)
  unfold wpX_digest
  refine ⟨R + 1, r1 _ ?_⟩
  unfold wpY_digest
  exact ⟨R + 1, r2 _ ⟨rfl, h0⟩⟩
theorem r_C_e {st : Prop} {K W PN : Nat} {e e' p : Nat → Nat} {R : Nat} {po gt il : Nat → Int32} {mk lc nw : Int32} {pc ps pl pm ss ft lt sc su sl sm re no : Nat → Int32} (h : r_C st K W PN e p R po gt il mk lc nw pc ps pl pm ss ft lt sc su sl sm re no) (he : ∀ s, e s ≤ e' s) : r_C st K W PN e' p R po gt il mk lc nw pc ps pl pm ss ft lt sc su sl sm re no := by
  obtain ⟨z, m, P, L, M, hG, hA, h⟩ := h
  refine ⟨z, m, P, L, M, hG, fun s hs => ?_, h⟩
  obtain ⟨a1, a2, a3, a4⟩ := hA s hs
  exact ⟨a1, a2, Nat.le_trans a3 (he s), a4⟩
theorem v_768 {x : Int32} (h : (768 : Int32) ≤ x) : 767 < x := by
  rw [Int32.le_iff_toInt_le] at h
  rw [Int32.lt_iff_toInt_lt]
  have h3 : (768 : Int32).toInt = 768 := by decide
  have h2 : (767 : Int32).toInt = 767 := by decide
  omega
theorem i_vc_arrive {k : Nat} {u : SX} {v : SY} (I : i_Rel k u v) (hk : k + 3 ≤ 1540) (v1 : Int32) (v2 : Int32) : wpX_arrive (fun r u' => wpY_arrive (fun r' v' => r' = r ∧ i_Rel (k + 3) u' v') v v1 v2) u v1 v2 := by
  refine zz_el (Z := fun u v => wpX_arrive (fun r u' => wpY_arrive (fun r' v' => r' = r ∧ i_Rel (k + 3) u' v') v v1 v2) u v1 v2) ?_ I
  clear I u v
  intro e p kd wd pn la mk lc nw rc km kl kw kr tc ts tl tm ec et ek ev po gt il pc ps pl pm ss ft lt sc su sl sm re kp kt ki kq ks yk yt yp yl sz cd vl no cp h
  have h0 : i_Rel (k + 3) (kd, wd, pn, la, mk, lc, nw, rc, km, kl, kw, kr, tc, ts, tl, tm, ec, et, ek, ev, po, gt, il, pc, ps, pl, pm, ss, ft, lt, sc, su, sl, sm, re, kp, kt, ki, kq, ks) (yk, yt, yp, yl, sz, cd, vl, no, cp) := zz_in h
  unfold wpX_arrive wpY_arrive
  dsimp only
  rcases pk_ix v1 (n := 768) (by omega) with c | c | ⟨q, hq, c⟩
  · exact br_t c (br_t c ⟨rfl, h0⟩)
  · by_cases c0 : v1 < 0
    · exact br_t c0 (br_t c0 ⟨rfl, h0⟩)
    · exact br_f c0 (br_t c (br_f c0 (br_t (v_768 c) ⟨rfl, h0⟩)))
  · subst c
    have n1 : ¬ nI q < 0 := nI_pos (by omega)
    have n2 : ¬ (768 : Int32) ≤ nI q := nI_ge (b := 768) hq (by omega)
    have n3 : ¬ (767 : Int32) < nI q := nI_nlt (a := 767) (by omega) (by omega)
    by_cases d1 : v2 < (-50)
    · exact br_f n1 (br_f n2 (br_t d1 (br_f n1 (br_f n3 (br_t d1 ⟨rfl, h0⟩)))))
    by_cases d2 : v2 ≤ 50
    · obtain ⟨s, es⟩ : ∃ s, s = q / 256 := ⟨_, rfl⟩
      have hs : s < 3 := by omega
      have e1 : nI q / 256 = nI s := by rw [es]; exact pk_div (a := q) (d := 256) (by omega) (by omega) (by omega)
      have cs : (nI s).toNatClampNeg = s := nI_clamp (by omega)
      have is : vp_in (nI s) 3 := vp_in_nI hs (by omega)
      obtain ⟨c1, c2, c3, -⟩ := r_X_p h hs
      by_cases f : e s < 20
      · obtain ⟨a, ea⟩ : ∃ a, a = 20 * s + e s := ⟨_, rfl⟩
        have ia : vp_in (nI a) 60 := vp_in_nI (by omega) (by omega)
        have ca : (nI a).toNatClampNeg = a := nI_clamp (by omega)
        have eX : (20 : Int32) * nI s + ec (nI s).toNatClampNeg = nI a := by
          rw [cs, c1, show (20 : Int32) * nI s = nI (20 * s) from pk_mul 20 s, nI_add, ea]
        have eY : (20 : Int32) * nI s + sz (nI s).toNatClampNeg = nI a := by
          rw [cs, c2, show (20 : Int32) * nI s = nI (20 * s) from pk_mul 20 s, nI_add, ea]
        have m1 : nI q - nI q / 64 * 64 = nI (q % 64) := pk_rem (a := q) (d := 64) (by omega) (by omega) (by omega)
        have m2 : nI q / 64 = nI (q / 64) := pk_div (a := q) (d := 64) (by omega) (by omega) (by omega)
        have m3 : nI (q / 64) - nI (q / 64) / 4 * 4 = nI (q / 64 % 4) := pk_rem (a := q / 64) (d := 4) (by omega) (by omega) (by omega)
        have m4 : nI q - nI q / 256 * 256 = nI (q % 256) := pk_rem (a := q) (d := 256) (by omega) (by omega) (by omega)
        have hrel : i_Rel (k + 3) (kd, wd, pn, la, mk, lc, nw, rc, km, kl, kw, kr, tc, ts, tl, tm, upd ec s (nI (e s + 1)), upd et a (nI (q % 64)), upd ek a (nI (q / 64 % 4)), upd ev a v2, po, gt, il, pc, ps, pl, pm, ss, ft, lt, sc, su, sl, sm, re, kp, kt, ki, kq, ks) (yk, yt, yp, yl, upd sz s (nI (e s + 1)), upd cd a (nI (q % 256)), upd vl a v2, no, cp) := by
          obtain ⟨K, W, PN, LA, R, Rk, pk, hK, hE, hrc, hkr, hRk, hC, hCk⟩ := h
          have hle : ∀ j, e j ≤ p_1 e s j := by
            intro j
            by_cases cj : j = s
            · subst cj; rw [p_1_s]; omega
            · rw [p_1_n cj]; exact Nat.le_refl _
          refine zz_in (e := p_1 e s) (p := p) ⟨K, W, PN, LA, R, Rk, pk, hK, fun j hj => ?_, hrc, hkr, hRk, r_C_e hC hle, r_C_e hCk hle⟩
          obtain ⟨g1, g2, g3, g4⟩ := hE j hj
          by_cases cj : j = s
          · subst cj
            rw [pk_us, pk_us, p_1_s]
            refine ⟨rfl, rfl, by omega, fun i hi => ?_⟩
            by_cases ci : i = e j
            · subst ci
              rw [← ea, pk_us, pk_us, pk_us, pk_us, pk_us]
              exact ⟨q % 64, q / 64 % 4, by omega, by omega, rfl, rfl, congrArg nI (by omega), rfl⟩
            · have hne : 20 * j + i ≠ a := by omega
              rw [pk_un hne, pk_un hne, pk_un hne, pk_un hne, pk_un hne]
              exact g4 i (by omega)
          · rw [pk_un cj, pk_un cj, p_1_n cj]
            refine ⟨g1, g2, g3, fun i hi => ?_⟩
            have hne : 20 * j + i ≠ a := by omega
            rw [pk_un hne, pk_un hne, pk_un hne, pk_un hne, pk_un hne]
            exact g4 i hi
        refine br_f n1 (br_f n2 (br_f d1 (br_t d2 ⟨by decide, nm_r e1 ⟨is, br_t ?_ ⟨is, nm_r eX ⟨by decide, ia, nm_r (e' := upd et a (nI (q % 64))) (by rw [ca, m1]) ⟨by decide, by decide, ia, nm_r (e' := upd ek a (nI (q / 64 % 4))) (by rw [ca, m2, m3]) ⟨ia, nm_r (e' := upd ev a v2) (by rw [ca]) ⟨is, is, nm_r (e' := upd ec s (nI (e s + 1))) (by rw [cs, c1, nI_1]) ⟨is, ?_⟩⟩⟩⟩⟩⟩⟩⟩)))
        · rw [cs, c1]; exact nI_lt (b := 20) f (by omega)
        · refine br_f n1 (br_f n3 (br_f d1 (br_t d2 ⟨by decide, nm_r e1 ⟨is, br_f ?_ ⟨is, by decide, ?_⟩⟩⟩)))
          · rw [cs, c2]; intro z; have := (nI_eq (b := 20) (by omega) (by omega)).mp z; omega
          · rw [eY]
            refine ⟨ia, nm_r (e' := upd cd a (nI (q % 256))) (by rw [ca, m4]) ⟨is, ia, nm_r (e' := upd vl a v2) (by rw [ca]) ⟨is, is, nm_r (e' := upd sz s (nI (e s + 1))) (by rw [cs, c2, nI_1]) ⟨is, ?_, hrel⟩⟩⟩⟩
            rw [cs, pk_us, pk_us]
      · have f20 : e s = 20 := by omega
        refine br_f n1 (br_f n2 (br_f d1 (br_t d2 ⟨by decide, nm_r e1 ⟨is, br_f ?_ ?_⟩⟩)))
        · rw [cs, c1, f20]; decide
        · refine br_f n1 (br_f n3 (br_f d1 (br_t d2 ⟨by decide, nm_r e1 ⟨is, br_t ?_ ⟨rfl, h0⟩⟩⟩)))
          rw [cs, c2, f20]; rfl
    · exact br_f n1 (br_f n2 (br_f d1 (br_f d2 (br_f n1 (br_f n3 (br_f d1 (br_f d2 ⟨rfl, h0⟩)))))))
end
section
/-- how many windows hold something -/
def c_n (V : Nat → Option Qv) : Nat → Nat → Nat
  | _, 0 => 0
  | m, d + 1 => (if q_n (V m) = 0 then 0 else 1) + c_n V (m + 1) d
theorem c_n_a {V : Nat → Option Qv} : ∀ a m b, c_n V m (a + b) = c_n V m a + c_n V (m + a) b
  | 0, m, b => by rw [Nat.zero_add]; exact (Nat.zero_add _).symm
  | a + 1, m, b => by
    have ih := c_n_a (V := V) a (m + 1) b
    rw [show a + 1 + b = (a + b) + 1 by omega]
    show (if q_n (V m) = 0 then 0 else 1) + c_n V (m + 1) (a + b) = (if q_n (V m) = 0 then 0 else 1) + c_n V (m + 1) a + c_n V (m + (a + 1)) b
    rw [ih, show m + 1 + a = m + (a + 1) by omega, Nat.add_assoc]
theorem c_n_0 {V : Nat → Option Qv} : ∀ d m, (∀ j, m ≤ j → j < m + d → V j = none) → c_n V m d = 0
  | 0, _, _ => rfl
  | d + 1, m, h => by
    show (if q_n (V m) = 0 then 0 else 1) + c_n V (m + 1) d = 0
    rw [h m (by omega) (by omega), c_n_0 d (m + 1) (fun j h1 h2 => h j (by omega) (by omega))]
    rfl
theorem c_n_c {V V' : Nat → Option Qv} : ∀ d m, (∀ j, m ≤ j → j < m + d → V' j = V j) → c_n V' m d = c_n V m d
  | 0, _, _ => rfl
  | d + 1, m, h => by
    show (if q_n (V' m) = 0 then 0 else 1) + c_n V' (m + 1) d = (if q_n (V m) = 0 then 0 else 1) + c_n V (m + 1) d
    rw [h m (by omega) (by omega), c_n_c d (m + 1) (fun j h1 h2 => h j (by omega) (by omega))]
theorem c_n_b {V : Nat → Option Qv} : ∀ d m, c_n V m d ≤ d
  | 0, _ => Nat.le_refl _
  | d + 1, m => by
    have := c_n_b (V := V) d (m + 1)
    show (if q_n (V m) = 0 then 0 else 1) + c_n V (m + 1) d ≤ d + 1
    by_cases c : q_n (V m) = 0
    · rw [if_pos c]; omega
    · rw [if_neg c]; omega
/-- the sum of the first window that holds something -/
def f_1 (V : Nat → Option Qv) : Nat → Nat → Option Int32
  | _, 0 => none
  | m, d + 1 => match V m with
    | none => f_1 V (m + 1) d
    | some x => some x.2.1
theorem f_1_n {V : Nat → Option Qv} {m d : Nat} (h : V m = none) : f_1 V m (d + 1) = f_1 V (m + 1) d := by
  show (match V m with | none => f_1 V (m + 1) d | some x => some x.2.1) = _
  rw [h]
theorem f_1_s {V : Nat → Option Qv} {m d : Nat} {x : Qv} (h : V m = some x) : f_1 V m (d + 1) = some x.2.1 := by
  show (match V m with | none => f_1 V (m + 1) d | some x => some x.2.1) = _
  rw [h]
theorem f_1_c {V V' : Nat → Option Qv} : ∀ d m, (∀ j, m ≤ j → j < m + d → V' j = V j) → f_1 V' m d = f_1 V m d
  | 0, _, _ => rfl
  | d + 1, m, h => by
    have ih := f_1_c (V := V) (V' := V') d (m + 1) (fun j h1 h2 => h j (by omega) (by omega))
    have e := h m (by omega) (by omega)
    cases c : V m with
    | none => rw [f_1_n c, f_1_n (e.trans c), ih]
    | some x => rw [f_1_s c, f_1_s (e.trans c)]
theorem f_1_0 {V : Nat → Option Qv} : ∀ a m b, (∀ j, m ≤ j → j < m + a → V j = none) → f_1 V m (a + b) = f_1 V (m + a) b
  | 0, m, b, _ => by rw [Nat.zero_add]; rfl
  | a + 1, m, b, h => by
    rw [show a + 1 + b = (a + b) + 1 by omega, f_1_n (h m (by omega) (by omega)), f_1_0 a (m + 1) b (fun j h1 h2 => h j (by omega) (by omega)), show m + 1 + a = m + (a + 1) by omega]
def g_0 : Option Int32 → Int32
  | none => 0
  | some x => x
/-- how many sessions of a key -/
def s_ct (k : Nat) : List (Nat × Ses) → Nat
  | [] => 0
  | z :: l => (if z.1 = k then 1 else 0) + s_ct k l
theorem s_ct_a {k : Nat} (A B : List (Nat × Ses)) : s_ct k (A ++ B) = s_ct k A + s_ct k B := by
  induction A with
  | nil => exact (Nat.zero_add _).symm
  | cons z A ih => show (if z.1 = k then 1 else 0) + s_ct k (A ++ B) = (if z.1 = k then 1 else 0) + s_ct k A + s_ct k B; omega
theorem s_ct_p {k : Nat} {A B : List (Nat × Ses)} (p : A.Perm B) : s_ct k A = s_ct k B := by
  induction p with
  | nil => rfl
  | cons x _ ih => exact congrArg ((if x.1 = k then 1 else 0) + ·) ih
  | swap x y l => show (if y.1 = k then 1 else 0) + ((if x.1 = k then 1 else 0) + s_ct k l) = (if x.1 = k then 1 else 0) + ((if y.1 = k then 1 else 0) + s_ct k l); omega
  | trans _ _ h1 h2 => exact h1.trans h2
theorem s_ct_t {k j : Nat} (l : List Ses) : s_ct k (s_tg j l) = if j = k then l.length else 0 := by
  induction l with
  | nil => by_cases c : j = k
           · rw [if_pos c]; rfl
           · rw [if_neg c]; rfl
  | cons s l ih =>
    show (if j = k then 1 else 0) + s_ct k (s_tg j l) = _
    rw [ih]
    by_cases c : j = k
    · rw [if_pos c, if_pos c, if_pos c, List.length_cons]; omega
    · rw [if_neg c, if_neg c, if_neg c]
theorem s_ct_f {k : Nat} {L : Nat → List Ses} (hk : k < 4) : s_ct k (s_fl L) = (L k).length := by
  unfold s_fl
  rw [s_ct_a, s_ct_a, s_ct_a, s_ct_a, s_ct_t, s_ct_t, s_ct_t, s_ct_t]
  have c : k = 0 ∨ k = 1 ∨ k = 2 ∨ k = 3 := by omega
  rcases c with rfl | rfl | rfl | rfl <;> simp [s_ct]
theorem s_ct_l {k : Nat} (l : List (Nat × Ses)) : s_ct k l ≤ l.length := by
  induction l with
  | nil => exact Nat.le_refl _
  | cons z l ih =>
    show (if z.1 = k then 1 else 0) + s_ct k l ≤ l.length + 1
    by_cases c : z.1 = k
    · rw [if_pos c]; omega
    · rw [if_neg c]; omega
section OPEN
variable {kd wd pn la mk lc nw rc km kl kw kr tc ts tl tm : Int32} {ec et ek ev po gt il pc ps pl pm ss ft lt sc su sl sm re kp kt ki kq ks : Nat → Int32}
variable {yk yt yp yl : Int32} {sz cd vl no cp : Nat → Int32}
theorem y_op48 {post : Int32 → Prop} {k n : Nat} (hk : k < 4) (hn : no 12 = nI n) (hn60 : n ≤ 60) : ∀ (D : List (Nat × Ses)) (i x : Nat), s_ys no i D → i + D.length = n → (∀ z ∈ D, s_v z) → post (nI (x + s_ct k D)) → wY_open_48 post (nI k) yk yt yp yl sz cd vl no cp (D.length + 1) (nI x) (nI i)
  | [], i, x, _, hi, _, hp => by
    have hi' : i = n := hi
    subst hi'
    rw [wY_open_48]
    exact br_t (by rw [hn]; exact Int32.le_refl _) hp
  | z :: D, i, x, hs, hi, hv, hp => by
    have hi' : i + (D.length + 1) = n := hi
    have ex : (1104 : Int32) + 7 * nI i = nI (1104 + 7 * i) := (congrArg (1104 + ·) (pk_mul 7 _)).trans (nI_add 1104 _)
    have hz := (hv z List.mem_cons_self).1
    have hv' : ∀ y ∈ D, s_v y := fun y hy => hv y (List.mem_cons_of_mem _ hy)
    have hp' : post (nI (x + ((if z.1 = k then 1 else 0) + s_ct k D))) := hp
    rw [wY_open_48]
    refine br_f (by rw [hn]; exact nI_ge (by omega) (by omega)) ?_
    rw [ex]
    refine ⟨vp_in_nI (by omega) (by omega), ?_⟩
    rw [nI_clamp (by omega), hs.1.1, nI_eq (by omega) (by omega)]
    by_cases c : z.1 = k
    · rw [if_pos c, ← Nat.add_assoc] at hp'
      exact br_t c (nm_r (nI_1 x) (nm_r (nI_1 i) (y_op48 hk hn hn60 D (i + 1) (x + 1) hs.2 (by omega) hv' hp')))
    · rw [if_neg c, Nat.zero_add] at hp'
      exact br_f c (nm_r (nI_1 i) (y_op48 hk hn hn60 D (i + 1) x hs.2 (by omega) hv' hp'))
theorem y_op17 {post : Int32 → Prop} {k : Nat} {V : Nat → Nat → Option Qv} (hk : k < 4) (hW : r_W V no) (hb : ∀ k m, q_n (V k m) ≤ 1000) : ∀ d m x, m + d = 68 → (∃ n, wY_open_48 post (nI k) yk yt yp yl sz cd vl no cp n (nI (x + c_n (V k) m d)) 0) → wY_open_17 post (nI k) yk yt yp yl sz cd vl no cp (d + 1) (nI x) (hI ((m : Int) - 4)) := by
  intro d
  induction d with
  | zero =>
    intro m x hm h
    have : m = 68 := by omega
    subst this
    rw [wY_open_17]
    exact br_t (by decide) h
  | succ d ih =>
    intro m x hm h
    have hstep : hI ((m : Int) - 4) + 1 = hI (((m + 1 : Nat) : Int) - 4) := by
      rw [hI_1]; exact congrArg hI (by omega)
    have q0 : ¬ (64 : Int32) ≤ hI ((m : Int) - 4) := fun q => by
      have := (hx_le (a := 64) (b := (m : Int) - 4) rfl rfl (by omega) (by omega)).mp q
      omega
    have hc := q_Yn (hW k m hk (by omega))
    have hbm := hb k m
    have h' : ∃ n, wY_open_48 post (nI k) yk yt yp yl sz cd vl no cp n (nI (x + ((if q_n (V k m) = 0 then 0 else 1) + c_n (V k) (m + 1) d))) 0 := h
    rw [wY_open_17]
    refine br_f q0 (y_wat rfl ⟨vp_in_nI (by omega) (by omega), ?_⟩)
    rw [nI_clamp (by omega), hc]
    by_cases c : q_n (V k m) = 0
    · rw [if_pos c, Nat.zero_add] at h'
      refine br_t (by rw [c]; exact Int32.le_refl _) (nm_r hstep (ih (m + 1) x (by omega) h'))
    · rw [if_neg c, ← Nat.add_assoc] at h'
      refine br_f (nI_nle (by omega) (by omega)) (nm_r (nI_1 x) (nm_r hstep (ih (m + 1) (x + 1) (by omega) h')))
theorem x_op33 {P : Nat → Nat → Option Qv} {PN k : Nat} (hk : k < 4) (hPN : PN ≤ 4) (hp : pn = nI PN) (hP : r_P P pc ps pl pm) (hPn : ∀ k i, i < 4 ∨ 68 ≤ i → P k i = none) (hb : ∀ k i, q_n (P k i) ≤ 60) : ∀ d m x (tc ts tl tm : Int32), m + d = 68 → ∃ tc' ts' tl' tm' : Int32, ∀ post : Int32 → SX → Prop, post (nI (x + c_n (fun m => q_w (P k) m PN) m d)) (kd, wd, pn, la, mk, lc, nw, rc, km, kl, kw, kr, tc', ts', tl', tm', ec, et, ek, ev, po, gt, il, pc, ps, pl, pm, ss, ft, lt, sc, su, sl, sm, re, kp, kt, ki, kq, ks) → wX_open_33 post (nI k) (d + 1) (nI x) (hI ((m : Int) - 4)) kd wd pn la mk lc nw rc km kl kw kr tc ts tl tm ec et ek ev po gt il pc ps pl pm ss ft lt sc su sl sm re kp kt ki kq ks := by
  intro d
  induction d with
  | zero =>
    intro m x tc ts tl tm hm
    have : m = 68 := by omega
    subst this
    refine ⟨tc, ts, tl, tm, fun post h => ?_⟩
    rw [wX_open_33]
    exact br_t (by decide) h
  | succ d ih =>
    intro m x tc ts tl tm hm
    have hstep : hI ((m : Int) - 4) + 1 = hI (((m + 1 : Nat) : Int) - 4) := by
      rw [hI_1]; exact congrArg hI (by omega)
    have q0 : ¬ (64 : Int32) ≤ hI ((m : Int) - 4) := fun q => by
      have := (hx_le (a := 64) (b := (m : Int) - 4) rfl rfl (by omega) (by omega)).mp q
      omega
    have hbq : q_n (q_w (P k) m PN) ≤ PN * 60 := q_w_n (hb k) PN
    by_cases c : q_n (q_w (P k) m PN) = 0
    · obtain ⟨tc', ts', tl', tm', h⟩ := ih (m + 1) x (q_0 (q_w (P k) m PN)) (q_1 (q_w (P k) m PN)) (q_2 (q_w (P k) m PN)) (q_3 (q_w (P k) m PN)) (by omega)
      refine ⟨tc', ts', tl', tm', fun post hp' => ?_⟩
      have hp'' : post (nI (x + ((if q_n (q_w (P k) m PN) = 0 then 0 else 1) + c_n (fun m => q_w (P k) m PN) (m + 1) d))) (kd, wd, pn, la, mk, lc, nw, rc, km, kl, kw, kr, tc', ts', tl', tm', ec, et, ek, ev, po, gt, il, pc, ps, pl, pm, ss, ft, lt, sc, su, sl, sm, re, kp, kt, ki, kq, ks) := hp'
      rw [if_pos c, Nat.zero_add] at hp''
      rw [wX_open_33]
      refine br_f q0 (x_pt hk (by omega) hPN hp rfl hP hPn hb (br_t ?_ (nm_r (Int32.add_zero _) (nm_r hstep (h post hp'')))))
      rw [q_0n, c]; exact Int32.le_refl _
    · obtain ⟨tc', ts', tl', tm', h⟩ := ih (m + 1) (x + 1) (q_0 (q_w (P k) m PN)) (q_1 (q_w (P k) m PN)) (q_2 (q_w (P k) m PN)) (q_3 (q_w (P k) m PN)) (by omega)
      refine ⟨tc', ts', tl', tm', fun post hp' => ?_⟩
      have hp'' : post (nI (x + ((if q_n (q_w (P k) m PN) = 0 then 0 else 1) + c_n (fun m => q_w (P k) m PN) (m + 1) d))) (kd, wd, pn, la, mk, lc, nw, rc, km, kl, kw, kr, tc', ts', tl', tm', ec, et, ek, ev, po, gt, il, pc, ps, pl, pm, ss, ft, lt, sc, su, sl, sm, re, kp, kt, ki, kq, ks) := hp'
      rw [if_neg c, ← Nat.add_assoc] at hp''
      rw [wX_open_33]
      refine br_f q0 (x_pt hk (by omega) hPN hp rfl hP hPn hb (br_f ?_ (nm_r (nI_1 x) (nm_r hstep (h post hp'')))))
      rw [q_0n]; exact nI_nle (by omega) (by omega)
theorem y_pe57 {post : Int32 → Prop} {k n : Nat} {b : Option (Nat × Nat × Ses)} (hk : k < 4) (hn : no 12 = nI n) (hn60 : n ≤ 60) (h0 : b = none → post 0) (h1 : ∀ y, b = some y → post (no (1104 + 7 * y.1 + 4))) :
    ∀ (D : List (Nat × Ses)) (i : Nat) (acc : Option (Nat × Nat × Ses)), s_ys no i D → i + D.length = n → (∀ x ∈ D, s_v x) → (∀ y, acc = some y → y.1 < 60 ∧ s_y no (1104 + 7 * y.1) y.2 ∧ s_v y.2) → b = s_bs (fun z => decide (z.1 = k)) (fun z => z.2.1) acc i D → wY_pending_57 post (nI k) yk yt yp yl sz cd vl no cp (D.length + 1) (s_co acc) (nI i)
  | [], i, acc, _, hi, _, ha, hb => by
    have hi' : i = n := hi
    subst hi'
    have hb' : b = acc := hb
    subst hb'
    rw [wY_pending_57]
    refine br_t (by rw [hn]; exact Int32.le_refl _) ?_
    cases b with
    | none => exact br_f (by decide) (h0 rfl)
    | some y =>
      have hy := (ha y rfl).1
      have e4 : nI (1104 + 7 * y.1) + 4 = nI (1104 + 7 * y.1 + 4) := nI_add _ 4
      refine br_t (nI_pos' (by omega)) ?_
      show vp_in (nI (1104 + 7 * y.1) + 4) 3316 ∧ post (no (nI (1104 + 7 * y.1) + 4).toNatClampNeg)
      rw [e4]
      refine ⟨vp_in_nI (by omega) (by omega), ?_⟩
      rw [nI_clamp (by omega)]
      exact h1 y rfl
  | x :: D, i, acc, hs, hi, hv, ha, hb => by
    have hi' : i + (D.length + 1) = n := hi
    have ex : (1104 : Int32) + 7 * nI i = nI (1104 + 7 * i) := (congrArg (1104 + ·) (pk_mul 7 _)).trans (nI_add 1104 _)
    have hvx := hv x List.mem_cons_self
    have ih := y_pe57 hk hn hn60 h0 h1 D (i + 1) (s_b1 (fun z => decide (z.1 = k)) (fun z => z.2.1) i x acc) hs.2 (by omega) (fun y hy => hv y (List.mem_cons_of_mem _ hy)) (fun y hy => by
      cases acc with
      | none =>
        have hy' : (if decide (x.1 = k) = true then some (i, x) else none) = some y := hy
        by_cases q : decide (x.1 = k) = true
        · rw [if_pos q] at hy'
          have e := Option.some.inj hy'
          subst e
          exact ⟨by show i < 60; omega, hs.1, hvx⟩
        · rw [if_neg q] at hy'; cases hy'
      | some a =>
        have hy' : (if decide (x.1 = k) = true ∧ x.2.1 < a.2.2.1 then some (i, x) else some a) = some y := hy
        by_cases q : decide (x.1 = k) = true ∧ x.2.1 < a.2.2.1
        · rw [if_pos q] at hy'
          have e := Option.some.inj hy'
          subst e
          exact ⟨by show i < 60; omega, hs.1, hvx⟩
        · rw [if_neg q] at hy'
          exact ha y hy') hb
    obtain ⟨v1, v2, v3⟩ := hvx
    rw [wY_pending_57]
    refine br_f (by rw [hn]; exact nI_ge (by omega) (by omega)) (nm_r ex ⟨vp_in_nI (by omega) (by omega), ?_⟩)
    have e1 : nI (1104 + 7 * i) + 1 = nI (1104 + 7 * i + 1) := nI_1 _
    have qk : no (nI (1104 + 7 * i)).toNatClampNeg = nI k ↔ x.1 = k := by
      rw [nI_clamp (by omega), hs.1.1, nI_eq (by omega) (by omega)]
    by_cases c : x.1 = k
    · have c' : decide (x.1 = k) = true := decide_eq_true c
      refine br_t (qk.mpr c) ?_
      cases acc with
      | none =>
        refine br_t (by decide) (nm_r (nI_1 i) ?_)
        have e : s_b1 (fun z => decide (z.1 = k)) (fun z => z.2.1) i x none = some (i, x) := if_pos c'
        rw [e] at ih
        exact ih
      | some a =>
        obtain ⟨a1, a2, a3⟩ := ha a rfl
        obtain ⟨a4, a5, a6⟩ := a3
        have e2 : nI (1104 + 7 * a.1) + 1 = nI (1104 + 7 * a.1 + 1) := nI_1 _
        have qq : no (nI (1104 + 7 * a.1) + 1).toNatClampNeg ≤ no (nI (1104 + 7 * i) + 1).toNatClampNeg ↔ a.2.2.1 ≤ x.2.1 := by
          rw [e1, e2, nI_clamp (by omega), nI_clamp (by omega), hs.1.2.1, a2.2.1, nI_leI (by omega) (by omega)]
        refine br_f (nI_pos (by omega)) ⟨by rw [e1]; exact vp_in_nI (by omega) (by omega), by show vp_in (nI (1104 + 7 * a.1) + 1) 3316; rw [e2]; exact vp_in_nI (by omega) (by omega), ?_⟩
        by_cases q : x.2.1 < a.2.2.1
        · have e : s_b1 (fun z => decide (z.1 = k)) (fun z => z.2.1) i x (some a) = some (i, x) := if_pos ⟨c', q⟩
          rw [e] at ih
          exact br_f (fun z => by have := qq.mp z; omega) (nm_r (nI_1 i) ih)
        · have e : s_b1 (fun z => decide (z.1 = k)) (fun z => z.2.1) i x (some a) = some a := if_neg (fun z => q z.2)
          rw [e] at ih
          exact br_t (qq.mpr (by omega)) (nm_r (nI_1 i) ih)
    · have c' : ¬ decide (x.1 = k) = true := fun q => c (of_decide_eq_true q)
      refine br_f (fun q => c (qk.mp q)) (nm_r (nI_1 i) ?_)
      have e : s_b1 (fun z => decide (z.1 = k)) (fun z => z.2.1) i x acc = acc := by
        cases acc with
        | none => exact if_neg c'
        | some a => exact if_neg (fun z => c' z.1)
      rw [e] at ih
      exact ih
theorem y_pe13 {post : Int32 → Prop} {k : Nat} {V : Nat → Nat → Option Qv} (hk : k < 4) (hW : r_W V no) (hb : ∀ k m, q_n (V k m) ≤ 1000) : ∀ d m, m + d = 68 → (∀ s, f_1 (V k) m d = some s → post s) → (f_1 (V k) m d = none → ∃ n, wY_pending_57 post (nI k) yk yt yp yl sz cd vl no cp n (-1) 0) → wY_pending_13 post (nI k) yk yt yp yl sz cd vl no cp (d + 1) (hI ((m : Int) - 4)) := by
  intro d
  induction d with
  | zero =>
    intro m hm h1 h2
    have : m = 68 := by omega
    subst this
    rw [wY_pending_13]
    exact br_t (by decide) (h2 rfl)
  | succ d ih =>
    intro m hm h1 h2
    have hstep : hI ((m : Int) - 4) + 1 = hI (((m + 1 : Nat) : Int) - 4) := by
      rw [hI_1]; exact congrArg hI (by omega)
    have q0 : ¬ (64 : Int32) ≤ hI ((m : Int) - 4) := fun q => by
      have := (hx_le (a := 64) (b := (m : Int) - 4) rfl rfl (by omega) (by omega)).mp q
      omega
    have hc := hW k m hk (by omega)
    have hbm := hb k m
    obtain ⟨a, ea⟩ : ∃ a, a = 16 + 4 * (68 * k + m) := ⟨_, rfl⟩
    rw [← ea] at hc
    rw [wY_pending_13]
    refine br_f q0 (y_wat rfl ?_)
    rw [← ea]
    refine ⟨vp_in_nI (by omega) (by omega), ?_⟩
    rw [nI_clamp (by omega)]
    cases eV : V k m with
    | none =>
      rw [eV] at hc
      rw [f_1_n eV] at h1 h2
      have hc' : no a = 0 := hc
      exact br_t (by rw [hc']; exact Int32.le_refl _) (nm_r hstep (ih (m + 1) (by omega) h1 h2))
    | some x =>
      rw [eV] at hc hbm
      have hbm' : x.1 + 1 ≤ 1000 := hbm
      have e1 : nI a + 1 = nI (a + 1) := nI_1 a
      refine br_f (by rw [hc.1]; exact nI_nle (by omega) (by omega)) (y_wat rfl ?_)
      rw [← ea, e1]
      refine ⟨vp_in_nI (by omega) (by omega), ?_⟩
      rw [nI_clamp (by omega), hc.2.1]
      exact h1 _ (f_1_s eV)
theorem x_pe45 {P : Nat → Nat → Option Qv} {PN k : Nat} (hk : k < 4) (hPN : PN ≤ 4) (hp : pn = nI PN) (hP : r_P P pc ps pl pm) (hPn : ∀ k i, i < 4 ∨ 68 ≤ i → P k i = none) (hb : ∀ k i, q_n (P k i) ≤ 60) : ∀ d m (tc ts tl tm : Int32), m + d = 68 → ∃ tc' ts' tl' tm' : Int32, ∀ post : Int32 → SX → Prop, post (g_0 (f_1 (fun m => q_w (P k) m PN) m d)) (kd, wd, pn, la, mk, lc, nw, rc, km, kl, kw, kr, tc', ts', tl', tm', ec, et, ek, ev, po, gt, il, pc, ps, pl, pm, ss, ft, lt, sc, su, sl, sm, re, kp, kt, ki, kq, ks) → wX_pending_45 post (nI k) (d + 1) (hI ((m : Int) - 4)) kd wd pn la mk lc nw rc km kl kw kr tc ts tl tm ec et ek ev po gt il pc ps pl pm ss ft lt sc su sl sm re kp kt ki kq ks := by
  intro d
  induction d with
  | zero =>
    intro m tc ts tl tm hm
    have : m = 68 := by omega
    subst this
    refine ⟨tc, ts, tl, tm, fun post h => ?_⟩
    rw [wX_pending_45]
    exact br_t (by decide) h
  | succ d ih =>
    intro m tc ts tl tm hm
    have hstep : hI ((m : Int) - 4) + 1 = hI (((m + 1 : Nat) : Int) - 4) := by
      rw [hI_1]; exact congrArg hI (by omega)
    have q0 : ¬ (64 : Int32) ≤ hI ((m : Int) - 4) := fun q => by
      have := (hx_le (a := 64) (b := (m : Int) - 4) rfl rfl (by omega) (by omega)).mp q
      omega
    have hbq : q_n (q_w (P k) m PN) ≤ PN * 60 := q_w_n (hb k) PN
    cases eV : q_w (P k) m PN with
    | none =>
      obtain ⟨tc', ts', tl', tm', h⟩ := ih (m + 1) (q_0 none) (q_1 none) (q_2 none) (q_3 none) (by omega)
      refine ⟨tc', ts', tl', tm', fun post hp' => ?_⟩
      rw [f_1_n (V := fun m => q_w (P k) m PN) eV] at hp'
      rw [wX_pending_45]
      refine br_f q0 (x_pt hk (by omega) hPN hp rfl hP hPn hb ?_)
      rw [eV]
      exact br_t (Int32.le_refl _) (nm_r hstep (h post hp'))
    | some x =>
      rw [eV] at hbq
      have hbq' : x.1 + 1 ≤ PN * 60 := hbq
      refine ⟨q_0 (some x), q_1 (some x), q_2 (some x), q_3 (some x), fun post hp' => ?_⟩
      rw [f_1_s (V := fun m => q_w (P k) m PN) eV] at hp'
      rw [wX_pending_45]
      refine br_f q0 (x_pt hk (by omega) hPN hp rfl hP hPn hb ?_)
      rw [eV]
      exact br_f (nI_nle (Nat.succ_pos _) (by omega)) hp'
end OPEN
end
section
theorem w_of_b {P : Nat → Nat → Option Qv} {PN z : Nat} (hPN : PN ≤ 4) (hb : ∀ k i, q_n (P k i) ≤ 60) (k m : Nat) : q_n (w_of P PN z k m) ≤ 1000 := by
  by_cases c : 4 * m + k < z
  · rw [w_of_l c]; exact Nat.zero_le _
  · rw [w_of_g (by omega)]
    have h1 : q_n (q_w (P k) m PN) ≤ PN * 60 := q_w_n (hb k) PN
    omega
theorem w_of_n {P : Nat → Nat → Option Qv} {PN z : Nat} (h : ∀ k i, P k i = none) (k m : Nat) : w_of P PN z k m = none := by
  by_cases c : 4 * m + k < z
  · rw [w_of_l c]
  · rw [w_of_g (by omega)]
    exact q_w_0 PN (fun i _ => h k _)
theorem h_m4 : hI (((0 : Nat) : Int) - 4) = -4 := by decide
theorem i_vc_open {k : Nat} {u : SX} {v : SY} (I : i_Rel k u v) (hk : k + 3 ≤ 1540) (v1 : Int32) : wpX_open (fun r u' => wpY_open (fun r' => r' = r ∧ i_Rel (k + 3) u' v) v v1) u v1 := by
  refine zz_el (Z := fun u v => wpX_open (fun r u' => wpY_open (fun r' => r' = r ∧ i_Rel (k + 3) u' v) v v1) u v1) ?_ I
  clear I u v
  intro e p kd wd pn la mk lc nw rc km kl kw kr tc ts tl tm ec et ek ev po gt il pc ps pl pm ss ft lt sc su sl sm re kp kt ki kq ks yk yt yp yl sz cd vl no cp h
  rcases pk_ix v1 (n := 4) (by omega) with c | c | ⟨j, hj, c⟩
  · unfold wpX_open
    refine x_kb (Or.inl c) (br_t rfl ?_)
    unfold wpY_open
    exact y_kb (Or.inl c) (br_f (by decide) ⟨rfl, zz_in h⟩)
  · unfold wpX_open
    refine x_kb (Or.inr c) (br_t rfl ?_)
    unfold wpY_open
    exact y_kb (Or.inr c) (br_f (by decide) ⟨rfl, zz_in h⟩)
  · subst c
    have h0 := h
    obtain ⟨K, W, PN, LA, R, Rk, pk, hK, hE, hrc, hkr, hRk, hC, hCk⟩ := h
    obtain ⟨⟨k1, k2, k3, k4⟩, ⟨j1, j2, j3, j4⟩, hK2, hW1, hW8, hPN1, hPN4, hLA⟩ := id hK
    obtain ⟨z, m, P, L, M, hG, hA, hz, h9, hlc, hnw, hR, hP, hW, hXL, hYL⟩ := hC
    obtain ⟨⟨g1, g2, g3, g4⟩, gn, gb, gp, gok, gw, gs⟩ := hG
    have hT := r_A_T hA hE
    have hb60 : ∀ k i, q_n (P k i) ≤ 60 := fun k i => Nat.le_trans (gb k i) hT
    have hbV := w_of_b (z := 4 * m) hPN4 hb60
    have hv := s_allv gok gp
    have hct : s_ct j M = (L j).length := by rw [s_ct_p gp, s_ct_f hj]
    have goY : ∀ (post : Int32 → Prop), M.length ≤ 60 → post (nI (0 + c_n (w_of P PN (4 * m) j) 0 68 + s_ct j M)) → wpY_open post (yk, yt, yp, yl, sz, cd, vl, no, cp) (nI j) := by
      intro post hM hp
      have Lq := y_op17 (yk := yk) (yt := yt) (yp := yp) (yl := yl) (sz := sz) (cd := cd) (vl := vl) (no := no) (cp := cp) (post := post) hj hW hbV 68 0 0 (by omega) ⟨M.length + 1, by
        have := y_op48 (yk := yk) (yt := yt) (yp := yp) (yl := yl) (sz := sz) (cd := cd) (vl := vl) (no := no) (cp := cp) (post := post) hj hYL.1 hM M 0 (0 + c_n (w_of P PN (4 * m) j) 0 68) hYL.2 (by omega) hv hp
        rw [nI_0] at this
        exact this⟩
      rw [h_m4, nI_0] at Lq
      unfold wpY_open
      exact y_kk hj (br_t rfl ⟨69, Lq⟩)
    by_cases hK' : K = 2
    · obtain ⟨gs1, gs2⟩ := gs hK'
      have hlM := s_n_l M
      unfold wpX_open
      refine x_kk hj (br_f (by decide) (br_t (by rw [k1, hK']; rfl) ⟨vp_in_nI hj (by omega), ?_⟩))
      refine goY _ (by omega) ⟨?_, zz_in h0⟩
      rw [nI_clamp (by omega), (hXL j hj).1, c_n_0 68 0 (fun i _ _ => w_of_n gs1 j i), hct]
      exact congrArg nI (by omega)
    · obtain ⟨w1, w2, w3, w4, w5⟩ := gw (by omega)
      obtain ⟨tc', ts', tl', tm', hx⟩ := x_op33 (kd := kd) (wd := wd) (pn := pn) (la := la) (mk := mk) (lc := lc) (nw := nw) (rc := rc) (km := km) (kl := kl) (kw := kw) (kr := kr) (ec := ec) (et := et) (ek := ek) (ev := ev) (po := po) (gt := gt) (il := il) (pc := pc) (ps := ps) (pl := pl) (pm := pm) (ss := ss) (ft := ft) (lt := lt) (sc := sc) (su := su) (sl := sl) (sm := sm) (re := re) (kp := kp) (kt := kt) (ki := ki) (kq := kq) (ks := ks) hj hPN4 k3 hP gn hb60 (68 - m) m 0 tc ts tl tm (by omega)
      unfold wpX_open
      refine x_kk hj (br_f (by decide) (br_f (by rw [k1]; intro q; exact hK' ((nI_eq (by omega) (by omega)).mp q)) ⟨68 - m + 1, ?_⟩))
      rw [hnw]
      have hx' := hx (fun r u' => wpY_open (fun r' => r' = r ∧ i_Rel (k + 3) u' (yk, yt, yp, yl, sz, cd, vl, no, cp)) (yk, yt, yp, yl, sz, cd, vl, no, cp) (nI j)) ?_
      · rw [nI_0, hnw] at hx'
        exact hx'
      · refine goY _ (by rw [w4]; exact Nat.zero_le _) ⟨?_, zz_in h0⟩
        have e1 : c_n (w_of P PN (4 * m) j) 0 68 = c_n (w_of P PN (4 * m) j) 0 m + c_n (w_of P PN (4 * m) j) (0 + m) (68 - m) := by
          rw [← c_n_a, show m + (68 - m) = 68 by omega]
        rw [e1, c_n_0 m 0 (fun i _ h2 => w_of_l (by omega)), hct, w5 j, Nat.zero_add m, c_n_c (V := fun m => q_w (P j) m PN) (68 - m) m (fun i h1 _ => w_of_g (by omega))]
        exact congrArg nI (by show 0 + (0 + _) + 0 = 0 + _; omega)
theorem i_vc_pending {k : Nat} {u : SX} {v : SY} (I : i_Rel k u v) (hk : k + 3 ≤ 1540) (v1 : Int32) : wpX_pending (fun r u' => wpY_pending (fun r' => r' = r ∧ i_Rel (k + 3) u' v) v v1) u v1 := by
  refine zz_el (Z := fun u v => wpX_pending (fun r u' => wpY_pending (fun r' => r' = r ∧ i_Rel (k + 3) u' v) v v1) u v1) ?_ I
  clear I u v
  intro e p kd wd pn la mk lc nw rc km kl kw kr tc ts tl tm ec et ek ev po gt il pc ps pl pm ss ft lt sc su sl sm re kp kt ki kq ks yk yt yp yl sz cd vl no cp h
  rcases pk_ix v1 (n := 4) (by omega) with c | c | ⟨j, hj, c⟩
  · unfold wpX_pending
    refine x_kb (Or.inl c) (br_t rfl ?_)
    unfold wpY_pending
    exact y_kb (Or.inl c) (br_f (by decide) ⟨rfl, zz_in h⟩)
  · unfold wpX_pending
    refine x_kb (Or.inr c) (br_t rfl ?_)
    unfold wpY_pending
    exact y_kb (Or.inr c) (br_f (by decide) ⟨rfl, zz_in h⟩)
  · subst c
    have h0 := h
    obtain ⟨K, W, PN, LA, R, Rk, pk, hK, hE, hrc, hkr, hRk, hC, hCk⟩ := h
    obtain ⟨⟨k1, k2, k3, k4⟩, ⟨j1, j2, j3, j4⟩, hK2, hW1, hW8, hPN1, hPN4, hLA⟩ := id hK
    obtain ⟨z, m, P, L, M, hG, hA, hz, h9, hlc, hnw, hR, hP, hW, hXL, hYL⟩ := hC
    obtain ⟨⟨g1, g2, g3, g4⟩, gn, gb, gp, gok, gw, gs⟩ := hG
    have hT := r_A_T hA hE
    have hb60 : ∀ k i, q_n (P k i) ≤ 60 := fun k i => Nat.le_trans (gb k i) hT
    have hbV := w_of_b (z := 4 * m) hPN4 hb60
    have hv := s_allv gok gp
    have goY : ∀ (post : Int32 → Prop) (b : Option (Nat × Nat × Ses)), M.length ≤ 60 → b = s_bs (fun z => decide (z.1 = j)) (fun z => z.2.1) none 0 M → (∀ s, f_1 (w_of P PN (4 * m) j) 0 68 = some s → post s) → (f_1 (w_of P PN (4 * m) j) 0 68 = none → b = none → post 0) → (f_1 (w_of P PN (4 * m) j) 0 68 = none → ∀ y, b = some y → post (no (1104 + 7 * y.1 + 4))) → wpY_pending post (yk, yt, yp, yl, sz, cd, vl, no, cp) (nI j) := by
      intro post b hM hb hp1 hp2 hp3
      have Lq := y_pe13 (yk := yk) (yt := yt) (yp := yp) (yl := yl) (sz := sz) (cd := cd) (vl := vl) (no := no) (cp := cp) (post := post) hj hW hbV 68 0 (by omega) hp1 (fun q => ⟨M.length + 1, by
        have := y_pe57 (yk := yk) (yt := yt) (yp := yp) (yl := yl) (sz := sz) (cd := cd) (vl := vl) (no := no) (cp := cp) (post := post) (b := b) hj hYL.1 hM (hp2 q) (hp3 q) M 0 none hYL.2 (by omega) hv (fun y q => nomatch q) hb
        rw [nI_0] at this
        exact this⟩)
      rw [h_m4] at Lq
      unfold wpY_pending
      exact y_kk hj (br_t rfl ⟨69, Lq⟩)
    by_cases hK' : K = 2
    · obtain ⟨gs1, gs2⟩ := gs hK'
      have hlM := s_n_l M
      have hnone : f_1 (w_of P PN (4 * m) j) 0 68 = none := f_1_0 68 0 0 (fun i _ _ => w_of_n gs1 j i)
      unfold wpX_pending
      refine x_kk hj (br_f (by decide) (br_t (by rw [k1, hK']; rfl) ⟨vp_in_nI hj (by omega), ?_⟩))
      rw [nI_clamp (by omega), (hXL j hj).1]
      cases eL : L j with
      | nil =>
        refine br_t (Int32.le_refl _) (goY _ _ (by omega) rfl (fun s q => by rw [hnone] at q; cases q) (fun _ _ => ⟨rfl, zz_in h0⟩) (fun _ y q => ?_))
        exfalso
        obtain ⟨t1, -, -⟩ := s_bs_s M none 0 q
        rcases t1 with t1 | ⟨A, B, t2, -, t3⟩
        · cases t1
        · have hm : y.2 ∈ M := by rw [t2]; exact List.mem_append.mpr (Or.inr List.mem_cons_self)
          have h2 := (s_fl_m.mp (gp.mem_iff.mp hm)).2
          rw [of_decide_eq_true t3, eL] at h2
          exact nomatch h2
      | cons s l =>
        have hok := gok j hj
        have hl32 := s_ok_l hW1 hok
        have hx := (hXL j hj).2
        rw [eL] at hx hok hl32
        have hl32' : l.length + 1 ≤ 32 := hl32
        have hsu : su (32 * j) = s.2.2.2.1 := congrArg (fun z : C6 => z.2.2.2.1) hx.1
        have e32 : (32 : Int32) * nI j = nI (32 * j) := pk_mul 32 j
        refine br_f (nI_nle (Nat.succ_pos _) (by show l.length + 1 < 2 ^ 31; omega)) ?_
        rw [e32]
        refine ⟨vp_in_nI (by omega) (by omega), ?_⟩
        rw [nI_clamp (by omega), hsu]
        refine goY _ _ (by omega) rfl (fun s q => by rw [hnone] at q; cases q) (fun _ q => ?_) (fun _ y q => ⟨?_, zz_in h0⟩)
        · exfalso
          have hmk : (j, s) ∈ M := gp.mem_iff.mpr (s_fl_m.mpr ⟨hj, by rw [eL]; exact List.mem_cons_self⟩)
          have := (s_bs_n M none 0 q).2 (j, s) hmk
          exact absurd (of_decide_eq_false this) (fun z => z rfl)
        · obtain ⟨t1, t4, -⟩ := s_bs_s M none 0 q
          rcases t1 with t1 | ⟨A, B, t2, t5, t3⟩
          · cases t1
          · have hm : y.2 ∈ M := by rw [t2]; exact List.mem_append.mpr (Or.inr List.mem_cons_self)
            have hmk : (j, s) ∈ M := gp.mem_iff.mpr (s_fl_m.mpr ⟨hj, by rw [eL]; exact List.mem_cons_self⟩)
            have h2 := (s_fl_m.mp (gp.mem_iff.mp hm)).2
            have ej := of_decide_eq_true t3
            rw [ej, eL] at h2
            have h3 := t4 (j, s) hmk (decide_eq_true rfl)
            have h3' : y.2.2.1 ≤ s.1 := h3
            have hs := hok.2 s List.mem_cons_self
            have ey : y.2.2 = s := by
              rcases s_ok_h hok h2 with e | e
              · exact e
              · omega
            have hy := hYL.2
            rw [t2, s_ys_a] at hy
            have hy1 := hy.2.1.2.2.2.2.1
            rw [Nat.zero_add] at t5 hy1
            have hy2 : no (1104 + 7 * A.length + 4) = y.2.2.2.2.2.1 := hy1
            rw [t5, hy2, ey]
    · obtain ⟨w1, w2, w3, w4, w5⟩ := gw (by omega)
      obtain ⟨tc', ts', tl', tm', hx⟩ := x_pe45 (kd := kd) (wd := wd) (pn := pn) (la := la) (mk := mk) (lc := lc) (nw := nw) (rc := rc) (km := km) (kl := kl) (kw := kw) (kr := kr) (ec := ec) (et := et) (ek := ek) (ev := ev) (po := po) (gt := gt) (il := il) (pc := pc) (ps := ps) (pl := pl) (pm := pm) (ss := ss) (ft := ft) (lt := lt) (sc := sc) (su := su) (sl := sl) (sm := sm) (re := re) (kp := kp) (kt := kt) (ki := ki) (kq := kq) (ks := ks) hj hPN4 k3 hP gn hb60 (68 - m) m tc ts tl tm (by omega)
      have e1 : f_1 (w_of P PN (4 * m) j) 0 68 = f_1 (fun m => q_w (P j) m PN) m (68 - m) := by
        have e2 := f_1_0 (V := w_of P PN (4 * m) j) m 0 (68 - m) (fun i _ h2 => w_of_l (by omega))
        rw [show m + (68 - m) = 68 by omega, Nat.zero_add] at e2
        rw [e2]
        exact f_1_c (68 - m) m (fun i h1 _ => w_of_g (by omega))
      unfold wpX_pending
      refine x_kk hj (br_f (by decide) (br_f (by rw [k1]; intro q; exact hK' ((nI_eq (by omega) (by omega)).mp q)) ⟨68 - m + 1, ?_⟩))
      rw [hnw]
      have hx' := hx (fun r u' => wpY_pending (fun r' => r' = r ∧ i_Rel (k + 3) u' (yk, yt, yp, yl, sz, cd, vl, no, cp)) (yk, yt, yp, yl, sz, cd, vl, no, cp) (nI j)) ?_
      · rw [hnw] at hx'
        exact hx'
      · refine goY _ none (by rw [w4]; exact Nat.zero_le _) (by rw [w4]; rfl) (fun s q => ⟨?_, zz_in h0⟩) (fun q _ => ⟨?_, zz_in h0⟩) (fun _ y q => nomatch q)
        · rw [e1] at q
          rw [q]
          rfl
        · rw [e1] at q
          rw [q]
          rfl
end
section
/-! I: keeping -/
def c_2 (a b : Nat → Int32) (n : Nat) : Nat → Int32 := fun j => if j < n then a j else b j
theorem c_2_0 {a b : Nat → Int32} : c_2 a b 0 = b := by
  funext j
  exact if_neg (Nat.not_lt_zero j)
theorem c_2_l {a b : Nat → Int32} {n j : Nat} (h : j < n) : c_2 a b n j = a j := if_pos h
theorem c_2_s {a b : Nat → Int32} {i : Nat} : upd (c_2 a b i) i (a i) = c_2 a b (i + 1) := by
  funext j
  by_cases e : j = i
  · rw [e, pk_us, c_2_l (Nat.lt_succ_self i)]
  · rw [pk_un e]
    by_cases h : j < i
    · rw [c_2_l h, c_2_l (by omega)]
    · exact (if_neg h).trans (if_neg (show ¬ j < i + 1 by omega)).symm
theorem r_C_g {st : Prop} {K W PN : Nat} {e p : Nat → Nat} {R : Nat} {po gt il : Nat → Int32} {mk lc nw : Int32} {pc ps pl pm ss ft lt sc su sl sm re no po' gt' il' pc' ps' pl' pm' ss' ft' lt' sc' su' sl' sm' no' ec et ek ev sz cd vl : Nat → Int32} (h : r_C st K W PN e p R po gt il mk lc nw pc ps pl pm ss ft lt sc su sl sm re no) (hW1 : 1 ≤ W) (hK : K ≤ 2) (hE : r_E e ec et ek ev sz cd vl)
    (h1 : ∀ s, s < 3 → po' s = po s ∧ gt' s = gt s ∧ il' s = vp_nar .boolean (il s)) (h2 : ∀ j, j < 256 → pc' j = pc j ∧ ps' j = ps j ∧ pl' j = pl j ∧ pm' j = pm j) (h3 : ∀ k, k < 4 → ss' k = ss k) (h4 : ∀ j, j < 128 → ft' j = ft j ∧ lt' j = lt j ∧ sc' j = sc j ∧ su' j = su j ∧ sl' j = sl j ∧ sm' j = sm j) (h5 : ∀ j, j < 3316 → no' j = no j) : r_C st K W PN e p R po' gt' il' mk lc nw pc' ps' pl' pm' ss' ft' lt' sc' su' sl' sm' re no' := by
  have hR252 := r_C_R h hK hE
  obtain ⟨z, m, P, L, M, hG, hA, hz, h9, hlc, hnw, hR, hP, hW, hX, hY⟩ := h
  have hT := r_A_T hA hE
  obtain ⟨g0, gn, gb, gp, gok, gw, gs⟩ := id hG
  have hM : M.length ≤ 60 := by
    by_cases c : K = 2
    · have := (gs c).2
      have := s_n_l M
      omega
    · rw [(gw (by omega)).2.2.2.1]; exact Nat.zero_le _
  refine ⟨z, m, P, L, M, hG, fun s hs => ?_, hz, (h5 9 (by omega)).trans h9, hlc.trans (h5 10 (by omega)).symm, hnw, ?_, fun k i hk hi1 hi2 => ?_, ?_, fun k hk => ?_, ?_⟩
  · obtain ⟨a1, a2, a3, a4, a5⟩ := hA s hs
    obtain ⟨b1, b2, b3⟩ := h1 s hs
    rw [b1, b2, b3, h5 s (by omega), h5 (3 + s) (by omega), h5 (6 + s) (by omega)]
    refine ⟨a1, a2, a3, ?_, a5⟩
    rcases a4 with ⟨c1, c2⟩ | ⟨c1, c2⟩
    · exact Or.inl ⟨by rw [c1]; rfl, c2⟩
    · exact Or.inr ⟨by rw [c1]; rfl, c2⟩
  · exact r_R_f hR (h5 11 (by omega)) (fun j _ j2 => h5 j (by omega)) (fun _ _ => rfl)
  · obtain ⟨b1, b2, b3, b4⟩ := h2 (64 * k + (i - 4)) (by omega)
    exact q_Xe b1 b2 b3 b4 (hP k i hk hi1 hi2)
  · exact r_W_f hW (fun j _ j2 => h5 j (by omega))
  · have hl := s_ok_l hW1 (gok k hk)
    obtain ⟨x1, x2⟩ := hX k hk
    refine ⟨(h3 k hk).trans x1, s_xs_r _ _ _ (fun i hi => ?_) x2⟩
    obtain ⟨b1, b2, b3, b4, b5, b6⟩ := h4 (32 * k + i) (by omega)
    unfold s_b
    rw [b1, b2, b3, b4, b5, b6]
  · exact s_YL_f hY (h5 12 (by omega)) (fun j _ j2 => h5 j (by omega))
section KEEP
variable {kd wd pn la mk lc nw rc km kl kw kr tc ts tl tm : Int32} {ec et ek ev po gt il pc ps pl pm ss ft lt sc su sl sm re kp kt ki kq ks : Nat → Int32}
variable {yk yt yp yl : Int32} {sz cd vl no cp : Nat → Int32}
theorem x_k275 : ∀ d i (ks : Nat → Int32), i + d = 4 → (∀ j, j < i → ks (768 + j) = ss j) → ∃ ks' : Nat → Int32, (∀ j, j < 4 → ks' (768 + j) = ss j) ∧ (∀ j, j < 768 → ks' j = ks j) ∧ ∀ post : Int32 → SX → Prop, post kr (kd, wd, pn, la, mk, lc, nw, rc, km, kl, kw, kr, tc, ts, tl, tm, ec, et, ek, ev, po, gt, il, pc, ps, pl, pm, ss, ft, lt, sc, su, sl, sm, re, kp, kt, ki, kq, ks') → wX_keep_275 post kd wd pn la mk lc nw rc km kl kw kr tc ts tl tm (d + 1) (nI i) ec et ek ev po gt il pc ps pl pm ss ft lt sc su sl sm re kp kt ki kq ks := by
  intro d
  induction d with
  | zero =>
    intro i ks hi h
    have : i = 4 := by omega
    subst this
    refine ⟨ks, h, fun _ _ => rfl, fun post hp => ?_⟩
    rw [wX_keep_275]
    exact br_t (Int32.le_refl _) hp
  | succ d ih =>
    intro i ks hi h
    have e1 : (768 : Int32) + nI i = nI (768 + i) := nI_add 768 i
    obtain ⟨ks', r1, r2, r3⟩ := ih (i + 1) (upd ks (768 + i) (ss i)) (by omega) (fun j hj => by
      by_cases c : j = i
      · rw [c, pk_us]
      · rw [pk_un (by omega)]; exact h j (by omega))
    refine ⟨ks', r1, fun j hj => (r2 j hj).trans (pk_un (by omega)), fun post hp => ?_⟩
    rw [wX_keep_275]
    dsimp only
    rw [e1, nI_clamp (show i < 2 ^ 31 by omega), nI_clamp (show 768 + i < 2 ^ 31 by omega)]
    exact br_f (nI_ge (b := 4) (by omega) (by omega)) ⟨vp_in_nI (by omega) (by omega), vp_in_nI (by omega) (by omega), nm_e (nm_r (nI_1 i) (r3 post hp))⟩
theorem x_k160 : ∀ d i (ks : Nat → Int32), i + d = 128 → (∀ j, j < i → ks (6 * j) = ft j ∧ ks (6 * j + 1) = lt j ∧ ks (6 * j + 2) = sc j ∧ ks (6 * j + 3) = su j ∧ ks (6 * j + 4) = sl j ∧ ks (6 * j + 5) = sm j) → ∃ ks' : Nat → Int32, (∀ j, j < 128 → ks' (6 * j) = ft j ∧ ks' (6 * j + 1) = lt j ∧ ks' (6 * j + 2) = sc j ∧ ks' (6 * j + 3) = su j ∧ ks' (6 * j + 4) = sl j ∧ ks' (6 * j + 5) = sm j) ∧ ∀ post : Int32 → SX → Prop, (∃ n, wX_keep_275 post kd wd pn la mk lc nw rc km kl kw kr tc ts tl tm n 0 ec et ek ev po gt il pc ps pl pm ss ft lt sc su sl sm re kp kt ki kq ks') → wX_keep_160 post kd wd pn la mk lc nw rc km kl kw kr tc ts tl tm (d + 1) (nI i) ec et ek ev po gt il pc ps pl pm ss ft lt sc su sl sm re kp kt ki kq ks := by
  intro d
  induction d with
  | zero =>
    intro i ks hi h
    have : i = 128 := by omega
    subst this
    refine ⟨ks, h, fun post hp => ?_⟩
    rw [wX_keep_160]
    exact br_t (Int32.le_refl _) hp
  | succ d ih =>
    intro i ks hi h
    have e0 : (6 : Int32) * nI i = nI (6 * i) := pk_mul 6 i
    have e1 : nI (6 * i) + 1 = nI (6 * i + 1) := nI_1 _
    have e2 : nI (6 * i) + 2 = nI (6 * i + 2) := nI_add _ 2
    have e3 : nI (6 * i) + 3 = nI (6 * i + 3) := nI_add _ 3
    have e4 : nI (6 * i) + 4 = nI (6 * i + 4) := nI_add _ 4
    have e5 : nI (6 * i) + 5 = nI (6 * i + 5) := nI_add _ 5
    obtain ⟨k1, ek⟩ : ∃ f, f = upd (upd (upd (upd (upd (upd ks (6 * i) (ft i)) (6 * i + 1) (lt i)) (6 * i + 2) (sc i)) (6 * i + 3) (su i)) (6 * i + 4) (sl i)) (6 * i + 5) (sm i) := ⟨_, rfl⟩
    obtain ⟨ks', r1, r2⟩ := ih (i + 1) k1 (by omega) (fun j hj => by
      by_cases c : j = i
      · subst c
        refine ⟨?_, ?_, ?_, ?_, ?_, ?_⟩
        · rw [ek, pk_un (by omega), pk_un (by omega), pk_un (by omega), pk_un (by omega), pk_un (by omega), pk_us]
        · rw [ek, pk_un (by omega), pk_un (by omega), pk_un (by omega), pk_un (by omega), pk_us]
        · rw [ek, pk_un (by omega), pk_un (by omega), pk_un (by omega), pk_us]
        · rw [ek, pk_un (by omega), pk_un (by omega), pk_us]
        · rw [ek, pk_un (by omega), pk_us]
        · rw [ek, pk_us]
      · have o : ∀ q, q < 6 * i → k1 q = ks q := by
          intro q hq
          rw [ek, pk_un (by omega), pk_un (by omega), pk_un (by omega), pk_un (by omega), pk_un (by omega), pk_un (by omega)]
        rw [o _ (by omega), o _ (by omega), o _ (by omega), o _ (by omega), o _ (by omega), o _ (by omega)]
        exact h j (by omega))
    refine ⟨ks', r1, fun post hp => ?_⟩
    have i6 : vp_in (nI i) 128 := vp_in_nI (by omega) (by omega)
    rw [wX_keep_160]
    dsimp only
    rw [e0, e1, e2, e3, e4, e5, nI_clamp (show i < 2 ^ 31 by omega), nI_clamp (show 6 * i < 2 ^ 31 by omega), nI_clamp (show 6 * i + 1 < 2 ^ 31 by omega), nI_clamp (show 6 * i + 2 < 2 ^ 31 by omega), nI_clamp (show 6 * i + 3 < 2 ^ 31 by omega), nI_clamp (show 6 * i + 4 < 2 ^ 31 by omega), nI_clamp (show 6 * i + 5 < 2 ^ 31 by omega)]
    refine br_f (nI_ge (b := 128) (by omega) (by omega)) ⟨i6, vp_in_nI (by omega) (by omega), nm_e ⟨i6, vp_in_nI (by omega) (by omega), nm_e ⟨i6, vp_in_nI (by omega) (by omega), nm_e ⟨i6, vp_in_nI (by omega) (by omega), nm_e ⟨i6, vp_in_nI (by omega) (by omega), nm_e ⟨i6, vp_in_nI (by omega) (by omega), nm_r (e' := k1) ek.symm (nm_r (nI_1 i) (r2 post hp))⟩⟩⟩⟩⟩⟩
theorem x_k83 : ∀ d i (kq : Nat → Int32), i + d = 256 → (∀ j, j < i → kq (4 * j) = pc j ∧ kq (4 * j + 1) = ps j ∧ kq (4 * j + 2) = pl j ∧ kq (4 * j + 3) = pm j) → ∃ kq' : Nat → Int32, (∀ j, j < 256 → kq' (4 * j) = pc j ∧ kq' (4 * j + 1) = ps j ∧ kq' (4 * j + 2) = pl j ∧ kq' (4 * j + 3) = pm j) ∧ ∀ post : Int32 → SX → Prop, (∃ n, wX_keep_160 post kd wd pn la mk lc nw rc km kl kw kr tc ts tl tm n 0 ec et ek ev po gt il pc ps pl pm ss ft lt sc su sl sm re kp kt ki kq' ks) → wX_keep_83 post kd wd pn la mk lc nw rc km kl kw kr tc ts tl tm (d + 1) (nI i) ec et ek ev po gt il pc ps pl pm ss ft lt sc su sl sm re kp kt ki kq ks := by
  intro d
  induction d with
  | zero =>
    intro i kq hi h
    have : i = 256 := by omega
    subst this
    refine ⟨kq, h, fun post hp => ?_⟩
    rw [wX_keep_83]
    exact br_t (Int32.le_refl _) hp
  | succ d ih =>
    intro i kq hi h
    have e0 : (4 : Int32) * nI i = nI (4 * i) := pk_mul 4 i
    have e1 : nI (4 * i) + 1 = nI (4 * i + 1) := nI_1 _
    have e2 : nI (4 * i) + 2 = nI (4 * i + 2) := nI_add _ 2
    have e3 : nI (4 * i) + 3 = nI (4 * i + 3) := nI_add _ 3
    obtain ⟨k1, ek⟩ : ∃ f, f = upd (upd (upd (upd kq (4 * i) (pc i)) (4 * i + 1) (ps i)) (4 * i + 2) (pl i)) (4 * i + 3) (pm i) := ⟨_, rfl⟩
    obtain ⟨kq', r1, r2⟩ := ih (i + 1) k1 (by omega) (fun j hj => by
      by_cases c : j = i
      · subst c
        refine ⟨?_, ?_, ?_, ?_⟩
        · rw [ek, pk_un (by omega), pk_un (by omega), pk_un (by omega), pk_us]
        · rw [ek, pk_un (by omega), pk_un (by omega), pk_us]
        · rw [ek, pk_un (by omega), pk_us]
        · rw [ek, pk_us]
      · have o : ∀ q, q < 4 * i → k1 q = kq q := by
          intro q hq
          rw [ek, pk_un (by omega), pk_un (by omega), pk_un (by omega), pk_un (by omega)]
        rw [o _ (by omega), o _ (by omega), o _ (by omega), o _ (by omega)]
        exact h j (by omega))
    refine ⟨kq', r1, fun post hp => ?_⟩
    have i4 : vp_in (nI i) 256 := vp_in_nI (by omega) (by omega)
    rw [wX_keep_83]
    dsimp only
    rw [e0, e1, e2, e3, nI_clamp (show i < 2 ^ 31 by omega), nI_clamp (show 4 * i < 2 ^ 31 by omega), nI_clamp (show 4 * i + 1 < 2 ^ 31 by omega), nI_clamp (show 4 * i + 2 < 2 ^ 31 by omega), nI_clamp (show 4 * i + 3 < 2 ^ 31 by omega)]
    refine br_f (nI_ge (b := 256) (by omega) (by omega)) ⟨i4, vp_in_nI (by omega) (by omega), nm_e ⟨i4, vp_in_nI (by omega) (by omega), nm_e ⟨i4, vp_in_nI (by omega) (by omega), nm_e ⟨i4, vp_in_nI (by omega) (by omega), nm_r (e' := k1) ek.symm (nm_r (nI_1 i) (r2 post hp))⟩⟩⟩⟩
theorem x_k2 : ∀ d i (kp kt ki : Nat → Int32), i + d = 3 → (∀ j, j < i → kp j = po j ∧ kt j = gt j ∧ ki j = vp_nar .boolean (il j)) → ∃ kp' kt' ki' : Nat → Int32, (∀ j, j < 3 → kp' j = po j ∧ kt' j = gt j ∧ ki' j = vp_nar .boolean (il j)) ∧ ∀ post : Int32 → SX → Prop, (∃ n, wX_keep_83 post kd wd pn la mk lc nw rc mk lc nw rc tc ts tl tm n 0 ec et ek ev po gt il pc ps pl pm ss ft lt sc su sl sm re kp' kt' ki' kq ks) → wX_keep_2 post kd wd pn la mk lc nw rc km kl kw kr tc ts tl tm (d + 1) (nI i) ec et ek ev po gt il pc ps pl pm ss ft lt sc su sl sm re kp kt ki kq ks := by
  intro d
  induction d with
  | zero =>
    intro i kp kt ki hi h
    have : i = 3 := by omega
    subst this
    refine ⟨kp, kt, ki, h, fun post hp => ?_⟩
    rw [wX_keep_2]
    exact br_t (Int32.le_refl _) hp
  | succ d ih =>
    intro i kp kt ki hi h
    obtain ⟨kp', kt', ki', r1, r2⟩ := ih (i + 1) (upd kp i (po i)) (upd kt i (gt i)) (upd ki i (vp_nar .boolean (il i))) (by omega) (fun j hj => by
      by_cases c : j = i
      · subst c
        rw [pk_us, pk_us, pk_us]
        exact ⟨rfl, rfl, rfl⟩
      · rw [pk_un c, pk_un c, pk_un c]
        exact h j (by omega))
    refine ⟨kp', kt', ki', r1, fun post hp => ?_⟩
    have i3 : vp_in (nI i) 3 := vp_in_nI (by omega) (by omega)
    rw [wX_keep_2]
    dsimp only
    rw [nI_clamp (show i < 2 ^ 31 by omega)]
    exact br_f (nI_ge (b := 3) (by omega) (by omega)) ⟨i3, i3, nm_e ⟨i3, i3, nm_e ⟨i3, i3, nm_e (nm_r (nI_1 i) (r2 post hp))⟩⟩⟩
theorem y_kp {post : Int32 → SY → Prop} (h : post (no 11) (yk, yt, yp, yl, sz, cd, vl, no, c_2 no cp 3316)) : wpY_keep post (yk, yt, yp, yl, sz, cd, vl, no, cp) := by
  have lp : ∀ d i, i + d = 3316 → wY_keep_2 post yk yt yp yl (d + 1) (nI i) sz cd vl no (c_2 no cp i) := by
    intro d
    induction d with
    | zero =>
      intro i hi
      have : i = 3316 := by omega
      subst this
      rw [wY_keep_2]
      exact br_t (Int32.le_refl _) h
    | succ d ih =>
      intro i hi
      have i3 : vp_in (nI i) 3316 := vp_in_nI (by omega) (by omega)
      rw [wY_keep_2]
      dsimp only
      rw [nI_clamp (show i < 2 ^ 31 by omega)]
      exact br_f (nI_ge (b := 3316) (by omega) (by omega)) ⟨i3, i3, nm_r c_2_s (nm_r (nI_1 i) (ih (i + 1) (by omega)))⟩
  have L := lp 3316 0 (by omega)
  rw [c_2_0, nI_0] at L
  unfold wpY_keep
  exact ⟨_, L⟩
theorem y_cr {post : Int32 → SY → Prop} (h : post (cp 11) (yk, yt, yp, yl, sz, cd, vl, c_2 cp no 3316, cp)) : wpY_crash post (yk, yt, yp, yl, sz, cd, vl, no, cp) := by
  have lp : ∀ d i, i + d = 3316 → wY_crash_2 post yk yt yp yl (d + 1) (nI i) sz cd vl (c_2 cp no i) cp := by
    intro d
    induction d with
    | zero =>
      intro i hi
      have : i = 3316 := by omega
      subst this
      rw [wY_crash_2]
      exact br_t (Int32.le_refl _) h
    | succ d ih =>
      intro i hi
      have i3 : vp_in (nI i) 3316 := vp_in_nI (by omega) (by omega)
      rw [wY_crash_2]
      dsimp only
      rw [nI_clamp (show i < 2 ^ 31 by omega)]
      exact br_f (nI_ge (b := 3316) (by omega) (by omega)) ⟨i3, i3, nm_r c_2_s (nm_r (nI_1 i) (ih (i + 1) (by omega)))⟩
  have L := lp 3316 0 (by omega)
  rw [c_2_0, nI_0] at L
  unfold wpY_crash
  exact ⟨_, L⟩
theorem lk_keep {K W PN LA R : Nat} {e p : Nat → Nat} (hK : r_K K W PN LA kd wd pn la yk yt yp yl) (hE : r_E e ec et ek ev sz cd vl) (hrc : rc = nI R) (hC : r_C True K W PN e p R po gt il mk lc nw pc ps pl pm ss ft lt sc su sl sm re no) : ∃ (u' : SX) (v' : SY), r_V e p u' v' ∧ (∀ post : Int32 → SX → Prop, post (nI R) u' → wpX_keep post (kd, wd, pn, la, mk, lc, nw, rc, km, kl, kw, kr, tc, ts, tl, tm, ec, et, ek, ev, po, gt, il, pc, ps, pl, pm, ss, ft, lt, sc, su, sl, sm, re, kp, kt, ki, kq, ks)) ∧ (∀ post : Int32 → SY → Prop, post (nI R) v' → wpY_keep post (yk, yt, yp, yl, sz, cd, vl, no, cp)) := by
  obtain ⟨kp', kt', ki', a1, a2⟩ := x_k2 (kd := kd) (wd := wd) (pn := pn) (la := la) (mk := mk) (lc := lc) (nw := nw) (rc := rc) (km := km) (kl := kl) (kw := kw) (kr := kr) (tc := tc) (ts := ts) (tl := tl) (tm := tm) (ec := ec) (et := et) (ek := ek) (ev := ev) (po := po) (gt := gt) (il := il) (pc := pc) (ps := ps) (pl := pl) (pm := pm) (ss := ss) (ft := ft) (lt := lt) (sc := sc) (su := su) (sl := sl) (sm := sm) (re := re) (kq := kq) (ks := ks) 3 0 kp kt ki (by omega) (fun j hj => absurd hj (by omega))
  obtain ⟨kq', b1, b2⟩ := x_k83 (kd := kd) (wd := wd) (pn := pn) (la := la) (mk := mk) (lc := lc) (nw := nw) (rc := rc) (tc := tc) (ts := ts) (tl := tl) (tm := tm) (ec := ec) (et := et) (ek := ek) (ev := ev) (po := po) (gt := gt) (il := il) (pc := pc) (ps := ps) (pl := pl) (pm := pm) (ss := ss) (ft := ft) (lt := lt) (sc := sc) (su := su) (sl := sl) (sm := sm) (re := re) (ks := ks) (kp := kp') (kt := kt') (ki := ki') (km := mk) (kl := lc) (kw := nw) (kr := rc) 256 0 kq (by omega) (fun j hj => absurd hj (by omega))
  obtain ⟨ks1, c1, c2⟩ := x_k160 (kd := kd) (wd := wd) (pn := pn) (la := la) (mk := mk) (lc := lc) (nw := nw) (rc := rc) (tc := tc) (ts := ts) (tl := tl) (tm := tm) (ec := ec) (et := et) (ek := ek) (ev := ev) (po := po) (gt := gt) (il := il) (pc := pc) (ps := ps) (pl := pl) (pm := pm) (ss := ss) (ft := ft) (lt := lt) (sc := sc) (su := su) (sl := sl) (sm := sm) (re := re) (kp := kp') (kt := kt') (ki := ki') (kq := kq') (km := mk) (kl := lc) (kw := nw) (kr := rc) 128 0 ks (by omega) (fun j hj => absurd hj (by omega))
  obtain ⟨ks2, d1, d2, d3⟩ := x_k275 (kd := kd) (wd := wd) (pn := pn) (la := la) (mk := mk) (lc := lc) (nw := nw) (rc := rc) (tc := tc) (ts := ts) (tl := tl) (tm := tm) (ec := ec) (et := et) (ek := ek) (ev := ev) (po := po) (gt := gt) (il := il) (pc := pc) (ps := ps) (pl := pl) (pm := pm) (ss := ss) (ft := ft) (lt := lt) (sc := sc) (su := su) (sl := sl) (sm := sm) (re := re) (kp := kp') (kt := kt') (ki := ki') (kq := kq') (km := mk) (kl := lc) (kw := nw) (kr := rc) 4 0 ks1 (by omega) (fun j hj => absurd hj (by omega))
  refine ⟨(kd, wd, pn, la, mk, lc, nw, rc, mk, lc, nw, rc, tc, ts, tl, tm, ec, et, ek, ev, po, gt, il, pc, ps, pl, pm, ss, ft, lt, sc, su, sl, sm, re, kp', kt', ki', kq', ks2), (yk, yt, yp, yl, sz, cd, vl, no, c_2 no cp 3316), ?_, fun post hp => ?_, fun post hp => ?_⟩
  · refine zz_iv ⟨K, W, PN, LA, R, R, p, hK, hE, hrc, hrc, Nat.le_refl _, hC, ?_⟩
    refine r_C_g hC hK.2.2.2.1 hK.2.2.1 hE a1 b1 d1 (fun j hj => ?_) (fun j hj => c_2_l hj)
    rw [d2 (6 * j) (by omega), d2 (6 * j + 1) (by omega), d2 (6 * j + 2) (by omega), d2 (6 * j + 3) (by omega), d2 (6 * j + 4) (by omega), d2 (6 * j + 5) (by omega)]
    exact c1 j hj
  · unfold wpX_keep
    rw [← hrc] at hp
    rw [nI_0] at a2 b2 c2 d3
    exact ⟨4, a2 post ⟨257, b2 post ⟨129, c2 post ⟨5, d3 post hp⟩⟩⟩⟩
  · obtain ⟨z, m, P, L, M, hG, hA, hz, h9, hlc, hnw, hR, -⟩ := hC
    refine y_kp ?_
    rw [hR.1]
    exact hp
end KEEP
theorem i_vc_keep {k : Nat} {u : SX} {v : SY} (I : i_Rel k u v) (hk : k + 3 ≤ 1540) : wpX_keep (fun r u' => wpY_keep (fun r' v' => r' = r ∧ i_Rel (k + 3) u' v') v) u := by
  refine zz_el (Z := fun u v => wpX_keep (fun r u' => wpY_keep (fun r' v' => r' = r ∧ i_Rel (k + 3) u' v') v) u) ?_ I
  clear I u v
  intro e p kd wd pn la mk lc nw rc km kl kw kr tc ts tl tm ec et ek ev po gt il pc ps pl pm ss ft lt sc su sl sm re kp kt ki kq ks yk yt yp yl sz cd vl no cp h
  obtain ⟨K, W, PN, LA, R, Rk, pk, hK, hE, hrc, hkr, hRk, hC, hCk⟩ := h
  obtain ⟨u', v', q1, q2, q3⟩ := lk_keep (kd := kd) (wd := wd) (pn := pn) (la := la) (mk := mk) (lc := lc) (nw := nw) (rc := rc) (km := km) (kl := kl) (kw := kw) (kr := kr) (tc := tc) (ts := ts) (tl := tl) (tm := tm) (ec := ec) (et := et) (ek := ek) (ev := ev) (po := po) (gt := gt) (il := il) (pc := pc) (ps := ps) (pl := pl) (pm := pm) (ss := ss) (ft := ft) (lt := lt) (sc := sc) (su := su) (sl := sl) (sm := sm) (re := re) (kp := kp) (kt := kt) (ki := ki) (kq := kq) (ks := ks) (yk := yk) (yt := yt) (yp := yp) (yl := yl) (sz := sz) (cd := cd) (vl := vl) (no := no) (cp := cp) hK hE hrc hC
  exact q2 _ (q3 _ ⟨rfl, e, p, q1⟩)
end
section
section CRASH
variable {kd wd pn la mk lc nw rc km kl kw kr tc ts tl tm : Int32} {ec et ek ev po gt il pc ps pl pm ss ft lt sc su sl sm re kp kt ki kq ks : Nat → Int32}
variable {yk yt yp yl : Int32} {sz cd vl no cp : Nat → Int32}
theorem x_c275 : ∀ d i (ss : Nat → Int32), i + d = 4 → (∀ j, j < i → ss j = ks (768 + j)) → ∃ ss' : Nat → Int32, (∀ j, j < 4 → ss' j = ks (768 + j)) ∧ ∀ post : Int32 → SX → Prop, post rc (kd, wd, pn, la, mk, lc, nw, rc, km, kl, kw, kr, tc, ts, tl, tm, ec, et, ek, ev, po, gt, il, pc, ps, pl, pm, ss', ft, lt, sc, su, sl, sm, re, kp, kt, ki, kq, ks) → wX_crash_275 post kd wd pn la mk lc nw rc km kl kw kr tc ts tl tm (d + 1) (nI i) ec et ek ev po gt il pc ps pl pm ss ft lt sc su sl sm re kp kt ki kq ks := by
  intro d
  induction d with
  | zero =>
    intro i ss hi h
    have : i = 4 := by omega
    subst this
    refine ⟨ss, h, fun post hp => ?_⟩
    rw [wX_crash_275]
    exact br_t (Int32.le_refl _) hp
  | succ d ih =>
    intro i ss hi h
    have e1 : (768 : Int32) + nI i = nI (768 + i) := nI_add 768 i
    obtain ⟨ss', r1, r2⟩ := ih (i + 1) (upd ss i (ks (768 + i))) (by omega) (fun j hj => by
      by_cases c : j = i
      · rw [c, pk_us]
      · rw [pk_un c]; exact h j (by omega))
    refine ⟨ss', r1, fun post hp => ?_⟩
    rw [wX_crash_275]
    dsimp only
    rw [e1, nI_clamp (show i < 2 ^ 31 by omega), nI_clamp (show 768 + i < 2 ^ 31 by omega)]
    exact br_f (nI_ge (b := 4) (by omega) (by omega)) ⟨vp_in_nI (by omega) (by omega), vp_in_nI (by omega) (by omega), nm_e (nm_r (nI_1 i) (r2 post hp))⟩
theorem x_c160 : ∀ d i (ft lt sc su sl sm : Nat → Int32), i + d = 128 → (∀ j, j < i → ft j = ks (6 * j) ∧ lt j = ks (6 * j + 1) ∧ sc j = ks (6 * j + 2) ∧ su j = ks (6 * j + 3) ∧ sl j = ks (6 * j + 4) ∧ sm j = ks (6 * j + 5)) → ∃ ft' lt' sc' su' sl' sm' : Nat → Int32, (∀ j, j < 128 → ft' j = ks (6 * j) ∧ lt' j = ks (6 * j + 1) ∧ sc' j = ks (6 * j + 2) ∧ su' j = ks (6 * j + 3) ∧ sl' j = ks (6 * j + 4) ∧ sm' j = ks (6 * j + 5)) ∧ ∀ post : Int32 → SX → Prop, (∃ n, wX_crash_275 post kd wd pn la mk lc nw rc km kl kw kr tc ts tl tm n 0 ec et ek ev po gt il pc ps pl pm ss ft' lt' sc' su' sl' sm' re kp kt ki kq ks) → wX_crash_160 post kd wd pn la mk lc nw rc km kl kw kr tc ts tl tm (d + 1) (nI i) ec et ek ev po gt il pc ps pl pm ss ft lt sc su sl sm re kp kt ki kq ks := by
  intro d
  induction d with
  | zero =>
    intro i ft lt sc su sl sm hi h
    have : i = 128 := by omega
    subst this
    refine ⟨ft, lt, sc, su, sl, sm, h, fun post hp => ?_⟩
    rw [wX_crash_160]
    exact br_t (Int32.le_refl _) hp
  | succ d ih =>
    intro i ft lt sc su sl sm hi h
    have e0 : (6 : Int32) * nI i = nI (6 * i) := pk_mul 6 i
    have e1 : nI (6 * i) + 1 = nI (6 * i + 1) := nI_1 _
    have e2 : nI (6 * i) + 2 = nI (6 * i + 2) := nI_add _ 2
    have e3 : nI (6 * i) + 3 = nI (6 * i + 3) := nI_add _ 3
    have e4 : nI (6 * i) + 4 = nI (6 * i + 4) := nI_add _ 4
    have e5 : nI (6 * i) + 5 = nI (6 * i + 5) := nI_add _ 5
    obtain ⟨ft', lt', sc', su', sl', sm', r1, r2⟩ := ih (i + 1) (upd ft i (ks (6 * i))) (upd lt i (ks (6 * i + 1))) (upd sc i (ks (6 * i + 2))) (upd su i (ks (6 * i + 3))) (upd sl i (ks (6 * i + 4))) (upd sm i (ks (6 * i + 5))) (by omega) (fun j hj => by
      by_cases c : j = i
      · subst c
        rw [pk_us, pk_us, pk_us, pk_us, pk_us, pk_us]
        exact ⟨rfl, rfl, rfl, rfl, rfl, rfl⟩
      · rw [pk_un c, pk_un c, pk_un c, pk_un c, pk_un c, pk_un c]
        exact h j (by omega))
    refine ⟨ft', lt', sc', su', sl', sm', r1, fun post hp => ?_⟩
    have i6 : vp_in (nI i) 128 := vp_in_nI (by omega) (by omega)
    rw [wX_crash_160]
    dsimp only
    rw [e0, e1, e2, e3, e4, e5, nI_clamp (show i < 2 ^ 31 by omega), nI_clamp (show 6 * i < 2 ^ 31 by omega), nI_clamp (show 6 * i + 1 < 2 ^ 31 by omega), nI_clamp (show 6 * i + 2 < 2 ^ 31 by omega), nI_clamp (show 6 * i + 3 < 2 ^ 31 by omega), nI_clamp (show 6 * i + 4 < 2 ^ 31 by omega), nI_clamp (show 6 * i + 5 < 2 ^ 31 by omega)]
    exact br_f (nI_ge (b := 128) (by omega) (by omega)) ⟨vp_in_nI (by omega) (by omega), i6, nm_e ⟨vp_in_nI (by omega) (by omega), i6, nm_e ⟨vp_in_nI (by omega) (by omega), i6, nm_e ⟨vp_in_nI (by omega) (by omega), i6, nm_e ⟨vp_in_nI (by omega) (by omega), i6, nm_e ⟨vp_in_nI (by omega) (by omega), i6, nm_e (nm_r (nI_1 i) (r2 post hp))⟩⟩⟩⟩⟩⟩
theorem x_c83 : ∀ d i (pc ps pl pm : Nat → Int32), i + d = 256 → (∀ j, j < i → pc j = kq (4 * j) ∧ ps j = kq (4 * j + 1) ∧ pl j = kq (4 * j + 2) ∧ pm j = kq (4 * j + 3)) → ∃ pc' ps' pl' pm' : Nat → Int32, (∀ j, j < 256 → pc' j = kq (4 * j) ∧ ps' j = kq (4 * j + 1) ∧ pl' j = kq (4 * j + 2) ∧ pm' j = kq (4 * j + 3)) ∧ ∀ post : Int32 → SX → Prop, (∃ n, wX_crash_160 post kd wd pn la mk lc nw rc km kl kw kr tc ts tl tm n 0 ec et ek ev po gt il pc' ps' pl' pm' ss ft lt sc su sl sm re kp kt ki kq ks) → wX_crash_83 post kd wd pn la mk lc nw rc km kl kw kr tc ts tl tm (d + 1) (nI i) ec et ek ev po gt il pc ps pl pm ss ft lt sc su sl sm re kp kt ki kq ks := by
  intro d
  induction d with
  | zero =>
    intro i pc ps pl pm hi h
    have : i = 256 := by omega
    subst this
    refine ⟨pc, ps, pl, pm, h, fun post hp => ?_⟩
    rw [wX_crash_83]
    exact br_t (Int32.le_refl _) hp
  | succ d ih =>
    intro i pc ps pl pm hi h
    have e0 : (4 : Int32) * nI i = nI (4 * i) := pk_mul 4 i
    have e1 : nI (4 * i) + 1 = nI (4 * i + 1) := nI_1 _
    have e2 : nI (4 * i) + 2 = nI (4 * i + 2) := nI_add _ 2
    have e3 : nI (4 * i) + 3 = nI (4 * i + 3) := nI_add _ 3
    obtain ⟨pc', ps', pl', pm', r1, r2⟩ := ih (i + 1) (upd pc i (kq (4 * i))) (upd ps i (kq (4 * i + 1))) (upd pl i (kq (4 * i + 2))) (upd pm i (kq (4 * i + 3))) (by omega) (fun j hj => by
      by_cases c : j = i
      · subst c
        rw [pk_us, pk_us, pk_us, pk_us]
        exact ⟨rfl, rfl, rfl, rfl⟩
      · rw [pk_un c, pk_un c, pk_un c, pk_un c]
        exact h j (by omega))
    refine ⟨pc', ps', pl', pm', r1, fun post hp => ?_⟩
    have i4 : vp_in (nI i) 256 := vp_in_nI (by omega) (by omega)
    rw [wX_crash_83]
    dsimp only
    rw [e0, e1, e2, e3, nI_clamp (show i < 2 ^ 31 by omega), nI_clamp (show 4 * i < 2 ^ 31 by omega), nI_clamp (show 4 * i + 1 < 2 ^ 31 by omega), nI_clamp (show 4 * i + 2 < 2 ^ 31 by omega), nI_clamp (show 4 * i + 3 < 2 ^ 31 by omega)]
    exact br_f (nI_ge (b := 256) (by omega) (by omega)) ⟨vp_in_nI (by omega) (by omega), i4, nm_e ⟨vp_in_nI (by omega) (by omega), i4, nm_e ⟨vp_in_nI (by omega) (by omega), i4, nm_e ⟨vp_in_nI (by omega) (by omega), i4, nm_e (nm_r (nI_1 i) (r2 post hp))⟩⟩⟩⟩
theorem x_c2 : ∀ d i (po gt il : Nat → Int32), i + d = 3 → (∀ j, j < i → po j = kp j ∧ gt j = kt j ∧ il j = vp_nar .boolean (ki j)) → ∃ po' gt' il' : Nat → Int32, (∀ j, j < 3 → po' j = kp j ∧ gt' j = kt j ∧ il' j = vp_nar .boolean (ki j)) ∧ ∀ post : Int32 → SX → Prop, (∃ n, wX_crash_83 post kd wd pn la km kl kw kr km kl kw kr tc ts tl tm n 0 ec et ek ev po' gt' il' pc ps pl pm ss ft lt sc su sl sm re kp kt ki kq ks) → wX_crash_2 post kd wd pn la mk lc nw rc km kl kw kr tc ts tl tm (d + 1) (nI i) ec et ek ev po gt il pc ps pl pm ss ft lt sc su sl sm re kp kt ki kq ks := by
  intro d
  induction d with
  | zero =>
    intro i po gt il hi h
    have : i = 3 := by omega
    subst this
    refine ⟨po, gt, il, h, fun post hp => ?_⟩
    rw [wX_crash_2]
    exact br_t (Int32.le_refl _) hp
  | succ d ih =>
    intro i po gt il hi h
    obtain ⟨po', gt', il', r1, r2⟩ := ih (i + 1) (upd po i (kp i)) (upd gt i (kt i)) (upd il i (vp_nar .boolean (ki i))) (by omega) (fun j hj => by
      by_cases c : j = i
      · subst c
        rw [pk_us, pk_us, pk_us]
        exact ⟨rfl, rfl, rfl⟩
      · rw [pk_un c, pk_un c, pk_un c]
        exact h j (by omega))
    refine ⟨po', gt', il', r1, fun post hp => ?_⟩
    have i3 : vp_in (nI i) 3 := vp_in_nI (by omega) (by omega)
    rw [wX_crash_2]
    dsimp only
    rw [nI_clamp (show i < 2 ^ 31 by omega)]
    exact br_f (nI_ge (b := 3) (by omega) (by omega)) ⟨i3, i3, nm_e ⟨i3, i3, nm_e ⟨i3, i3, nm_e (nm_r (nI_1 i) (r2 post hp))⟩⟩⟩
end CRASH
theorem i_vc_crash {k : Nat} {u : SX} {v : SY} (I : i_Rel k u v) (hk : k + 3 ≤ 1540) : wpX_crash (fun r u' => wpY_crash (fun r' v' => r' = r ∧ i_Rel (k + 3) u' v') v) u := by
  refine zz_el (Z := fun u v => wpX_crash (fun r u' => wpY_crash (fun r' v' => r' = r ∧ i_Rel (k + 3) u' v') v) u) ?_ I
  clear I u v
  intro e p kd wd pn la mk lc nw rc km kl kw kr tc ts tl tm ec et ek ev po gt il pc ps pl pm ss ft lt sc su sl sm re kp kt ki kq ks yk yt yp yl sz cd vl no cp h
  obtain ⟨K, W, PN, LA, R, Rk, pk, hK, hE, hrc, hkr, hRk, hC, hCk⟩ := h
  obtain ⟨po', gt', il', a1, a2⟩ := x_c2 (kd := kd) (wd := wd) (pn := pn) (la := la) (mk := mk) (lc := lc) (nw := nw) (rc := rc) (km := km) (kl := kl) (kw := kw) (kr := kr) (tc := tc) (ts := ts) (tl := tl) (tm := tm) (ec := ec) (et := et) (ek := ek) (ev := ev) (pc := pc) (ps := ps) (pl := pl) (pm := pm) (ss := ss) (ft := ft) (lt := lt) (sc := sc) (su := su) (sl := sl) (sm := sm) (re := re) (kp := kp) (kt := kt) (ki := ki) (kq := kq) (ks := ks) 3 0 po gt il (by omega) (fun j hj => absurd hj (by omega))
  obtain ⟨pc', ps', pl', pm', b1, b2⟩ := x_c83 (kd := kd) (wd := wd) (pn := pn) (la := la) (km := km) (kl := kl) (kw := kw) (kr := kr) (tc := tc) (ts := ts) (tl := tl) (tm := tm) (ec := ec) (et := et) (ek := ek) (ev := ev) (ss := ss) (ft := ft) (lt := lt) (sc := sc) (su := su) (sl := sl) (sm := sm) (re := re) (kp := kp) (kt := kt) (ki := ki) (kq := kq) (ks := ks) (po := po') (gt := gt') (il := il') (mk := km) (lc := kl) (nw := kw) (rc := kr) 256 0 pc ps pl pm (by omega) (fun j hj => absurd hj (by omega))
  obtain ⟨ft', lt', sc', su', sl', sm', c1, c2⟩ := x_c160 (kd := kd) (wd := wd) (pn := pn) (la := la) (km := km) (kl := kl) (kw := kw) (kr := kr) (tc := tc) (ts := ts) (tl := tl) (tm := tm) (ec := ec) (et := et) (ek := ek) (ev := ev) (ss := ss) (re := re) (kp := kp) (kt := kt) (ki := ki) (kq := kq) (ks := ks) (po := po') (gt := gt') (il := il') (mk := km) (lc := kl) (nw := kw) (rc := kr) (pc := pc') (ps := ps') (pl := pl') (pm := pm') 128 0 ft lt sc su sl sm (by omega) (fun j hj => absurd hj (by omega))
  obtain ⟨ss', d1, d2⟩ := x_c275 (kd := kd) (wd := wd) (pn := pn) (la := la) (km := km) (kl := kl) (kw := kw) (kr := kr) (tc := tc) (ts := ts) (tl := tl) (tm := tm) (ec := ec) (et := et) (ek := ek) (ev := ev) (re := re) (kp := kp) (kt := kt) (ki := ki) (kq := kq) (ks := ks) (po := po') (gt := gt') (il := il') (mk := km) (lc := kl) (nw := kw) (rc := kr) (pc := pc') (ps := ps') (pl := pl') (pm := pm') (ft := ft') (lt := lt') (sc := sc') (su := su') (sl := sl') (sm := sm') 4 0 ss (by omega) (fun j hj => absurd hj (by omega))
  rw [nI_0] at a2 b2 c2 d2
  unfold wpX_crash
  refine ⟨4, a2 _ ⟨257, b2 _ ⟨129, c2 _ ⟨5, d2 _ (y_cr ⟨?_, ?_⟩)⟩⟩⟩⟩
  · obtain ⟨z, m, P, L, M, hG, hA, hz, h9, hlc, hnw, hR, -⟩ := hCk
    rw [hR.1, hkr]
  · exact zz_in (e := e) (p := pk) ⟨K, W, PN, LA, Rk, Rk, pk, hK, hE, hkr, hkr, Nat.le_refl _, r_C_g hCk hK.2.2.2.1 hK.2.2.1 hE a1 b1 d1 c1 (fun j hj => c_2_l hj), hCk⟩
end
section
/-! J: the constructors -/
def c_l (x lo hi : Int32) : Int32 := if lo ≤ x then (if x ≤ hi then x else hi) else lo
theorem c_l_x {A : Int32 → Prop} {x lo hi : Int32} (h : A (c_l x lo hi)) : (lo ≤ x → ((x ≤ hi → A x) ∧ (¬ x ≤ hi → A hi))) ∧ (¬ lo ≤ x → A lo) := by
  unfold c_l at h
  refine ⟨fun h1 => ⟨fun h2 => ?_, fun h2 => ?_⟩, fun h1 => ?_⟩
  · rw [if_pos h1, if_pos h2] at h; exact h
  · rw [if_pos h1, if_neg h2] at h; exact h
  · rw [if_neg h1] at h; exact h
theorem c_l_n (x : Int32) {a b : Nat} (h : a ≤ b) (hb : b < 2 ^ 31) : ∃ n, a ≤ n ∧ n ≤ b ∧ c_l x (nI a) (nI b) = nI n := by
  unfold c_l
  by_cases h1 : nI a ≤ x
  · rw [if_pos h1]
    by_cases h2 : x ≤ nI b
    · rw [if_pos h2]
      have h3 : ¬ x < 0 := Int32.not_lt.mpr (Int32.le_trans (nI_pos' (by omega)) h1)
      obtain ⟨j, hj, e⟩ := nI_of h3
      subst e
      exact ⟨j, (nI_leI (by omega) hj).mp h1, (nI_leI hj (by omega)).mp h2, rfl⟩
    · rw [if_neg h2]
      exact ⟨b, h, Nat.le_refl _, rfl⟩
  · rw [if_neg h1]
    exact ⟨a, Nat.le_refl _, h, rfl⟩
def y_0 (i : Nat) : Nat → Int32 := fun j => if 6 ≤ j ∧ j < 6 + i then -1 else 0
theorem y_0_0 : y_0 0 = fun _ => 0 := by
  funext j
  exact if_neg (by omega)
theorem y_0_s {i : Nat} : upd (y_0 i) (6 + i) (-1) = y_0 (i + 1) := by
  funext j
  by_cases e : j = 6 + i
  · rw [e, pk_us]; exact (if_pos (show 6 ≤ 6 + i ∧ 6 + i < 6 + (i + 1) by omega)).symm
  · rw [pk_un e]
    by_cases h : 6 ≤ j ∧ j < 6 + i
    · exact (if_pos h).trans (if_pos (show 6 ≤ j ∧ j < 6 + (i + 1) by omega)).symm
    · exact (if_neg h).trans (if_neg (show ¬ (6 ≤ j ∧ j < 6 + (i + 1)) by omega)).symm
section INIT
variable {kd wd pn la mk lc nw rc km kl kw kr tc ts tl tm : Int32} {ec et ek ev po gt il pc ps pl pm ss ft lt sc su sl sm re kp kt ki kq ks : Nat → Int32}
variable {yk yt yp yl : Int32} {sz cd vl no cp : Nat → Int32}
theorem x_i311 {post : SX → Prop} {z0 : Int32} (h : wpX_keep (fun _ u => post u) (kd, wd, pn, z0, -1000, lc, 1 - pn, rc, km, kl, kw, kr, tc, ts, tl, tm, ec, et, ek, ev, po, c_2 (fun _ => -1000) gt 3, il, pc, ps, pl, pm, ss, ft, lt, sc, su, sl, sm, re, kp, kt, ki, kq, ks)) : wX_init_311 post z0 kd wd pn la mk lc nw rc km kl kw kr tc ts tl tm ec et ek ev po gt il pc ps pl pm ss ft lt sc su sl sm re kp kt ki kq ks := by
  have lp : ∀ d i, i + d = 3 → wX_init_334 post kd wd pn z0 (-1000) lc (1 - pn) rc km kl kw kr tc ts tl tm (d + 1) (nI i) ec et ek ev po (c_2 (fun _ => -1000) gt i) il pc ps pl pm ss ft lt sc su sl sm re kp kt ki kq ks := by
    intro d
    induction d with
    | zero =>
      intro i hi
      have : i = 3 := by omega
      subst this
      rw [wX_init_334]
      exact br_t (Int32.le_refl _) h
    | succ d ih =>
      intro i hi
      have i3 : vp_in (nI i) 3 := vp_in_nI (by omega) (by omega)
      rw [wX_init_334]
      dsimp only
      rw [nI_clamp (show i < 2 ^ 31 by omega)]
      exact br_f (nI_ge (b := 3) (by omega) (by omega)) ⟨i3, nm_r (c_2_s (a := fun _ => -1000)) (nm_r (nI_1 i) (ih (i + 1) (by omega)))⟩
  have L := lp 3 0 (by omega)
  rw [c_2_0, nI_0] at L
  unfold wX_init_311
  exact nm_e ⟨4, L⟩
theorem x_i284 {post : SX → Prop} {x4 z0 : Int32} (h : wpX_keep (fun _ u => post u) (kd, wd, z0, c_l x4 0 20, -1000, lc, 1 - z0, rc, km, kl, kw, kr, tc, ts, tl, tm, ec, et, ek, ev, po, c_2 (fun _ => -1000) gt 3, il, pc, ps, pl, pm, ss, ft, lt, sc, su, sl, sm, re, kp, kt, ki, kq, ks)) : wX_init_284 post x4 z0 kd wd pn la mk lc nw rc km kl kw kr tc ts tl tm ec et ek ev po gt il pc ps pl pm ss ft lt sc su sl sm re kp kt ki kq ks := by
  unfold wX_init_284
  exact c_l_x (A := fun z => wX_init_311 post z kd wd z0 la mk lc nw rc km kl kw kr tc ts tl tm ec et ek ev po gt il pc ps pl pm ss ft lt sc su sl sm re kp kt ki kq ks) (x_i311 h)
theorem x_i267 {post : SX → Prop} {x4 z0 : Int32} (h : wpX_keep (fun _ u => post u) (kd, wd, if kd = 1 then z0 else 1, c_l x4 0 20, -1000, lc, 1 - (if kd = 1 then z0 else 1), rc, km, kl, kw, kr, tc, ts, tl, tm, ec, et, ek, ev, po, c_2 (fun _ => -1000) gt 3, il, pc, ps, pl, pm, ss, ft, lt, sc, su, sl, sm, re, kp, kt, ki, kq, ks)) : wX_init_267 post x4 z0 kd wd pn la mk lc nw rc km kl kw kr tc ts tl tm ec et ek ev po gt il pc ps pl pm ss ft lt sc su sl sm re kp kt ki kq ks := by
  unfold wX_init_267
  refine ⟨fun c => x_i284 ?_, fun c => x_i284 ?_⟩
  · rw [if_pos c] at h; exact h
  · rw [if_neg c] at h; exact h
theorem x_i245 {post : SX → Prop} {x3 x4 z0 : Int32} (h : wpX_keep (fun _ u => post u) (kd, z0, if kd = 1 then c_l x3 1 4 else 1, c_l x4 0 20, -1000, lc, 1 - (if kd = 1 then c_l x3 1 4 else 1), rc, km, kl, kw, kr, tc, ts, tl, tm, ec, et, ek, ev, po, c_2 (fun _ => -1000) gt 3, il, pc, ps, pl, pm, ss, ft, lt, sc, su, sl, sm, re, kp, kt, ki, kq, ks)) : wX_init_245 post x3 x4 z0 kd wd pn la mk lc nw rc km kl kw kr tc ts tl tm ec et ek ev po gt il pc ps pl pm ss ft lt sc su sl sm re kp kt ki kq ks := by
  unfold wX_init_245
  exact c_l_x (A := fun z => wX_init_267 post x4 z kd z0 pn la mk lc nw rc km kl kw kr tc ts tl tm ec et ek ev po gt il pc ps pl pm ss ft lt sc su sl sm re kp kt ki kq ks) (x_i267 h)
theorem x_i220 {post : SX → Prop} {x2 x3 x4 z0 : Int32} (h : wpX_keep (fun _ u => post u) (z0, c_l x2 1 8, if z0 = 1 then c_l x3 1 4 else 1, c_l x4 0 20, -1000, lc, 1 - (if z0 = 1 then c_l x3 1 4 else 1), rc, km, kl, kw, kr, tc, ts, tl, tm, ec, et, ek, ev, po, c_2 (fun _ => -1000) gt 3, il, pc, ps, pl, pm, ss, ft, lt, sc, su, sl, sm, re, kp, kt, ki, kq, ks)) : wX_init_220 post x2 x3 x4 z0 kd wd pn la mk lc nw rc km kl kw kr tc ts tl tm ec et ek ev po gt il pc ps pl pm ss ft lt sc su sl sm re kp kt ki kq ks := by
  unfold wX_init_220
  exact c_l_x (A := fun z => wX_init_245 post x3 x4 z z0 wd pn la mk lc nw rc km kl kw kr tc ts tl tm ec et ek ev po gt il pc ps pl pm ss ft lt sc su sl sm re kp kt ki kq ks) (x_i245 h)
end INIT
theorem x_init0 {post : SX → Prop} {p0 p1 p2 p3 : Int32} (h : wpX_keep (fun _ u => post u) (c_l p0 0 2, c_l p1 1 8, (if c_l p0 0 2 = 1 then c_l p2 1 4 else 1), c_l p3 0 20, -1000, 0, 1 - (if c_l p0 0 2 = 1 then c_l p2 1 4 else 1), 0, 0, 0, 0, 0, 0, 0, 0, 0, (fun _ => 0), (fun _ => 0), (fun _ => 0), (fun _ => 0), (fun _ => 0), c_2 (fun _ => -1000) (fun _ => 0) 3, (fun _ => 0), (fun _ => 0), (fun _ => 0), (fun _ => 0), (fun _ => 0), (fun _ => 0), (fun _ => 0), (fun _ => 0), (fun _ => 0), (fun _ => 0), (fun _ => 0), (fun _ => 0), (fun _ => 0), (fun _ => 0), (fun _ => 0), (fun _ => 0), (fun _ => 0), (fun _ => 0))) : wpX_init post p0 p1 p2 p3 := by
  unfold wpX_init
  exact c_l_x (A := fun z => wX_init_220 post p1 p2 p3 z 0 0 0 0 0 0 0 0 0 0 0 0 0 0 0 0 (fun _ => 0) (fun _ => 0) (fun _ => 0) (fun _ => 0) (fun _ => 0) (fun _ => 0) (fun _ => 0) (fun _ => 0) (fun _ => 0) (fun _ => 0) (fun _ => 0) (fun _ => 0) (fun _ => 0) (fun _ => 0) (fun _ => 0) (fun _ => 0) (fun _ => 0) (fun _ => 0) (fun _ => 0) (fun _ => 0) (fun _ => 0) (fun _ => 0) (fun _ => 0) (fun _ => 0)) (x_i220 h)
section INITY
variable {kd wd pn la mk lc nw rc km kl kw kr tc ts tl tm : Int32} {ec et ek ev po gt il pc ps pl pm ss ft lt sc su sl sm re kp kt ki kq ks : Nat → Int32}
variable {yk yt yp yl : Int32} {sz cd vl no cp : Nat → Int32}
theorem y_cl {post : Int32 → Prop} {x lo hi : Int32} (h : post (c_l x lo hi)) : wpY_clamp post (yk, yt, yp, yl, sz, cd, vl, no, cp) x lo hi := by
  unfold wpY_clamp
  exact c_l_x h
theorem y_i96 {post : SY → Prop} {x4 z0 : Int32} (h : wpY_keep (fun _ v => post v) (yk, yt, z0, c_l x4 0 20, sz, cd, vl, upd (y_0 3) 9 (-1000), cp)) : wY_init_96 post x4 z0 yk yt yp yl sz cd vl (fun _ => 0) cp := by
  have lp : ∀ d i, i + d = 3 → wY_init_115 post yk yt z0 (c_l x4 0 20) (d + 1) (nI i) sz cd vl (y_0 i) cp := by
    intro d
    induction d with
    | zero =>
      intro i hi
      have : i = 3 := by omega
      subst this
      rw [wY_init_115]
      exact br_t (Int32.le_refl _) (nm_e h)
    | succ d ih =>
      intro i hi
      have e6 : (6 : Int32) + nI i = nI (6 + i) := nI_add 6 i
      rw [wY_init_115]
      dsimp only
      rw [e6, nI_clamp (show 6 + i < 2 ^ 31 by omega)]
      exact br_f (nI_ge (b := 3) (by omega) (by omega)) ⟨vp_in_nI (by omega) (by omega), nm_r y_0_s (nm_r (nI_1 i) (ih (i + 1) (by omega)))⟩
  have L := lp 3 0 (by omega)
  rw [y_0_0, nI_0] at L
  unfold wY_init_96 wpY_clamp
  exact c_l_x (A := fun z => ∃ n : Nat, wY_init_115 post yk yt z0 z n 0 sz cd vl (fun _ => 0) cp) ⟨4, L⟩
end INITY
theorem y_init0 {post : SY → Prop} {p0 p1 p2 p3 : Int32} (h : wpY_keep (fun _ v => post v) (c_l p0 0 2, c_l p1 1 8, (if c_l p0 0 2 = 1 then c_l p1 1 8 * c_l p2 1 4 else c_l p1 1 8), c_l p3 0 20, (fun _ => 0), (fun _ => 0), (fun _ => 0), upd (y_0 3) 9 (-1000), (fun _ => 0))) : wpY_init post p0 p1 p2 p3 := by
  unfold wpY_init
  refine y_cl (y_cl ?_)
  refine ⟨fun c => ?_, fun c => ?_⟩
  · rw [if_pos c] at h
    exact y_cl (y_i96 h)
  · rw [if_neg c] at h
    exact y_i96 h
theorem i_vc0 (k0 : Int32) (k1 : Int32) (k2 : Int32) (k3 : Int32) : wpX_init (fun u => wpY_init (fun v => i_Rel 4 u v) k0 k1 k2 k3) k0 k1 k2 k3 := by
  obtain ⟨K, -, hK, eK⟩ := c_l_n k0 (a := 0) (b := 2) (by omega) (by omega)
  obtain ⟨W, hW1, hW, eW⟩ := c_l_n k1 (a := 1) (b := 8) (by omega) (by omega)
  obtain ⟨D, hD1, hD, eD⟩ := c_l_n k2 (a := 1) (b := 4) (by omega) (by omega)
  obtain ⟨LA, -, hLA, eLA⟩ := c_l_n k3 (a := 0) (b := 20) (by omega) (by omega)
  have eK' : c_l k0 0 2 = nI K := eK
  have eW' : c_l k1 1 8 = nI W := eW
  have eD' : c_l k2 1 4 = nI D := eD
  have eLA' : c_l k3 0 20 = nI LA := eLA
  obtain ⟨PN, hPN1, hPN4, eX, eY⟩ : ∃ PN, 1 ≤ PN ∧ PN ≤ 4 ∧ (if nI K = 1 then nI D else 1) = nI PN ∧ (if nI K = 1 then nI W * nI D else nI W) = nI (PN * W) := by
    by_cases c : nI K = 1
    · refine ⟨D, hD1, hD, if_pos c, (if_pos c).trans ?_⟩
      rw [pk_mul, Nat.mul_comm]
    · exact ⟨1, by omega, by omega, if_neg c, (if_neg c).trans (by rw [Nat.one_mul])⟩
  have no0 : ∀ j, j ≠ 9 → j < 6 ∨ 9 ≤ j → upd (y_0 3) 9 (-1000) j = 0 := by
    intro j h1 h2
    rw [pk_un h1]
    exact if_neg (by omega)
  have hK' : r_K K W PN LA (nI K) (nI W) (nI PN) (nI LA) (nI K) (nI W) (nI (PN * W)) (nI LA) := ⟨⟨rfl, rfl, rfl, rfl⟩, ⟨rfl, rfl, rfl, rfl⟩, hK, hW1, hW, hPN1, hPN4, hLA⟩
  have hE : r_E (fun _ => 0) (fun _ => 0) (fun _ => 0) (fun _ => 0) (fun _ => 0) (fun _ => 0) (fun _ => 0) (fun _ => 0) := by
    intro s hs
    exact ⟨rfl, rfl, Nat.zero_le _, fun i hi => absurd hi (Nat.not_lt_zero i)⟩
  have hC : r_C True K W PN (fun _ => 0) (fun _ => 0) 0 (fun _ => 0) (c_2 (fun _ => -1000) (fun _ => 0) 3) (fun _ => 0) (-1000) 0 (1 - nI PN) (fun _ => 0) (fun _ => 0) (fun _ => 0) (fun _ => 0) (fun _ => 0) (fun _ => 0) (fun _ => 0) (fun _ => 0) (fun _ => 0) (fun _ => 0) (fun _ => 0) (fun _ => 0) (upd (y_0 3) 9 (-1000)) := by
    refine ⟨-1000, 5 - PN, fun _ _ => none, fun _ => [], [], ⟨⟨by omega, by omega, by omega, by omega⟩, fun _ _ _ => rfl, fun _ _ => Nat.zero_le _, List.Perm.refl _, fun _ _ => s_ok_0, fun _ => ⟨Nat.zero_le _, fun j h1 h2 => absurd h2 (by omega), fun _ => ?_, rfl, fun _ => rfl⟩, fun _ => ⟨fun _ _ => rfl, Nat.zero_le _⟩⟩, fun s hs => ?_, by decide, ?_, ?_, ?_, ⟨?_, fun j hj => absurd hj (by omega)⟩, fun k i _ _ _ => ⟨rfl, rfl⟩, fun k m _ _ => ?_, fun k _ => ⟨rfl, True.intro⟩, ⟨?_, True.intro⟩⟩
    · unfold e_n
      rw [show ((5 - PN : Nat) : Int) - 4 + PN = 1 by omega, Int.one_mul]
      omega
    · refine ⟨rfl, no0 s (by omega) (by omega), Nat.le_refl _, Or.inl ⟨rfl, no0 (3 + s) (by omega) (by omega)⟩, Or.inl ⟨c_2_l hs, ?_⟩⟩
      rw [pk_un (by omega)]
      exact if_pos (by omega)
    · rw [pk_us]; decide
    · rw [no0 10 (by omega) (by omega)]
    · exact (hx_s (show (1 : Int32) = hI 1 from by decide) (hI_n PN).symm).trans (congrArg hI (by omega))
    · exact no0 11 (by omega) (by omega)
    · rw [w_of_n (fun _ _ => rfl)]
      exact no0 _ (by omega) (by omega)
    · exact no0 12 (by omega) (by omega)
  obtain ⟨u', v', q1, q2, q3⟩ := lk_keep (R := 0) (rc := 0) (km := 0) (kl := 0) (kw := 0) (kr := 0) (tc := 0) (ts := 0) (tl := 0) (tm := 0) (kp := fun _ => 0) (kt := fun _ => 0) (ki := fun _ => 0) (kq := fun _ => 0) (ks := fun _ => 0) (cp := fun _ => 0) hK' hE rfl hC
  refine x_init0 ?_
  rw [eK', eW', eD', eLA', eX]
  refine q2 _ ?_
  refine y_init0 ?_
  rw [eK', eW', eD', eLA', eY]
  exact q3 _ ⟨_, _, q1⟩
end
