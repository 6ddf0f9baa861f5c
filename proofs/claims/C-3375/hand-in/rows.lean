section
/-! 01: rows pasted from the kit's rows to paste (stores, nI arithmetic, branches by naturals) -/
theorem pk_us {f : Nat → Int32} {k : Nat} {x : Int32} : upd f k x k = x := if_pos rfl
theorem pk_un {f : Nat → Int32} {k j : Nat} {x : Int32} (h : j ≠ k) : upd f k x j = f j := if_neg h
theorem pk_sub {a b : Nat} (h : b ≤ a) : nI a - nI b = nI (a - b) := by
  obtain ⟨c, rfl⟩ : ∃ c, a = c + b := ⟨a - b, by omega⟩
  rw [← nI_add, Int32.add_sub_cancel, Nat.add_sub_cancel]
theorem pk_m1 (n : Nat) : nI (n + 1) + (-1) = nI n := by
  rw [← nI_1, Int32.add_assoc, show (1 : Int32) + (-1) = 0 from rfl, Int32.add_zero]
theorem pk_mul (a b : Nat) : nI a * nI b = nI (a * b) := (Int32.ofNat_mul a b).symm
theorem pk_div {a d : Nat} (ha : a < 2 ^ 31) (h0 : 0 < d) (hd : d < 2 ^ 31) : nI a / nI d = nI (a / d) := by
  apply Int32.toInt_inj.mp
  rw [lg_idiv_nonneg (by rw [nI_toInt ha]; omega) (by rw [nI_toInt hd]; omega), nI_toInt ha, nI_toInt hd, nI_toInt (Nat.lt_of_le_of_lt (Nat.div_le_self a d) ha)]
  first | rfl | exact (Int.natCast_ediv _ _).symm
theorem pk_rem {a d : Nat} (ha : a < 2 ^ 31) (h0 : 0 < d) (hd : d < 2 ^ 31) : nI a - nI a / nI d * nI d = nI (a % d) := by
  rw [pk_div ha h0 hd, pk_mul, pk_sub (Nat.div_mul_le_self a d)]
  exact congrArg nI (by have := Nat.div_add_mod' a d; omega)
theorem pk_ix (x : Int32) {n : Nat} (hn : n < 2 ^ 31) : x < 0 ∨ nI n ≤ x ∨ ∃ j : Nat, j < n ∧ x = nI j := by
  by_cases h : x < 0
  · exact Or.inl h
  · obtain ⟨j, hj, rfl⟩ := nI_of h
    by_cases h2 : j < n
    · exact Or.inr (Or.inr ⟨j, h2, rfl⟩)
    · exact Or.inr (Or.inl (nI_le (by omega) hj))
theorem pk_le {x y : Int32} {A B : Prop} (a b : Nat) (f : a ≤ b → A) (g : b < a → B) (hx : x = nI a := by rfl) (hy : y = nI b := by rfl) (ha : a < 2 ^ 31 := by omega) (hb : b < 2 ^ 31 := by omega) : (x ≤ y → A) ∧ (¬ x ≤ y → B) := by
  subst hx hy
  rw [nI_leI ha hb]
  exact ⟨f, fun z => g (by omega)⟩
theorem pk_lt {x y : Int32} {A B : Prop} (a b : Nat) (f : a < b → A) (g : b ≤ a → B) (hx : x = nI a := by rfl) (hy : y = nI b := by rfl) (ha : a < 2 ^ 31 := by omega) (hb : b < 2 ^ 31 := by omega) : (x < y → A) ∧ (¬ x < y → B) := by
  subst hx hy
  rw [nI_ltI ha hb]
  exact ⟨f, fun z => g (by omega)⟩
theorem pk_eq {x y : Int32} {A B : Prop} (a b : Nat) (f : a = b → A) (g : a ≠ b → B) (hx : x = nI a := by rfl) (hy : y = nI b := by rfl) (ha : a < 2 ^ 31 := by omega) (hb : b < 2 ^ 31 := by omega) : (x = y → A) ∧ (¬ x = y → B) := by
  subst hx hy
  rw [nI_eq ha hb]
  exact ⟨f, g⟩
theorem pk_in {x : Int32} (n N : Nat) (h : n < N) (hx : x = nI n := by rfl) (hN : N < 2 ^ 31 := by omega) : vp_in x N := by
  subst hx
  exact vp_in_nI h hN
theorem pk_cl {x : Int32} (n : Nat) (hx : x = nI n := by rfl) (h : n < 2 ^ 31 := by omega) : x.toNatClampNeg = n := by
  subst hx
  exact nI_clamp h
end
section
/-! 02: the pure picture: capped sums, tables, leaves, the fold -/
def wn_cp (s : Nat) : Nat := if s < 50000 then s else 100000
def wn_mor (a b : Nat) : Nat := if 50000 ≤ a then 100000 else if b < 50000 then a + b else 100000
def wn_les (a b : Nat) : Nat := if a < 50000 then a - b else 100000
def wn_as (c : Nat) : Nat := if c = 20 then 100000 else c
/-- a sum of entries: small, or with a forbidden one in it -/
def wn_fi (B s : Nat) : Prop := s ≤ B ∨ 100000 ≤ s
/-- an entry: small, or forbidden -/
def wn_fb (B c : Nat) : Prop := c ≤ B ∨ c = 100000
theorem wn_cp_lt {s : Nat} (h : s < 50000) : wn_cp s = s := if_pos h
theorem wn_cp_ge {s : Nat} (h : 50000 ≤ s) : wn_cp s = 100000 := if_neg (by omega)
theorem wn_cp_cases (s : Nat) : (s < 50000 ∧ wn_cp s = s) ∨ (50000 ≤ s ∧ wn_cp s = 100000) := by
  by_cases h : s < 50000
  · exact Or.inl ⟨h, wn_cp_lt h⟩
  · exact Or.inr ⟨by omega, wn_cp_ge (by omega)⟩
theorem wn_cp_le (s : Nat) : wn_cp s ≤ 100000 := by
  rcases wn_cp_cases s with ⟨h, e⟩ | ⟨h, e⟩ <;> omega
theorem wn_cp_fb {B s : Nat} (h : wn_fi B s) (hB : B < 50000) : wn_fb B (wn_cp s) := by
  unfold wn_fi at h
  unfold wn_fb
  rcases wn_cp_cases s with ⟨h1, e⟩ | ⟨h1, e⟩ <;> omega
theorem wn_cp_self {B s : Nat} (h : wn_fi B s) (hB : B < 50000) : wn_cp s ≤ s := by
  unfold wn_fi at h
  rcases wn_cp_cases s with ⟨h1, e⟩ | ⟨h1, e⟩ <;> omega
theorem wn_fb_cp {B c : Nat} (h : wn_fb B c) (hB : B < 50000) : wn_cp c = c := by
  unfold wn_fb at h
  rcases wn_cp_cases c with ⟨h1, e⟩ | ⟨h1, e⟩ <;> omega
theorem wn_cp_cp (s : Nat) : wn_cp (wn_cp s) = wn_cp s := by
  rcases wn_cp_cases s with ⟨h1, e⟩ | ⟨h1, e⟩
  · rw [e, e]
  · rw [e]; decide
theorem wn_fb_fi {B c : Nat} (h : wn_fb B c) : wn_fi B c := by
  unfold wn_fb at h; unfold wn_fi; omega
theorem wn_fb_le {B c : Nat} (h : wn_fb B c) (hB : B ≤ 100000) : c ≤ 100000 := by
  unfold wn_fb at h; omega
theorem wn_fb_mono {B B' c : Nat} (h : wn_fb B c) (hB : B ≤ B') : wn_fb B' c := by
  unfold wn_fb at h ⊢; omega
theorem wn_fi_mono {B B' c : Nat} (h : wn_fi B c) (hB : B ≤ B') : wn_fi B' c := by
  unfold wn_fi at h ⊢; omega
theorem wn_fi_add {B B' s c : Nat} (h : wn_fi B s) (h' : wn_fi B' c) : wn_fi (B + B') (s + c) := by
  unfold wn_fi at h h' ⊢; omega
theorem wn_mor_cases (a b : Nat) : (a < 50000 ∧ b < 50000 ∧ wn_mor a b = a + b) ∨ ((50000 ≤ a ∨ 50000 ≤ b) ∧ wn_mor a b = 100000) := by
  unfold wn_mor
  by_cases h : 50000 ≤ a
  · rw [if_pos h]; exact Or.inr ⟨Or.inl h, rfl⟩
  · rw [if_neg h]
    by_cases h2 : b < 50000
    · rw [if_pos h2]; exact Or.inl ⟨by omega, h2, rfl⟩
    · rw [if_neg h2]; exact Or.inr ⟨Or.inr (by omega), rfl⟩
theorem wn_mor_cp {B B' s c : Nat} (h : wn_fi B s) (h' : wn_fi B' c) (hB : B + B' < 50000) : wn_mor (wn_cp s) (wn_cp c) = wn_cp (s + c) := by
  unfold wn_fi at h h'
  rcases wn_cp_cases s with ⟨h1, e1⟩ | ⟨h1, e1⟩ <;> rcases wn_cp_cases c with ⟨h2, e2⟩ | ⟨h2, e2⟩ <;> rcases wn_cp_cases (s + c) with ⟨h3, e3⟩ | ⟨h3, e3⟩ <;> rcases wn_mor_cases (wn_cp s) (wn_cp c) with ⟨h4, h5, e4⟩ | ⟨h4, e4⟩ <;> omega
theorem wn_les_cases (a b : Nat) : (a < 50000 ∧ wn_les a b = a - b) ∨ (50000 ≤ a ∧ wn_les a b = 100000) := by
  unfold wn_les
  by_cases h : a < 50000
  · rw [if_pos h]; exact Or.inl ⟨h, rfl⟩
  · rw [if_neg h]; exact Or.inr ⟨by omega, rfl⟩
theorem wn_as_cases {c : Nat} (h : c ≤ 20) : (c = 20 ∧ wn_as c = 100000) ∨ (c ≤ 19 ∧ wn_as c = c) := by
  unfold wn_as
  by_cases h1 : c = 20
  · rw [if_pos h1]; exact Or.inl ⟨h1, rfl⟩
  · rw [if_neg h1]; exact Or.inr ⟨by omega, rfl⟩
theorem wn_as_fb {c : Nat} (h : c ≤ 20) : wn_fb 19 (wn_as c) := by
  unfold wn_fb
  rcases wn_as_cases h with ⟨h1, e⟩ | ⟨h1, e⟩ <;> omega

/-! sums -/
def wn_sm (f : Nat → Nat) : Nat → Nat
  | 0 => 0
  | n + 1 => wn_sm f n + f n
theorem wn_sm_s (f : Nat → Nat) (n : Nat) : wn_sm f (n + 1) = wn_sm f n + f n := rfl
theorem wn_sm_c {f g : Nat → Nat} : ∀ n, (∀ i, i < n → f i = g i) → wn_sm f n = wn_sm g n := by
  intro n
  induction n with
  | zero => intro _; rfl
  | succ n ih => intro h; rw [wn_sm_s, wn_sm_s, ih (fun i hi => h i (by omega)), h n (by omega)]
theorem wn_sm_le {f g : Nat → Nat} : ∀ n, (∀ i, i < n → f i ≤ g i) → wn_sm f n ≤ wn_sm g n := by
  intro n
  induction n with
  | zero => intro _; exact Nat.le_refl _
  | succ n ih =>
    intro h
    have h1 := ih (fun i hi => h i (by omega))
    have h2 := h n (by omega)
    rw [wn_sm_s, wn_sm_s]; omega
theorem wn_sm_add {f g h : Nat → Nat} : ∀ n, (∀ i, i < n → h i = f i + g i) → wn_sm h n = wn_sm f n + wn_sm g n := by
  intro n
  induction n with
  | zero => intro _; rfl
  | succ n ih =>
    intro hh
    have h1 := ih (fun i hi => hh i (by omega))
    have h2 := hh n (by omega)
    rw [wn_sm_s, wn_sm_s, wn_sm_s]; omega
theorem wn_sm_one {f g : Nat → Nat} {k : Nat} : ∀ n, k < n → (∀ i, i < n → i ≠ k → g i = f i) → wn_sm g n + f k = wn_sm f n + g k := by
  intro n
  induction n with
  | zero => intro h; omega
  | succ n ih =>
    intro hk h
    rw [wn_sm_s, wn_sm_s]
    by_cases e : k = n
    · subst e
      have := wn_sm_c (f := g) (g := f) k (fun i hi => h i (by omega) (by omega))
      omega
    · have h1 := ih (by omega) (fun i hi hn => h i (by omega) hn)
      have h2 := h n (by omega) (fun z => e z.symm)
      omega
theorem wn_sm_ge {f : Nat → Nat} {k : Nat} : ∀ n, k < n → f k ≤ wn_sm f n := by
  intro n
  induction n with
  | zero => intro h; omega
  | succ n ih =>
    intro hk
    rw [wn_sm_s]
    by_cases e : k = n
    · subst e; omega
    · have := ih (by omega); omega
theorem wn_sm_fi {f : Nat → Nat} {B : Nat} : ∀ n, (∀ i, i < n → wn_fi B (f i)) → wn_fi (B * n) (wn_sm f n) := by
  intro n
  induction n with
  | zero => intro _; exact Or.inl (Nat.le_refl _)
  | succ n ih =>
    intro h
    have := wn_fi_add (ih (fun i hi => h i (by omega))) (h n (by omega))
    rw [wn_sm_s, Nat.mul_succ]; exact this
theorem wn_sm_0 {f : Nat → Nat} : ∀ n, (∀ i, i < n → f i = 0) → wn_sm f n = 0 := by
  intro n
  induction n with
  | zero => intro _; rfl
  | succ n ih => intro h; rw [wn_sm_s, ih (fun i hi => h i (by omega)), h n (by omega)]

/-! the least of some numbers, 100000 at most -/
def wn_lst (c : Nat → Nat) : Nat → Nat
  | 0 => 100000
  | a + 1 => if wn_lst c a ≤ c a then wn_lst c a else c a
theorem wn_lst_s (c : Nat → Nat) (a : Nat) : (wn_lst c a ≤ c a ∧ wn_lst c (a + 1) = wn_lst c a) ∨ (c a < wn_lst c a ∧ wn_lst c (a + 1) = c a) := by
  show (wn_lst c a ≤ c a ∧ (if wn_lst c a ≤ c a then wn_lst c a else c a) = wn_lst c a) ∨ (c a < wn_lst c a ∧ (if wn_lst c a ≤ c a then wn_lst c a else c a) = c a)
  by_cases h : wn_lst c a ≤ c a
  · rw [if_pos h]; exact Or.inl ⟨h, rfl⟩
  · rw [if_neg h]; exact Or.inr ⟨by omega, rfl⟩
theorem wn_lst_le (c : Nat → Nat) : ∀ n, wn_lst c n ≤ 100000 ∧ ∀ a, a < n → wn_lst c n ≤ c a := by
  intro n
  induction n with
  | zero => exact ⟨Nat.le_refl _, fun a ha => by omega⟩
  | succ n ih =>
    obtain ⟨h1, h2⟩ := ih
    rcases wn_lst_s c n with ⟨h, e⟩ | ⟨h, e⟩
    · refine ⟨by omega, fun a ha => ?_⟩
      by_cases ea : a = n
      · subst ea; omega
      · have := h2 a (by omega); omega
    · refine ⟨by omega, fun a ha => ?_⟩
      by_cases ea : a = n
      · subst ea; omega
      · have := h2 a (by omega); omega
theorem wn_lst_fb {c : Nat → Nat} {B : Nat} : ∀ n, (∀ a, a < n → wn_fb B (c a)) → wn_fb B (wn_lst c n) := by
  intro n
  induction n with
  | zero => intro _; exact Or.inr rfl
  | succ n ih =>
    intro h
    rcases wn_lst_s c n with ⟨_, e⟩ | ⟨_, e⟩
    · rw [e]; exact ih (fun a ha => h a (by omega))
    · rw [e]; exact h n (by omega)
end
section
/-! 03: what the search adds up, and the whole cost of an assignment -/
/-- what table t asks for the value a of variable v, the variables before m being taken as x -/
def wn_E (W A B x : Nat → Nat) (v a m t : Nat) : Nat :=
  if A t = v then (if B t < m then W (t * 9 + a + 3 * x (B t)) else 0)
  else if B t = v then (if A t < m then W (t * 9 + x (A t) + 3 * a) else 0) else 0
def wn_wt (O W A B : Nat → Nat) (T : Nat) (x : Nat → Nat) (v a m : Nat) : Nat := O (v * 3 + a) + wn_sm (wn_E W A B x v a m) T
def wn_SF (fl : Nat) (O W A B : Nat → Nat) (T : Nat) (x : Nat → Nat) : Nat → Nat
  | 0 => fl
  | m + 1 => wn_SF fl O W A B T x m + wn_wt O W A B T x m (x m) m
def wn_S (fl : Nat) (O W A B : Nat → Nat) (T : Nat) (x : Nat → Nat) : Nat :=
  fl + wn_sm (fun v => O (v * 3 + x v)) 6 + wn_sm (fun t => W (t * 9 + x (A t) + 3 * x (B t))) T
theorem wn_E_1 {W A B x : Nat → Nat} {v a m t : Nat} (h : A t = v) (h2 : B t < m) : wn_E W A B x v a m t = W (t * 9 + a + 3 * x (B t)) := by
  unfold wn_E; rw [if_pos h, if_pos h2]
theorem wn_E_2 {W A B x : Nat → Nat} {v a m t : Nat} (h : A t = v) (h2 : m ≤ B t) : wn_E W A B x v a m t = 0 := by
  unfold wn_E; rw [if_pos h, if_neg (by omega)]
theorem wn_E_3 {W A B x : Nat → Nat} {v a m t : Nat} (h : ¬ A t = v) (h1 : B t = v) (h2 : A t < m) : wn_E W A B x v a m t = W (t * 9 + x (A t) + 3 * a) := by
  unfold wn_E; rw [if_neg h, if_pos h1, if_pos h2]
theorem wn_E_4 {W A B x : Nat → Nat} {v a m t : Nat} (h : ¬ A t = v) (h1 : B t = v) (h2 : m ≤ A t) : wn_E W A B x v a m t = 0 := by
  unfold wn_E; rw [if_neg h, if_pos h1, if_neg (by omega)]
theorem wn_E_5 {W A B x : Nat → Nat} {v a m t : Nat} (h : ¬ A t = v) (h1 : ¬ B t = v) : wn_E W A B x v a m t = 0 := by
  unfold wn_E; rw [if_neg h, if_neg h1]
theorem wn_E_c {W A B x y : Nat → Nat} {v a m t : Nat} (h : ∀ i, i < m → x i = y i) : wn_E W A B x v a m t = wn_E W A B y v a m t := by
  by_cases h1 : A t = v
  · by_cases h2 : B t < m
    · rw [wn_E_1 h1 h2, wn_E_1 h1 h2, h _ h2]
    · rw [wn_E_2 h1 (by omega), wn_E_2 h1 (by omega)]
  · by_cases h3 : B t = v
    · by_cases h2 : A t < m
      · rw [wn_E_3 h1 h3 h2, wn_E_3 h1 h3 h2, h _ h2]
      · rw [wn_E_4 h1 h3 (by omega), wn_E_4 h1 h3 (by omega)]
    · rw [wn_E_5 h1 h3, wn_E_5 h1 h3]
theorem wn_E_m {W A B x : Nat → Nat} {v a m m' t : Nat} (h : m ≤ m') : wn_E W A B x v a m t ≤ wn_E W A B x v a m' t := by
  by_cases h1 : A t = v
  · by_cases h2 : B t < m
    · rw [wn_E_1 h1 h2, wn_E_1 h1 (by omega)]; exact Nat.le_refl _
    · rw [wn_E_2 h1 (by omega)]; exact Nat.zero_le _
  · by_cases h3 : B t = v
    · by_cases h2 : A t < m
      · rw [wn_E_3 h1 h3 h2, wn_E_3 h1 h3 (by omega)]; exact Nat.le_refl _
      · rw [wn_E_4 h1 h3 (by omega)]; exact Nat.zero_le _
    · rw [wn_E_5 h1 h3]; exact Nat.zero_le _
theorem wn_wt_c {O W A B x y : Nat → Nat} {T v a m : Nat} (h : ∀ i, i < m → x i = y i) : wn_wt O W A B T x v a m = wn_wt O W A B T y v a m := by
  unfold wn_wt
  rw [wn_sm_c T (fun t _ => wn_E_c h)]
theorem wn_wt_m {O W A B x : Nat → Nat} {T v a m m' : Nat} (h : m ≤ m') : wn_wt O W A B T x v a m ≤ wn_wt O W A B T x v a m' := by
  unfold wn_wt
  exact Nat.add_le_add_left (wn_sm_le T (fun t _ => wn_E_m h)) _
theorem wn_SF_s (fl : Nat) (O W A B : Nat → Nat) (T : Nat) (x : Nat → Nat) (m : Nat) : wn_SF fl O W A B T x (m + 1) = wn_SF fl O W A B T x m + wn_wt O W A B T x m (x m) m := rfl
theorem wn_SF_c {fl : Nat} {O W A B x y : Nat → Nat} {T : Nat} : ∀ m, (∀ i, i < m → x i = y i) → wn_SF fl O W A B T x m = wn_SF fl O W A B T y m := by
  intro m
  induction m with
  | zero => intro _; rfl
  | succ m ih =>
    intro h
    rw [wn_SF_s, wn_SF_s, ih (fun i hi => h i (by omega)), wn_wt_c (fun i hi => h i (by omega)), h m (by omega)]
/-- the table facts -/
def wn_TF (A B : Nat → Nat) (T : Nat) : Prop := T ≤ 8 ∧ ∀ t, t < T → A t < 6 ∧ B t < 6 ∧ A t ≠ B t
theorem wn_SF_e {fl : Nat} {O W A B x : Nat → Nat} {T : Nat} (h : wn_TF A B T) : ∀ m, wn_SF fl O W A B T x m = fl + wn_sm (fun v => O (v * 3 + x v)) m + wn_sm (fun t => if A t < m ∧ B t < m then W (t * 9 + x (A t) + 3 * x (B t)) else 0) T := by
  intro m
  induction m with
  | zero =>
    rw [wn_sm_0 (f := fun t => if A t < 0 ∧ B t < 0 then W (t * 9 + x (A t) + 3 * x (B t)) else 0) T (fun t _ => if_neg (by omega))]
    rfl
  | succ m ih =>
    have e := wn_sm_add (f := fun t => if A t < m ∧ B t < m then W (t * 9 + x (A t) + 3 * x (B t)) else 0) (g := wn_E W A B x m (x m) m) (h := fun t => if A t < m + 1 ∧ B t < m + 1 then W (t * 9 + x (A t) + 3 * x (B t)) else 0) T (by
      intro t ht
      obtain ⟨_, _, hne⟩ := h.2 t ht
      show (if A t < m + 1 ∧ B t < m + 1 then W (t * 9 + x (A t) + 3 * x (B t)) else 0) = (if A t < m ∧ B t < m then W (t * 9 + x (A t) + 3 * x (B t)) else 0) + wn_E W A B x m (x m) m t
      by_cases h1 : A t = m
      · rw [if_neg (c := A t < m ∧ B t < m) (by omega)]
        by_cases h2 : B t < m
        · rw [wn_E_1 h1 h2, if_pos (by omega), h1, Nat.zero_add]
        · rw [wn_E_2 h1 (by omega), if_neg (by omega)]
      · by_cases h3 : B t = m
        · rw [if_neg (c := A t < m ∧ B t < m) (by omega)]
          by_cases h2 : A t < m
          · rw [wn_E_3 h1 h3 h2, if_pos (by omega), h3, Nat.zero_add]
          · rw [wn_E_4 h1 h3 (by omega), if_neg (by omega)]
        · rw [wn_E_5 h1 h3]
          by_cases h4 : A t < m ∧ B t < m
          · rw [if_pos h4, if_pos (by omega)]; rfl
          · rw [if_neg h4, if_neg (by omega)])
    rw [wn_SF_s, ih, e, wn_sm_s]
    unfold wn_wt
    omega
theorem wn_SF_6 {fl : Nat} {O W A B x : Nat → Nat} {T : Nat} (h : wn_TF A B T) : wn_SF fl O W A B T x 6 = wn_S fl O W A B T x := by
  rw [wn_SF_e h]
  unfold wn_S
  rw [wn_sm_c (f := fun t => if A t < 6 ∧ B t < 6 then W (t * 9 + x (A t) + 3 * x (B t)) else 0) (g := fun t => W (t * 9 + x (A t) + 3 * x (B t))) T (fun t ht => if_pos ⟨(h.2 t ht).1, (h.2 t ht).2.1⟩)]
/-- entries of the moved tables -/
def wn_OW (O W : Nat → Nat) (T : Nat) : Prop := (∀ i, i < 18 → wn_fb 1000 (O i)) ∧ (∀ i, i < T * 9 → wn_fb 19 (W i))
theorem wn_E_fi {O W A B x : Nat → Nat} {T v a m t : Nat} (h : wn_TF A B T) (hw : wn_OW O W T) (ht : t < T) (ha : a < 3) (hx : ∀ i, i < m → x i < 3) : wn_fi 19 (wn_E W A B x v a m t) := by
  by_cases h1 : A t = v
  · by_cases h2 : B t < m
    · rw [wn_E_1 h1 h2]
      have := hx _ h2
      exact wn_fb_fi (hw.2 _ (by omega))
    · rw [wn_E_2 h1 (by omega)]; exact Or.inl (Nat.zero_le _)
  · by_cases h3 : B t = v
    · by_cases h2 : A t < m
      · rw [wn_E_3 h1 h3 h2]
        have := hx _ h2
        exact wn_fb_fi (hw.2 _ (by omega))
      · rw [wn_E_4 h1 h3 (by omega)]; exact Or.inl (Nat.zero_le _)
    · rw [wn_E_5 h1 h3]; exact Or.inl (Nat.zero_le _)
theorem wn_wtk_fi {O W A B x : Nat → Nat} {T v a m k : Nat} (h : wn_TF A B T) (hw : wn_OW O W T) (hk : k ≤ T) (hv : v < 6) (ha : a < 3) (hx : ∀ i, i < m → x i < 3) : wn_fi 1200 (O (v * 3 + a) + wn_sm (wn_E W A B x v a m) k) := by
  have h1 := wn_fb_fi (hw.1 (v * 3 + a) (by omega))
  have h2 := wn_sm_fi (f := wn_E W A B x v a m) (B := 19) k (fun t ht => wn_E_fi h hw (by omega) ha hx)
  have h3 := h.1
  exact wn_fi_mono (wn_fi_add h1 h2) (by omega)
theorem wn_wt_fi {O W A B x : Nat → Nat} {T v a m : Nat} (h : wn_TF A B T) (hw : wn_OW O W T) (hv : v < 6) (ha : a < 3) (hx : ∀ i, i < m → x i < 3) : wn_fi 1200 (wn_wt O W A B T x v a m) := wn_wtk_fi h hw (Nat.le_refl _) hv ha hx
theorem wn_SF_fi {fl : Nat} {O W A B x : Nat → Nat} {T : Nat} (h : wn_TF A B T) (hw : wn_OW O W T) (hf : wn_fb 6000 fl) : ∀ m, m ≤ 6 → (∀ i, i < m → x i < 3) → wn_fi (6000 + 1200 * m) (wn_SF fl O W A B T x m) := by
  intro m
  induction m with
  | zero => intro _ _; exact wn_fb_fi hf
  | succ m ih =>
    intro hm hx
    rw [wn_SF_s]
    exact wn_fi_mono (wn_fi_add (ih (by omega) (fun i hi => hx i (by omega))) (wn_wt_fi h hw (by omega) (hx m (by omega)) (fun i hi => hx i (by omega)))) (by omega)
theorem wn_SF_low {fl : Nat} {O W A B y : Nat → Nat} {T m : Nat} : ∀ j, wn_SF fl O W A B T y m + wn_sm (fun i => wn_wt O W A B T y (m + i) (y (m + i)) m) j ≤ wn_SF fl O W A B T y (m + j) := by
  intro j
  induction j with
  | zero => exact Nat.le_refl _
  | succ j ih =>
    have h1 : wn_wt O W A B T y (m + j) (y (m + j)) m ≤ wn_wt O W A B T y (m + j) (y (m + j)) (m + j) := wn_wt_m (by omega)
    have h2 := wn_SF_s fl O W A B T y (m + j)
    rw [wn_sm_s]
    show wn_SF fl O W A B T y m + (wn_sm (fun i => wn_wt O W A B T y (m + i) (y (m + i)) m) j + wn_wt O W A B T y (m + j) (y (m + j)) m) ≤ wn_SF fl O W A B T y (m + j + 1)
    omega
/-- what a value of a variable ahead costs at least; op: may it be taken -/
def wn_cc (op : Nat → Nat → Bool) (O W A B : Nat → Nat) (T : Nat) (x : Nat → Nat) (m v a : Nat) : Nat := if op v a = true then wn_cp (wn_wt O W A B T x v a m) else 100000
def wn_ah (op : Nat → Nat → Bool) (O W A B : Nat → Nat) (T : Nat) (x : Nat → Nat) (m i : Nat) : Nat := wn_lst (wn_cc op O W A B T x m (m + i)) 3
theorem wn_cc_fb {op : Nat → Nat → Bool} {O W A B x : Nat → Nat} {T m v a : Nat} (h : wn_TF A B T) (hw : wn_OW O W T) (hv : v < 6) (ha : a < 3) (hx : ∀ i, i < m → x i < 3) : wn_fb 1200 (wn_cc op O W A B T x m v a) := by
  unfold wn_cc
  by_cases e : op v a = true
  · rw [if_pos e]; exact wn_cp_fb (wn_wt_fi h hw hv ha hx) (by omega)
  · rw [if_neg e]; exact Or.inr rfl
theorem wn_ah_fb {op : Nat → Nat → Bool} {O W A B x : Nat → Nat} {T m i : Nat} (h : wn_TF A B T) (hw : wn_OW O W T) (hv : m + i < 6) (hx : ∀ i, i < m → x i < 3) : wn_fb 1200 (wn_ah op O W A B T x m i) :=
  wn_lst_fb 3 (fun _ ha => wn_cc_fb h hw hv ha hx)
theorem wn_ahk_fi {op : Nat → Nat → Bool} {O W A B x : Nat → Nat} {T m k : Nat} (h : wn_TF A B T) (hw : wn_OW O W T) (hv : m + k ≤ 6) (hx : ∀ i, i < m → x i < 3) : wn_fi 7200 (wn_sm (wn_ah op O W A B T x m) k) :=
  wn_fi_mono (wn_sm_fi (B := 1200) k (fun i hi => wn_fb_fi (wn_ah_fb h hw (by omega) hx))) (by omega)
/-- the bound is one: an allowed leaf below costs at least so much -/
theorem wn_bound {op : Nat → Nat → Bool} {fl : Nat} {O W A B x y : Nat → Nat} {T m : Nat} (h : wn_TF A B T) (hw : wn_OW O W T) (hm : m ≤ 6) (hxy : ∀ i, i < m → y i = x i) (hy : ∀ i, i < 6 → y i < 3)
    (hop : ∀ v, v < 6 → op v (y v) = true) (hs : wn_SF fl O W A B T y 6 < 50000) : wn_cp (wn_SF fl O W A B T x m + wn_sm (wn_ah op O W A B T x m) (6 - m)) ≤ wn_SF fl O W A B T y 6 := by
  have hx : ∀ i, i < m → x i < 3 := fun i hi => by rw [← hxy i hi]; exact hy i (by omega)
  have h1 := wn_SF_low (fl := fl) (O := O) (W := W) (A := A) (B := B) (y := y) (T := T) (m := m) (6 - m)
  rw [show m + (6 - m) = 6 by omega] at h1
  have h2 : wn_sm (wn_ah op O W A B T x m) (6 - m) ≤ wn_sm (fun i => wn_wt O W A B T y (m + i) (y (m + i)) m) (6 - m) := by
    refine wn_sm_le _ (fun i hi => ?_)
    have h3 : wn_ah op O W A B T x m i ≤ wn_cc op O W A B T x m (m + i) (y (m + i)) := (wn_lst_le _ 3).2 _ (hy _ (by omega))
    have h4 : wn_cc op O W A B T x m (m + i) (y (m + i)) = wn_cp (wn_wt O W A B T x (m + i) (y (m + i)) m) := if_pos (hop _ (by omega))
    have h5 := wn_cp_self (wn_wt_fi (v := m + i) (a := y (m + i)) h hw (by omega) (hy _ (by omega)) hx) (by omega)
    have h6 : wn_wt O W A B T x (m + i) (y (m + i)) m = wn_wt O W A B T y (m + i) (y (m + i)) m := wn_wt_c (fun i hi => (hxy i hi).symm)
    show wn_ah op O W A B T x m i ≤ wn_wt O W A B T y (m + i) (y (m + i)) m
    omega
  have h7 : wn_SF fl O W A B T x m = wn_SF fl O W A B T y m := wn_SF_c m (fun i hi => (hxy i hi).symm)
  rw [wn_cp_lt (by omega)]
  omega
end
section
/-! 04: the leaves in their order, and the fold over them -/
def wn_dg (q v : Nat) : Nat := q / 3 ^ (5 - v) % 3
theorem wn_dg_lt (q v : Nat) : wn_dg q v < 3 := Nat.mod_lt _ (by decide)
def wn_px (x : Nat → Nat) : Nat → Nat
  | 0 => 0
  | m + 1 => wn_px x m * 3 + x m
theorem wn_px_s (x : Nat → Nat) (m : Nat) : wn_px x (m + 1) = wn_px x m * 3 + x m := rfl
theorem wn_px_c {x y : Nat → Nat} : ∀ m, (∀ i, i < m → x i = y i) → wn_px x m = wn_px y m := by
  intro m
  induction m with
  | zero => intro _; rfl
  | succ m ih => intro h; rw [wn_px_s, wn_px_s, ih (fun i hi => h i (by omega)), h m (by omega)]
theorem wn_px_lt {x : Nat → Nat} : ∀ m, (∀ i, i < m → x i < 3) → wn_px x m < 3 ^ m := by
  intro m
  induction m with
  | zero => intro _; exact Nat.one_pos
  | succ m ih =>
    intro h
    have h1 := ih (fun i hi => h i (by omega))
    have h2 := h m (by omega)
    rw [wn_px_s, Nat.pow_succ]; omega
theorem wn_p3 {L : Nat} (h : L < 6) : 3 ^ (6 - L) = 3 ^ (5 - L) * 3 := by
  rw [show 6 - L = (5 - L) + 1 by omega, Nat.pow_succ]
theorem wn_p3' {L : Nat} (h : L < 5) : 3 ^ (5 - L) = 3 ^ (5 - (L + 1)) * 3 := by
  rw [show 5 - L = (5 - (L + 1)) + 1 by omega, Nat.pow_succ]
theorem wn_pp (k : Nat) : 0 < 3 ^ k := Nat.pow_pos (by decide)
/-- the first digits of a leaf below a node -/
theorem wn_px_dg {x : Nat → Nat} {q : Nat} : ∀ m, m ≤ 6 → (∀ i, i < m → x i < 3) → q / 3 ^ (6 - m) = wn_px x m → ∀ i, i < m → wn_dg q i = x i := by
  intro m
  induction m with
  | zero => intro _ _ _ i hi; omega
  | succ m ih =>
    intro hm hx hq i hi
    have e5 : 6 - (m + 1) = 5 - m := by omega
    rw [e5, wn_px_s] at hq
    have hxm := hx m (by omega)
    by_cases e : i = m
    · subst e
      unfold wn_dg
      rw [hq]; omega
    · refine ih (by omega) (fun i hi => hx i (by omega)) ?_ i (by omega)
      rw [wn_p3 (by omega), ← Nat.div_div_eq_div_mul, hq]
      omega
/-- one leaf more: b: is it asked for; k: its cost -/
def wn_st (lim : Nat → Nat → Bool) (b : Bool) (k q : Nat) (s : Nat × Nat × Nat) : Nat × Nat × Nat :=
  if b = true ∧ k < 50000 ∧ lim s.2.1 k = true then (s.1 + 1, if k < s.2.1 then k else s.2.1, if k < s.2.1 then q else s.2.2) else s
def wn_fd (K : Nat → Nat) (ok : Nat → Bool) (lim : Nat → Nat → Bool) : Nat → Nat × Nat × Nat
  | 0 => (0, 100000, 0)
  | q + 1 => wn_st lim (ok q) (K q) q (wn_fd K ok lim q)
theorem wn_fd_s (K : Nat → Nat) (ok : Nat → Bool) (lim : Nat → Nat → Bool) (q : Nat) : wn_fd K ok lim (q + 1) = wn_st lim (ok q) (K q) q (wn_fd K ok lim q) := rfl
theorem wn_st_no {lim : Nat → Nat → Bool} {b : Bool} {k q : Nat} {s : Nat × Nat × Nat} (h : ¬ (b = true ∧ k < 50000 ∧ lim s.2.1 k = true)) : wn_st lim b k q s = s := if_neg h
theorem wn_st_yes {lim : Nat → Nat → Bool} {b : Bool} {k q : Nat} {s : Nat × Nat × Nat} (h : b = true ∧ k < 50000 ∧ lim s.2.1 k = true) : wn_st lim b k q s = (s.1 + 1, if k < s.2.1 then k else s.2.1, if k < s.2.1 then q else s.2.2) := if_pos h
theorem wn_fd_skip {K : Nat → Nat} {ok : Nat → Bool} {lim : Nat → Nat → Bool} {p : Nat} : ∀ j, (∀ q, p ≤ q → q < p + j → ¬ (ok q = true ∧ K q < 50000 ∧ lim (wn_fd K ok lim p).2.1 (K q) = true)) → wn_fd K ok lim (p + j) = wn_fd K ok lim p := by
  intro j
  induction j with
  | zero => intro _; rfl
  | succ j ih =>
    intro h
    have e := ih (fun q h1 h2 => h q h1 (by omega))
    show wn_fd K ok lim (p + j + 1) = _
    rw [wn_fd_s, e]
    exact wn_st_no (h (p + j) (by omega) (by omega))
theorem wn_fd_skip' {K : Nat → Nat} {ok : Nat → Bool} {lim : Nat → Nat → Bool} {p p' : Nat} (hp : p ≤ p') (h : ∀ q, p ≤ q → q < p' → ¬ (ok q = true ∧ K q < 50000 ∧ lim (wn_fd K ok lim p).2.1 (K q) = true)) : wn_fd K ok lim p' = wn_fd K ok lim p := by
  have := wn_fd_skip (K := K) (ok := ok) (lim := lim) (p := p) (p' - p) (fun q h1 h2 => h q h1 (by omega))
  rw [show p + (p' - p) = p' by omega] at this
  exact this
/-- the fold's numbers stay small; the best one is a leaf's cost, its leaf an asked one -/
theorem wn_fd_in {K : Nat → Nat} {ok : Nat → Bool} {lim : Nat → Nat → Bool} : ∀ p, (wn_fd K ok lim p).1 ≤ p ∧ (wn_fd K ok lim p).2.1 ≤ 100000 ∧ ((wn_fd K ok lim p).2.1 < 50000 → (wn_fd K ok lim p).2.2 < p ∧ ok (wn_fd K ok lim p).2.2 = true ∧ K (wn_fd K ok lim p).2.2 = (wn_fd K ok lim p).2.1) ∧ (50000 ≤ (wn_fd K ok lim p).2.1 → (wn_fd K ok lim p).2.1 = 100000) := by
  intro p
  induction p with
  | zero => exact ⟨Nat.le_refl _, Nat.le_refl _, fun h => absurd h (by show ¬ (100000 : Nat) < 50000; omega), fun _ => rfl⟩
  | succ p ih =>
    obtain ⟨h1, h2, h3, h4⟩ := ih
    rw [wn_fd_s]
    by_cases c : ok p = true ∧ K p < 50000 ∧ lim (wn_fd K ok lim p).2.1 (K p) = true
    · rw [wn_st_yes c]
      by_cases c2 : K p < (wn_fd K ok lim p).2.1
      · rw [if_pos c2, if_pos c2]
        exact ⟨by show (wn_fd K ok lim p).1 + 1 ≤ p + 1; omega, by show K p ≤ 100000; omega, fun _ => ⟨by show p < p + 1; omega, c.1, rfl⟩, fun h => absurd h (by show ¬ 50000 ≤ K p; omega)⟩
      · rw [if_neg c2, if_neg c2]
        refine ⟨by show (wn_fd K ok lim p).1 + 1 ≤ p + 1; omega, h2, fun h => ?_, h4⟩
        obtain ⟨a, b, d⟩ := h3 h
        exact ⟨by show (wn_fd K ok lim p).2.2 < p + 1; omega, b, d⟩
    · rw [wn_st_no c]
      refine ⟨by omega, h2, fun h => ?_, h4⟩
      obtain ⟨a, b, d⟩ := h3 h
      exact ⟨by omega, b, d⟩
/-- the limit of a search that shrinks -/
def wn_l1 (b k : Nat) : Bool := if b ≤ 49999 then decide (k < b) else decide (k ≤ 49999)
/-- .. of one that doesn't -/
def wn_l0 (n b k : Nat) : Bool := decide (k ≤ n)
theorem wn_l1_iff {b k : Nat} (hk : k < 50000) : wn_l1 b k = true ↔ k < b := by
  unfold wn_l1
  by_cases h : b ≤ 49999
  · rw [if_pos h]; exact decide_eq_true_iff
  · rw [if_neg h]
    constructor
    · intro _; omega
    · intro _; exact decide_eq_true (by omega)
/-- a shrinking fold's best is least -/
theorem wn_fd_min {K : Nat → Nat} {ok : Nat → Bool} : ∀ p q, q < p → ok q = true → K q < 50000 → (wn_fd K ok wn_l1 p).2.1 ≤ K q := by
  intro p
  induction p with
  | zero => intro q h; omega
  | succ p ih =>
    intro q hq ho hk
    rw [wn_fd_s]
    by_cases c : ok p = true ∧ K p < 50000 ∧ wn_l1 (wn_fd K ok wn_l1 p).2.1 (K p) = true
    · rw [wn_st_yes c]
      have c2 : K p < (wn_fd K ok wn_l1 p).2.1 := (wn_l1_iff c.2.1).mp c.2.2
      rw [if_pos c2]
      show K p ≤ K q
      by_cases e : q = p
      · subst e; omega
      · have := ih q (by omega) ho hk; omega
    · rw [wn_st_no c]
      by_cases e : q = p
      · subst e
        have c3 : ¬ K q < (wn_fd K ok wn_l1 q).2.1 := fun z => c ⟨ho, hk, (wn_l1_iff hk).mpr z⟩
        omega
      · exact ih q (by omega) ho hk
/-! the measure of the search: steps that are left -/
def wn_g (i n : Nat) : Nat := (3 - n) * (2 * 3 ^ (5 - i) - 1) + 1
def wn_ph (nv : Nat → Nat) (L : Nat) : Nat := wn_sm (fun i => wn_g i (nv i)) (L + 1)
theorem wn_g_s {i d : Nat} (h : d < 3) : wn_g i d = wn_g i (d + 1) + (2 * 3 ^ (5 - i) - 1) := by
  unfold wn_g
  generalize 2 * 3 ^ (5 - i) - 1 = k
  have : d = 0 ∨ d = 1 ∨ d = 2 := by omega
  rcases this with rfl | rfl | rfl <;> omega
theorem wn_g_le {i d : Nat} (h : i < 5) : wn_g (i + 1) d + 2 ≤ 2 * 3 ^ (5 - i) := by
  unfold wn_g
  rw [wn_p3' h]
  have h1 := wn_pp (5 - (i + 1))
  generalize 3 ^ (5 - (i + 1)) = k at h1 ⊢
  have h2 : (3 - d) * (2 * k - 1) ≤ 3 * (2 * k - 1) := Nat.mul_le_mul_right _ (by omega)
  omega
theorem wn_g_pos (i d : Nat) : 1 ≤ wn_g i d := by unfold wn_g; omega
def wn_up (x : Nat → Nat) (k d : Nat) : Nat → Nat := fun i => if i = k then d else x i
theorem wn_up_s {x : Nat → Nat} {k d : Nat} : wn_up x k d k = d := if_pos rfl
theorem wn_up_n {x : Nat → Nat} {k d i : Nat} (h : i ≠ k) : wn_up x k d i = x i := if_neg h
theorem wn_ph_up {nv : Nat → Nat} {L : Nat} : wn_ph nv L + 1 ≤ wn_ph nv (L + 1) := by
  unfold wn_ph
  have := wn_sm_s (fun i => wn_g i (nv i)) (L + 1)
  have h := wn_g_pos (L + 1) (nv (L + 1))
  rw [this]
  show _ + 1 ≤ _ + wn_g (L + 1) (nv (L + 1))
  omega
theorem wn_ph_st {nv : Nat → Nat} {L : Nat} (h : nv L < 3) : wn_ph (wn_up nv L (nv L + 1)) L + (2 * 3 ^ (5 - L) - 1) = wn_ph nv L := by
  unfold wn_ph
  rw [wn_sm_s, wn_sm_s]
  have e := wn_sm_c (f := fun i => wn_g i (wn_up nv L (nv L + 1) i)) (g := fun i => wn_g i (nv i)) L (fun i hi => by show wn_g i (wn_up nv L (nv L + 1) i) = wn_g i (nv i); rw [wn_up_n (by omega)])
  rw [e]
  show _ + wn_g L (wn_up nv L (nv L + 1) L) + _ = _ + wn_g L (nv L)
  rw [wn_up_s, wn_g_s h]
  omega
theorem wn_ph_dn {nv : Nat → Nat} {L d : Nat} (h : nv L < 3) (hL : L < 5) : wn_ph (wn_up (wn_up nv L (nv L + 1)) (L + 1) d) (L + 1) + 1 ≤ wn_ph nv L := by
  have h1 := wn_ph_st h
  have h2 := wn_g_le (d := d) hL
  have h3 := wn_pp (5 - L)
  have e : wn_ph (wn_up (wn_up nv L (nv L + 1)) (L + 1) d) (L + 1) = wn_ph (wn_up nv L (nv L + 1)) L + wn_g (L + 1) d := by
    unfold wn_ph
    rw [wn_sm_s _ (L + 1)]
    show _ + wn_g (L + 1) (wn_up (wn_up nv L (nv L + 1)) (L + 1) d (L + 1)) = _
    rw [wn_up_s]
    congr 1
    refine wn_sm_c _ (fun i hi => ?_)
    show wn_g i (wn_up (wn_up nv L (nv L + 1)) (L + 1) d i) = _
    rw [wn_up_n (by omega)]
  omega
theorem wn_ph_0 {nv : Nat → Nat} : wn_ph nv 0 ≤ 1456 := by
  show 0 + wn_g 0 (nv 0) ≤ 1456
  unfold wn_g
  have h2 : (3 - nv 0) * (2 * 3 ^ (5 - 0) - 1) ≤ 3 * (2 * 3 ^ (5 - 0) - 1) := Nat.mul_le_mul_right _ (by omega)
  have e : 3 * (2 * 3 ^ (5 - 0) - 1) = 1455 := by decide
  omega
end
section
/-! 05: X: the small walks -/
theorem wn_n10 : ¬ (1 : Int32) = 0 := by decide
theorem wn_i3 (v a : Nat) : (nI v * 3) + nI a = nI (v * 3 + a) := by
  rw [show (3 : Int32) = nI 3 from rfl, pk_mul, nI_add]
theorem wn_i9 (t a b : Nat) : ((nI t * 9) + nI a) + (3 * nI b) = nI (t * 9 + a + 3 * b) := by
  rw [show (9 : Int32) = nI 9 from rfl, show (3 : Int32) = nI 3 from rfl, pk_mul, pk_mul, nI_add, nI_add]
theorem wn_i9' (t a : Nat) : (nI t * 9) + nI a = nI (t * 9 + a) := by
  rw [show (9 : Int32) = nI 9 from rfl, pk_mul, nI_add]
theorem wn_xmore {post : Int32 → Prop} {x y : Int32} (a b : Nat) (h : post (nI (wn_mor a b))) (hx : x = nI a) (hy : y = nI b) (ha : a ≤ 100000) (hb : b ≤ 100000) : wpX_more post x y := by
  subst hx hy
  unfold wpX_more
  rcases wn_mor_cases a b with ⟨h1, h2, e⟩ | ⟨h1, e⟩
  · rw [e, ← nI_add] at h
    exact br_f (nI_ge (b := 50000) h1 (by omega)) (br_t (nI_lt (b := 50000) h2 (by omega)) h)
  · rw [e] at h
    by_cases h2 : 50000 ≤ a
    · exact br_t (nI_le (a := 50000) h2 (by omega)) h
    · exact br_f (nI_ge (b := 50000) (by omega) (by omega)) (br_f (nI_nlt (b := 50000) (by omega) (by omega)) h)
theorem wn_xmorc {post : Int32 → Prop} {x y : Int32} {B B' : Nat} (s c : Nat) (h : post (nI (wn_cp (s + c)))) (hx : x = nI (wn_cp s)) (hy : y = nI (wn_cp c)) (hs : wn_fi B s) (hc : wn_fi B' c) (hB : B + B' < 50000) : wpX_more post x y :=
  wn_xmore (wn_cp s) (wn_cp c) (by rw [wn_mor_cp hs hc hB]; exact h) hx hy (wn_cp_le _) (wn_cp_le _)
theorem wn_xless {post : Int32 → Prop} {x y : Int32} (a b : Nat) (h : post (nI (wn_les a b))) (hx : x = nI a) (hy : y = nI b) (hba : a < 50000 → b ≤ a) (ha : a ≤ 100000) : wpX_less post x y := by
  subst hx hy
  unfold wpX_less
  rcases wn_les_cases a b with ⟨h1, e⟩ | ⟨h1, e⟩
  · rw [e, ← pk_sub (hba h1)] at h
    exact br_t (nI_lt (b := 50000) h1 (by omega)) h
  · rw [e] at h
    exact br_f (nI_nlt (b := 50000) h1 (by omega)) h
theorem wn_xas {post : Int32 → Prop} {x : Int32} (c : Nat) (h : post (nI (wn_as c))) (hx : x = nI c) (hc : c ≤ 20) : wpX_asMoved post x := by
  subst hx
  unfold wpX_asMoved
  rcases wn_as_cases hc with ⟨h1, e⟩ | ⟨h1, e⟩
  · rw [e] at h
    exact br_t (by rw [h1]; rfl) h
  · rw [e] at h
    exact br_f (fun z => by have := (nI_eq (a := c) (b := 20) (by omega) (by omega)).mp z; omega) h
theorem wn_xpA {post : Int32 → Prop} (t a b : Nat) (h : post (nI (t * 9 + a + 3 * b))) : wpX_pairAt post (nI t) (nI a) (nI b) 1 := by
  unfold wpX_pairAt
  rw [← wn_i9] at h
  exact br_f wn_n10 h
theorem wn_xpB {post : Int32 → Prop} (t a b : Nat) (h : post (nI (t * 9 + b + 3 * a))) : wpX_pairAt post (nI t) (nI a) (nI b) 0 := by
  unfold wpX_pairAt
  rw [← wn_i9] at h
  exact br_t rfl h
/-- the moved costs as X holds them -/
def wn_XM (T : Nat) (A B O W : Nat → Nat) (fl : Nat) (f_tables f_floor : Int32) (a_overX a_overY a_one a_two : Nat → Int32) : Prop :=
  wn_TF A B T ∧ wn_OW O W T ∧ wn_fb 6000 fl ∧ f_tables = nI T ∧ f_floor = nI fl ∧ (∀ t, t < T → a_overX t = nI (A t) ∧ a_overY t = nI (B t)) ∧ (∀ i, i < 18 → a_one i = nI (O i)) ∧ (∀ i, i < T * 9 → a_two i = nI (W i))
def wn_Tk (m : Nat) (x : Nat → Nat) (a_taken : Nat → Int32) : Prop := ∀ i, i < m → a_taken i = nI (x i) ∧ x i < 3
section
variable {f_tables f_ready f_floor f_found f_best : Int32} {a_cost a_overX a_overY a_pairCost a_one a_two a_fixed a_taken a_sofar a_nextValue a_bestValues : Nat → Int32}
variable {T fl : Nat} {O W A B x : Nat → Nat}
theorem wn_xwt15 {post : Int32 → Prop} {v a m : Nat} (M : wn_XM T A B O W fl f_tables f_floor a_overX a_overY a_one a_two) (K : wn_Tk m x a_taken) (hv : v < 6) (ha : a < 3) (hm : m ≤ 6) (hp : post (nI (wn_cp (wn_wt O W A B T x v a m)))) :
    ∀ j k n, k + j = T → j < n → wX_withTaken_15 post (nI v) (nI a) (nI m) f_tables f_ready f_floor f_found f_best a_cost a_overX a_overY a_pairCost a_one a_two a_fixed a_taken a_sofar a_nextValue a_bestValues n (nI (wn_cp (O (v * 3 + a) + wn_sm (wn_E W A B x v a m) k))) (nI k) := by
  obtain ⟨hTF, hOW, hfl, eT, efl, hAB, hO, hW⟩ := M
  have hT := hTF.1
  intro j
  induction j with
  | zero =>
    intro k n hk hn
    obtain ⟨n, rfl⟩ : ∃ n', n = n' + 1 := ⟨n - 1, by omega⟩
    have ek : k = T := by omega
    rw [ek, wX_withTaken_15]
    exact br_t (by rw [eT]; exact nI_le (by omega) (by omega)) hp
  | succ j ih =>
    intro k n hk hn
    obtain ⟨n, rfl⟩ : ∃ n', n = n' + 1 := ⟨n - 1, by omega⟩
    have hkT : k < T := by omega
    have c : (nI k).toNatClampNeg = k := nI_clamp (by omega)
    have v8 : vp_in (nI k) 8 := vp_in_nI (by omega) (by omega)
    obtain ⟨eA, eB⟩ := hAB k hkT
    obtain ⟨lA, lB, hne⟩ := hTF.2 k hkT
    have hfi := wn_wtk_fi (v := v) (a := a) (m := m) (x := x) (k := k) hTF hOW (by omega) hv ha (fun i hi => (K i hi).2)
    have nx := ih (k + 1) n (by omega) (by omega)
    rw [wn_sm_s, ← Nat.add_assoc] at nx
    rw [wX_withTaken_15]
    refine br_f (by rw [eT]; exact nI_ge (by omega) (by omega)) ⟨v8, ?_⟩
    rw [c, eA]
    by_cases h1 : A k = v
    · refine br_t (by rw [h1]) ?_
      unfold wX_withTaken_40
      refine br_f wn_n10 ⟨v8, ?_⟩
      unfold wX_withTaken_64
      refine br_f wn_n10 ?_
      unfold wX_withTaken_82
      rw [c, eB]
      by_cases h2 : B k < m
      · rw [wn_E_1 h1 h2] at nx
        have hx3 := (K _ h2).2
        have hi : k * 9 + a + 3 * x (B k) < T * 9 := by omega
        refine br_f (nI_ge h2 (by omega)) ⟨vp_in_nI lB (by omega), ?_⟩
        rw [nI_clamp (by omega), (K _ h2).1]
        refine wn_xpA k a (x (B k)) ⟨vp_in_nI (by omega) (by omega), ?_⟩
        exact wn_xmorc _ (W (k * 9 + a + 3 * x (B k))) (nm_r (nI_1 k) nx) rfl (by rw [nI_clamp (by omega), hW _ hi, wn_fb_cp (hOW.2 _ hi) (by omega)]) hfi (wn_fb_fi (hOW.2 _ hi)) (by omega)
      · rw [wn_E_2 h1 (by omega), Nat.add_zero] at nx
        exact br_t (nI_le (by omega) (by omega)) (nm_r (nI_1 k) nx)
    · refine br_f (fun z => h1 ((nI_eq (by omega) (by omega)).mp z)) ?_
      unfold wX_withTaken_40
      refine br_t rfl ⟨v8, ?_⟩
      unfold wX_withTaken_64
      refine br_t rfl ⟨v8, ?_⟩
      rw [c, eB, eA]
      by_cases h3 : B k = v
      · refine br_t (by rw [h3]) ?_
        unfold wX_withTaken_82
        by_cases h2 : A k < m
        · rw [wn_E_3 h1 h3 h2] at nx
          have hx3 := (K _ h2).2
          have hi : k * 9 + x (A k) + 3 * a < T * 9 := by omega
          refine br_f (nI_ge h2 (by omega)) ⟨vp_in_nI lA (by omega), ?_⟩
          rw [nI_clamp (by omega), (K _ h2).1]
          refine wn_xpB k a (x (A k)) ⟨vp_in_nI (by omega) (by omega), ?_⟩
          exact wn_xmorc _ (W (k * 9 + x (A k) + 3 * a)) (nm_r (nI_1 k) nx) rfl (by rw [nI_clamp (by omega), hW _ hi, wn_fb_cp (hOW.2 _ hi) (by omega)]) hfi (wn_fb_fi (hOW.2 _ hi)) (by omega)
        · rw [wn_E_4 h1 h3 (by omega), Nat.add_zero] at nx
          exact br_t (nI_le (by omega) (by omega)) (nm_r (nI_1 k) nx)
      · rw [wn_E_5 h1 h3, Nat.add_zero] at nx
        exact br_f (fun z => h3 ((nI_eq (by omega) (by omega)).mp z)) (nm_r (nI_1 k) nx)
theorem wn_xwt {post : Int32 → Prop} {v a m : Nat} (M : wn_XM T A B O W fl f_tables f_floor a_overX a_overY a_one a_two) (K : wn_Tk m x a_taken) (hv : v < 6) (ha : a < 3) (hm : m ≤ 6) (hp : post (nI (wn_cp (wn_wt O W A B T x v a m)))) :
    wpX_withTaken post (f_tables, f_ready, f_floor, f_found, f_best, a_cost, a_overX, a_overY, a_pairCost, a_one, a_two, a_fixed, a_taken, a_sofar, a_nextValue, a_bestValues) (nI v) (nI a) (nI m) := by
  have L := wn_xwt15 (f_ready := f_ready) (f_found := f_found) (f_best := f_best) (a_cost := a_cost) (a_pairCost := a_pairCost) (a_fixed := a_fixed) (a_sofar := a_sofar) (a_nextValue := a_nextValue) (a_bestValues := a_bestValues) M K hv ha hm hp T 0 (T + 1) (by omega) (by omega)
  obtain ⟨hTF, hOW, hfl, eT, efl, hAB, hO, hW⟩ := M
  have e : a_one ((nI v * 3) + nI a).toNatClampNeg = nI (wn_cp (O (v * 3 + a) + wn_sm (wn_E W A B x v a m) 0)) := by
    rw [wn_i3, nI_clamp (by omega), hO _ (by omega)]
    show nI (O (v * 3 + a)) = nI (wn_cp (O (v * 3 + a)))
    rw [wn_fb_cp (hOW.1 _ (by omega)) (by omega)]
  unfold wpX_withTaken
  refine ⟨by rw [wn_i3]; exact vp_in_nI (by omega) (by omega), nm_r e ⟨T + 1, L⟩⟩
end
end
section
/-! 06: X: variables that are fixed, and the walks of ahead, lastValue, take, freeAll and the like -/
def wn_op (F : Nat → Int32) (v a : Nat) : Bool := decide (F v < 0) || decide (F v = nI a)
def wn_ok (F : Nat → Int32) (q : Nat) : Bool := (List.range 6).all (fun v => wn_op F v (wn_dg q v))
theorem wn_ok_iff {F : Nat → Int32} {q : Nat} : wn_ok F q = true ↔ ∀ v, v < 6 → wn_op F v (wn_dg q v) = true := by
  unfold wn_ok
  rw [List.all_eq_true]
  constructor
  · intro h v hv; exact h v (List.mem_range.mpr hv)
  · intro h v hv; exact h v (List.mem_range.mp hv)
def wn_FS (F : Nat → Int32) : Prop := ∀ v, v < 6 → F v = -1 ∨ ∃ f, f < 3 ∧ F v = nI f
def wn_lo (F : Nat → Int32) (v : Nat) : Nat := if F v < 0 then 0 else (F v).toNatClampNeg
def wn_hi (F : Nat → Int32) (v : Nat) : Nat := if F v < 0 then 2 else (F v).toNatClampNeg
theorem wn_m1 : (-1 : Int32) < 0 := by decide
theorem wn_FS_c {F : Nat → Int32} {v : Nat} (h : wn_FS F) (hv : v < 6) : (F v < 0 ∧ wn_lo F v = 0 ∧ wn_hi F v = 2) ∨ (∃ f, f < 3 ∧ F v = nI f ∧ ¬ F v < 0 ∧ wn_lo F v = f ∧ wn_hi F v = f) := by
  unfold wn_lo wn_hi
  rcases h v hv with e | ⟨f, hf, e⟩
  · have h1 : F v < 0 := by rw [e]; exact wn_m1
    exact Or.inl ⟨h1, if_pos h1, if_pos h1⟩
  · have h1 : ¬ F v < 0 := by rw [e]; exact nI_pos (by omega)
    have c : (F v).toNatClampNeg = f := by rw [e]; exact nI_clamp (by omega)
    exact Or.inr ⟨f, hf, e, h1, by rw [if_neg h1, c], by rw [if_neg h1, c]⟩
theorem wn_op_iff {F : Nat → Int32} {v a : Nat} (h : wn_FS F) (hv : v < 6) (ha : a < 3) : wn_op F v a = true ↔ wn_lo F v ≤ a ∧ a ≤ wn_hi F v := by
  unfold wn_op
  rw [Bool.or_eq_true, decide_eq_true_iff, decide_eq_true_iff]
  rcases wn_FS_c h hv with ⟨h1, e1, e2⟩ | ⟨f, hf, e, h1, e1, e2⟩
  · rw [e1, e2]
    exact ⟨fun _ => by omega, fun _ => Or.inl h1⟩
  · rw [e1, e2]
    constructor
    · intro z
      rcases z with z | z
      · exact absurd z h1
      · rw [e, nI_eq (by omega) (by omega)] at z; omega
    · intro z
      right
      rw [e, nI_eq (by omega) (by omega)]; omega
theorem wn_lohi {F : Nat → Int32} {v : Nat} (h : wn_FS F) (hv : v < 6) : wn_lo F v ≤ wn_hi F v ∧ wn_hi F v ≤ 2 := by
  rcases wn_FS_c h hv with ⟨h1, e1, e2⟩ | ⟨f, hf, e, h1, e1, e2⟩ <;> omega
section
variable {f_tables f_ready f_floor f_found f_best : Int32} {a_cost a_overX a_overY a_pairCost a_one a_two a_fixed a_taken a_sofar a_nextValue a_bestValues : Nat → Int32}
variable {T fl : Nat} {O W A B x : Nat → Nat}
theorem wn_xah68 {post : Int32 → Prop} {J4 J17 : Int32 → Int32 → Prop} {x1 x2 x3 : Int32} {l k c : Nat} (hl : l ≤ 100000) (hc : c ≤ 100000) (h : J17 (nI (if l ≤ c then l else c)) (nI (k + 1))) : wX_ahead_68 post J4 J17 x1 x2 x3 (nI l) (nI k) (nI c) f_tables f_ready f_floor f_found f_best a_cost a_overX a_overY a_pairCost a_one a_two a_fixed a_taken a_sofar a_nextValue a_bestValues := by
  unfold wX_ahead_68
  by_cases e : l ≤ c
  · rw [if_pos e] at h
    exact br_t (nI_le e (by omega)) (nm_r (nI_1 k) h)
  · rw [if_neg e] at h
    exact br_f (nI_ge (by omega) (by omega)) (nm_r (nI_1 k) h)
theorem wn_xah17 {post : Int32 → Prop} {J4 : Int32 → Int32 → Prop} {m v s : Nat} (M : wn_XM T A B O W fl f_tables f_floor a_overX a_overY a_one a_two) (K : wn_Tk m x a_taken) (hm : m ≤ 6) (hv : v < 6) (hs : wn_fi 7200 s)
    (hJ : J4 (nI (wn_cp (s + wn_lst (wn_cc (wn_op a_fixed) O W A B T x m v) 3))) (nI (v + 1))) :
    ∀ j k n, k + j = 3 → j < n → wX_ahead_17 post J4 (nI m) (nI (wn_cp s)) (nI v) f_tables f_ready f_floor f_found f_best a_cost a_overX a_overY a_pairCost a_one a_two a_fixed a_taken a_sofar a_nextValue a_bestValues n (nI (wn_lst (wn_cc (wn_op a_fixed) O W A B T x m v) k)) (nI k) := by
  have hTF := M.1
  have hOW := M.2.1
  intro j
  induction j with
  | zero =>
    intro k n hk hn
    obtain ⟨n, rfl⟩ : ∃ n', n = n' + 1 := ⟨n - 1, by omega⟩
    have ek : k = 3 := by omega
    have hfb : wn_fb 1200 (wn_lst (wn_cc (wn_op a_fixed) O W A B T x m v) 3) := wn_lst_fb 3 (fun _ h => wn_cc_fb hTF hOW hv h (fun i hi => (K i hi).2))
    rw [ek, wX_ahead_17]
    exact br_t (nI_le (a := 3) (by omega) (by omega)) (wn_xmorc s _ (nm_r (nI_1 v) hJ) rfl (by rw [wn_fb_cp hfb (by omega)]) hs (wn_fb_fi hfb) (by omega))
  | succ j ih =>
    intro k n hk hn
    obtain ⟨n, rfl⟩ : ∃ n', n = n' + 1 := ⟨n - 1, by omega⟩
    have c : (nI v).toNatClampNeg = v := nI_clamp (by omega)
    have v6 : vp_in (nI v) 6 := vp_in_nI (by omega) (by omega)
    have nx := ih (k + 1) n (by omega) (by omega)
    have hl := (wn_lst_le (wn_cc (wn_op a_fixed) O W A B T x m v) k).1
    have hc : wn_cc (wn_op a_fixed) O W A B T x m v k ≤ 100000 := wn_fb_le (wn_cc_fb hTF hOW hv (by omega) (fun i hi => (K i hi).2)) (by omega)
    have e68 : ∀ z : Int32, z = nI (wn_cc (wn_op a_fixed) O W A B T x m v k) → wX_ahead_68 post J4 (wX_ahead_17 post J4 (nI m) (nI (wn_cp s)) (nI v) f_tables f_ready f_floor f_found f_best a_cost a_overX a_overY a_pairCost a_one a_two a_fixed a_taken a_sofar a_nextValue a_bestValues n) (nI m) (nI (wn_cp s)) (nI v) (nI (wn_lst (wn_cc (wn_op a_fixed) O W A B T x m v) k)) (nI k) z f_tables f_ready f_floor f_found f_best a_cost a_overX a_overY a_pairCost a_one a_two a_fixed a_taken a_sofar a_nextValue a_bestValues := by
      intro z ez
      rw [ez]
      exact wn_xah68 hl hc nx
    have e43 : wn_op a_fixed v k = true → wX_ahead_43 post J4 (wX_ahead_17 post J4 (nI m) (nI (wn_cp s)) (nI v) f_tables f_ready f_floor f_found f_best a_cost a_overX a_overY a_pairCost a_one a_two a_fixed a_taken a_sofar a_nextValue a_bestValues n) (nI m) (nI (wn_cp s)) (nI v) (nI (wn_lst (wn_cc (wn_op a_fixed) O W A B T x m v) k)) (nI k) f_tables f_ready f_floor f_found f_best a_cost a_overX a_overY a_pairCost a_one a_two a_fixed a_taken a_sofar a_nextValue a_bestValues := by
      intro ho
      unfold wX_ahead_43 wX_ahead_48
      exact br_f wn_n10 (wn_xwt M K hv (by omega) hm (e68 _ (congrArg nI (if_pos ho).symm)))
    rw [wX_ahead_17]
    refine br_f (nI_ge (b := 3) (by omega) (by omega)) ⟨v6, ?_⟩
    rw [c]
    by_cases h1 : a_fixed v < 0
    · exact br_t h1 (e43 (by unfold wn_op; rw [decide_eq_true h1]; rfl))
    · refine br_f h1 ⟨v6, ?_⟩
      by_cases h2 : a_fixed v = nI k
      · exact br_t h2 (e43 (by unfold wn_op; rw [decide_eq_true h2]; exact Bool.or_true _))
      · refine br_f h2 ?_
        unfold wX_ahead_48
        refine br_t rfl (e68 _ ?_)
        have ho : ¬ wn_op a_fixed v k = true := by
          unfold wn_op
          rw [decide_eq_false h1, decide_eq_false h2]; decide
        exact congrArg nI (if_neg ho).symm
theorem wn_xah4 {post : Int32 → Prop} {m : Nat} (M : wn_XM T A B O W fl f_tables f_floor a_overX a_overY a_one a_two) (K : wn_Tk m x a_taken) (hm : m ≤ 6)
    (hp : post (nI (wn_cp (wn_sm (wn_ah (wn_op a_fixed) O W A B T x m) (6 - m))))) :
    ∀ j i n, m + i + j = 6 → j < n → wX_ahead_4 post (nI m) f_tables f_ready f_floor f_found f_best a_cost a_overX a_overY a_pairCost a_one a_two a_fixed a_taken a_sofar a_nextValue a_bestValues n (nI (wn_cp (wn_sm (wn_ah (wn_op a_fixed) O W A B T x m) i))) (nI (m + i)) := by
  have hTF := M.1
  have hOW := M.2.1
  intro j
  induction j with
  | zero =>
    intro i n hi hn
    obtain ⟨n, rfl⟩ : ∃ n', n = n' + 1 := ⟨n - 1, by omega⟩
    have ek : i = 6 - m := by omega
    rw [ek, wX_ahead_4]
    exact br_t (nI_le (a := 6) (by omega) (by omega)) hp
  | succ j ih =>
    intro i n hi hn
    obtain ⟨n, rfl⟩ : ∃ n', n = n' + 1 := ⟨n - 1, by omega⟩
    have nx := ih (i + 1) n (by omega) (by omega)
    rw [wX_ahead_4]
    exact br_f (nI_ge (b := 6) (by omega) (by omega)) ⟨4, wn_xah17 (v := m + i) (s := wn_sm (wn_ah (wn_op a_fixed) O W A B T x m) i) M K hm (by omega) (wn_ahk_fi hTF hOW (by omega) (fun i hi => (K i hi).2)) nx 3 0 4 (by omega) (by omega)⟩
theorem wn_xah {post : Int32 → Prop} {m : Nat} (M : wn_XM T A B O W fl f_tables f_floor a_overX a_overY a_one a_two) (K : wn_Tk m x a_taken) (hm : m ≤ 6)
    (hp : post (nI (wn_cp (wn_sm (wn_ah (wn_op a_fixed) O W A B T x m) (6 - m))))) : wpX_ahead post (f_tables, f_ready, f_floor, f_found, f_best, a_cost, a_overX, a_overY, a_pairCost, a_one, a_two, a_fixed, a_taken, a_sofar, a_nextValue, a_bestValues) (nI m) := by
  have L := wn_xah4 (f_ready := f_ready) (f_found := f_found) (f_best := f_best) (a_cost := a_cost) (a_pairCost := a_pairCost) (a_fixed := a_fixed) (a_sofar := a_sofar) (a_nextValue := a_nextValue) (a_bestValues := a_bestValues) M K hm hp (6 - m) 0 7 (by omega) (by omega)
  have e : nI (wn_cp (wn_sm (wn_ah (wn_op a_fixed) O W A B T x m) 0)) = 0 := by
    show nI (wn_cp 0) = 0
    rw [wn_cp_lt (by omega)]; exact nI_0
  rw [e] at L
  unfold wpX_ahead
  exact ⟨7, L⟩
theorem wn_xopen {post : SX → Prop} {l : Nat} (hF : wn_FS a_fixed) (hl : l < 6) (h : post (f_tables, f_ready, f_floor, f_found, f_best, a_cost, a_overX, a_overY, a_pairCost, a_one, a_two, a_fixed, a_taken, a_sofar, (upd a_nextValue l (nI (wn_lo a_fixed l))), a_bestValues)) : wpX_open post (f_tables, f_ready, f_floor, f_found, f_best, a_cost, a_overX, a_overY, a_pairCost, a_one, a_two, a_fixed, a_taken, a_sofar, a_nextValue, a_bestValues) (nI l) := by
  have c : (nI l).toNatClampNeg = l := nI_clamp (by omega)
  have v6 : vp_in (nI l) 6 := vp_in_nI (by omega) (by omega)
  unfold wpX_open
  refine ⟨v6, ?_⟩
  rw [c]
  rcases wn_FS_c hF hl with ⟨h1, e1, e2⟩ | ⟨f, hf, e, h1, e1, e2⟩
  · rw [e1] at h
    exact br_t h1 ⟨v6, nm_e h⟩
  · rw [e1, ← e] at h
    exact br_f h1 ⟨v6, v6, nm_e h⟩
theorem wn_xlast {post : Int32 → Prop} {l : Nat} (hF : wn_FS a_fixed) (hl : l < 6) (h : post (nI (wn_hi a_fixed l))) : wpX_lastValue post (f_tables, f_ready, f_floor, f_found, f_best, a_cost, a_overX, a_overY, a_pairCost, a_one, a_two, a_fixed, a_taken, a_sofar, a_nextValue, a_bestValues) (nI l) := by
  have c : (nI l).toNatClampNeg = l := nI_clamp (by omega)
  have v6 : vp_in (nI l) 6 := vp_in_nI (by omega) (by omega)
  unfold wpX_lastValue
  refine ⟨v6, ?_⟩
  rw [c]
  rcases wn_FS_c hF hl with ⟨h1, e1, e2⟩ | ⟨f, hf, e, h1, e1, e2⟩
  · rw [e2] at h
    exact br_t h1 h
  · rw [e2, ← e] at h
    exact br_f h1 ⟨v6, h⟩
theorem wn_xtake25 {post : SX → Prop} (h : ∀ bv : Nat → Int32, (∀ v, v < 6 → bv v = a_taken v) → post (f_tables, f_ready, f_floor, f_found, f_best, a_cost, a_overX, a_overY, a_pairCost, a_one, a_two, a_fixed, a_taken, a_sofar, a_nextValue, bv)) :
    ∀ j k n bv, k + j = 6 → j < n → (∀ v, v < k → bv v = a_taken v) → wX_take_25 post f_tables f_ready f_floor f_found f_best n (nI k) a_cost a_overX a_overY a_pairCost a_one a_two a_fixed a_taken a_sofar a_nextValue bv := by
  intro j
  induction j with
  | zero =>
    intro k n bv hk hn hb
    obtain ⟨n, rfl⟩ : ∃ n', n = n' + 1 := ⟨n - 1, by omega⟩
    rw [wX_take_25]
    exact br_t (nI_le (a := 6) (by omega) (by omega)) (h bv (fun v hv => hb v (by omega)))
  | succ j ih =>
    intro k n bv hk hn hb
    obtain ⟨n, rfl⟩ : ∃ n', n = n' + 1 := ⟨n - 1, by omega⟩
    have c : (nI k).toNatClampNeg = k := nI_clamp (by omega)
    have v6 : vp_in (nI k) 6 := vp_in_nI (by omega) (by omega)
    rw [wX_take_25]
    refine br_f (nI_ge (b := 6) (by omega) (by omega)) ⟨v6, v6, nm_r (e' := upd bv k (a_taken k)) (by rw [c]) (nm_r (nI_1 k) (ih (k + 1) n _ (by omega) (by omega) (fun v hv => ?_)))⟩
    by_cases e : v = k
    · rw [e, pk_us]
    · rw [pk_un e]; exact hb v (by omega)
theorem wn_xtake {post : SX → Prop} {fo be c : Nat} (hbe : be ≤ 100000) (hc : c ≤ 100000) (h1 : be ≤ c → post (f_tables, f_ready, f_floor, (nI (fo + 1)), (nI be), a_cost, a_overX, a_overY, a_pairCost, a_one, a_two, a_fixed, a_taken, a_sofar, a_nextValue, a_bestValues))
    (h2 : c < be → ∀ bv : Nat → Int32, (∀ v, v < 6 → bv v = a_taken v) → post (f_tables, f_ready, f_floor, (nI (fo + 1)), (nI c), a_cost, a_overX, a_overY, a_pairCost, a_one, a_two, a_fixed, a_taken, a_sofar, a_nextValue, bv)) : wpX_take post (f_tables, f_ready, f_floor, (nI fo), (nI be), a_cost, a_overX, a_overY, a_pairCost, a_one, a_two, a_fixed, a_taken, a_sofar, a_nextValue, a_bestValues) (nI c) := by
  unfold wpX_take
  refine nm_r (nI_1 fo) ?_
  by_cases e : be ≤ c
  · exact br_t (nI_le e (by omega)) (h1 e)
  · exact br_f (nI_ge (by omega) (by omega)) ⟨7, wn_xtake25 (h2 (by omega)) 6 0 7 a_bestValues (by omega) (by omega) (fun v hv => by omega)⟩
theorem wn_xfree2 {post : SX → Prop} (h : ∀ F : Nat → Int32, (∀ v, v < 6 → F v = -1) → post (f_tables, f_ready, f_floor, f_found, f_best, a_cost, a_overX, a_overY, a_pairCost, a_one, a_two, F, a_taken, a_sofar, a_nextValue, a_bestValues)) :
    ∀ j k n F, k + j = 6 → j < n → (∀ v, v < k → F v = -1) → wX_freeAll_2 post f_tables f_ready f_floor f_found f_best n (nI k) a_cost a_overX a_overY a_pairCost a_one a_two F a_taken a_sofar a_nextValue a_bestValues := by
  intro j
  induction j with
  | zero =>
    intro k n F hk hn hb
    obtain ⟨n, rfl⟩ : ∃ n', n = n' + 1 := ⟨n - 1, by omega⟩
    rw [wX_freeAll_2]
    exact br_t (nI_le (a := 6) (by omega) (by omega)) (h F (fun v hv => hb v (by omega)))
  | succ j ih =>
    intro k n F hk hn hb
    obtain ⟨n, rfl⟩ : ∃ n', n = n' + 1 := ⟨n - 1, by omega⟩
    have c : (nI k).toNatClampNeg = k := nI_clamp (by omega)
    have v6 : vp_in (nI k) 6 := vp_in_nI (by omega) (by omega)
    rw [wX_freeAll_2]
    refine br_f (nI_ge (b := 6) (by omega) (by omega)) ⟨v6, nm_r (e' := upd F k (-1)) (by rw [c]) (nm_r (nI_1 k) (ih (k + 1) n _ (by omega) (by omega) (fun v hv => ?_)))⟩
    by_cases e : v = k
    · rw [e, pk_us]
    · rw [pk_un e]; exact hb v (by omega)
theorem wn_xfree {post : SX → Prop} (h : ∀ F : Nat → Int32, (∀ v, v < 6 → F v = -1) → post (f_tables, f_ready, f_floor, f_found, f_best, a_cost, a_overX, a_overY, a_pairCost, a_one, a_two, F, a_taken, a_sofar, a_nextValue, a_bestValues)) : wpX_freeAll post (f_tables, f_ready, f_floor, f_found, f_best, a_cost, a_overX, a_overY, a_pairCost, a_one, a_two, a_fixed, a_taken, a_sofar, a_nextValue, a_bestValues) := by
  unfold wpX_freeAll
  exact ⟨7, wn_xfree2 h 6 0 7 a_fixed (by omega) (by omega) (fun v hv => by omega)⟩
end
end
section
/-! 07: leaves passed over -/
def wn_AL (F : Nat → Int32) (fl : Nat) (O W A B : Nat → Nat) (T : Nat) (x : Nat → Nat) (m : Nat) : Nat := wn_cp (wn_SF fl O W A B T x m + wn_sm (wn_ah (wn_op F) O W A B T x m) (6 - m))
theorem wn_AL_le {F : Nat → Int32} {fl : Nat} {O W A B x : Nat → Nat} {T m q : Nat} (h : wn_TF A B T) (hw : wn_OW O W T) (hm : m ≤ 6) (hxy : ∀ i, i < m → wn_dg q i = x i) (hok : wn_ok F q = true) (hk : wn_cp (wn_SF fl O W A B T (wn_dg q) 6) < 50000) :
    wn_AL F fl O W A B T x m ≤ wn_cp (wn_SF fl O W A B T (wn_dg q) 6) := by
  rcases wn_cp_cases (wn_SF fl O W A B T (wn_dg q) 6) with ⟨h1, e⟩ | ⟨h1, e⟩
  · rw [e]
    exact wn_bound h hw hm hxy (fun i _ => wn_dg_lt q i) (wn_ok_iff.mp hok) h1
  · omega
/-- a leaf between two places of one node -/
theorem wn_between {q c d e E : Nat} (hE : 0 < E) (h1 : (c * 3 + d) * E ≤ q) (h2 : q < (c * 3 + e) * E) : c * 3 + d ≤ q / E ∧ q / E < c * 3 + e :=
  ⟨(Nat.le_div_iff_mul_le hE).mpr h1, (Nat.div_lt_iff_lt_mul hE).mpr h2⟩
/-- values that a variable's fixing shuts out -/
theorem wn_shut {K : Nat → Nat} {F : Nat → Int32} {lim : Nat → Nat → Bool} {c d e L : Nat} (hF : wn_FS F) (hL : L < 6) (hde : d ≤ e) (he : e ≤ 3) (hd : ∀ a, d ≤ a → a < e → ¬ (wn_lo F L ≤ a ∧ a ≤ wn_hi F L)) :
    wn_fd K (wn_ok F) lim ((c * 3 + e) * 3 ^ (5 - L)) = wn_fd K (wn_ok F) lim ((c * 3 + d) * 3 ^ (5 - L)) := by
  refine wn_fd_skip' (Nat.mul_le_mul_right _ (by omega)) (fun q h1 h2 hq => ?_)
  obtain ⟨h3, h4⟩ := wn_between (wn_pp (5 - L)) h1 h2
  have h5 := wn_ok_iff.mp hq.1 L hL
  rw [wn_op_iff hF hL (wn_dg_lt q L)] at h5
  have h6 : wn_dg q L = q / 3 ^ (5 - L) - c * 3 := by
    show q / 3 ^ (5 - L) % 3 = _
    omega
  exact hd (wn_dg q L) (by omega) (by omega) h5
/-- a branch that is given up -/
theorem wn_prune {K : Nat → Nat} {F : Nat → Int32} {lim : Nat → Nat → Bool} {fl : Nat} {O W A B x : Nat → Nat} {T L be : Nat} (h : wn_TF A B T) (hw : wn_OW O W T) (hL : L < 6) (hx : ∀ i, i < L + 1 → x i < 3) (hK : ∀ q, K q = wn_cp (wn_SF fl O W A B T (wn_dg q) 6))
    (hanti : ∀ b k k', k' ≤ k → lim b k = true → lim b k' = true) (hbe : (wn_fd K (wn_ok F) lim (wn_px x (L + 1) * 3 ^ (5 - L))).2.1 = be)
    (hno : 50000 ≤ wn_AL F fl O W A B T x (L + 1) ∨ ¬ lim be (wn_AL F fl O W A B T x (L + 1)) = true) :
    wn_fd K (wn_ok F) lim ((wn_px x (L + 1) + 1) * 3 ^ (5 - L)) = wn_fd K (wn_ok F) lim (wn_px x (L + 1) * 3 ^ (5 - L)) := by
  refine wn_fd_skip' (Nat.mul_le_mul_right _ (by omega)) (fun q h1 h2 hq => ?_)
  obtain ⟨h3, h4, h5⟩ := hq
  have e : q / 3 ^ (6 - (L + 1)) = wn_px x (L + 1) := by
    rw [show 6 - (L + 1) = 5 - L by omega]
    have a := (Nat.le_div_iff_mul_le (wn_pp (5 - L))).mpr h1
    have b := (Nat.div_lt_iff_lt_mul (wn_pp (5 - L))).mpr h2
    omega
  have hd := wn_px_dg (L + 1) (by omega) hx e
  rw [hK] at h4
  have le := wn_AL_le (fl := fl) h hw (by omega) hd h3 h4
  rw [hbe, hK] at h5
  rcases hno with z | z
  · omega
  · exact z (hanti _ _ _ le h5)
/-- the leaf itself -/
theorem wn_leaf {F : Nat → Int32} {x : Nat → Nat} (hx : ∀ i, i < 6 → x i < 3) (hop : ∀ i, i < 6 → wn_op F i (x i) = true) : (∀ i, i < 6 → wn_dg (wn_px x 6) i = x i) ∧ wn_ok F (wn_px x 6) = true := by
  have hd := wn_px_dg (x := x) (q := wn_px x 6) 6 (by omega) hx (by rw [show 6 - 6 = 0 from rfl, Nat.pow_zero, Nat.div_one])
  refine ⟨hd, wn_ok_iff.mpr (fun v hv => ?_)⟩
  rw [hd v hv]; exact hop v hv
end
section
/-! 08: X: descend and the search's loop -/
section
variable {f_tables f_ready f_floor f_found f_best : Int32} {a_cost a_overX a_overY a_pairCost a_one a_two a_fixed a_taken a_sofar a_nextValue a_bestValues : Nat → Int32}
variable {T fl : Nat} {O W A B : Nat → Nat}
theorem wn_xdesc {post : Int32 → SX → Prop} {x : Nat → Nat} {L fo be : Nat} {lim : Int32} {Q : Nat → Prop} (M : wn_XM T A B O W fl f_tables f_floor a_overX a_overY a_one a_two) (K : wn_Tk (L + 1) x a_taken) (hL : L < 6) (hF : wn_FS a_fixed) (hbe : be ≤ 100000)
    (hs : a_sofar (L + 1) = nI (wn_cp (wn_SF fl O W A B T x (L + 1)))) (hQ : ∀ k, k ≤ 100000 → (nI k ≤ lim ↔ Q k))
    (h0 : 50000 ≤ wn_AL a_fixed fl O W A B T x (L + 1) ∨ ¬ Q (wn_AL a_fixed fl O W A B T x (L + 1)) → post (nI L) (f_tables, f_ready, f_floor, (nI fo), (nI be), a_cost, a_overX, a_overY, a_pairCost, a_one, a_two, a_fixed, a_taken, a_sofar, a_nextValue, a_bestValues))
    (h1 : wn_AL a_fixed fl O W A B T x (L + 1) < 50000 → Q (wn_AL a_fixed fl O W A B T x (L + 1)) → L = 5 → be ≤ wn_AL a_fixed fl O W A B T x (L + 1) → post (nI L) (f_tables, f_ready, f_floor, (nI (fo + 1)), (nI be), a_cost, a_overX, a_overY, a_pairCost, a_one, a_two, a_fixed, a_taken, a_sofar, a_nextValue, a_bestValues))
    (h2 : wn_AL a_fixed fl O W A B T x (L + 1) < 50000 → Q (wn_AL a_fixed fl O W A B T x (L + 1)) → L = 5 → wn_AL a_fixed fl O W A B T x (L + 1) < be → ∀ bv : Nat → Int32, (∀ v, v < 6 → bv v = a_taken v) → post (nI L) (f_tables, f_ready, f_floor, (nI (fo + 1)), (nI (wn_AL a_fixed fl O W A B T x (L + 1))), a_cost, a_overX, a_overY, a_pairCost, a_one, a_two, a_fixed, a_taken, a_sofar, a_nextValue, bv))
    (h3 : wn_AL a_fixed fl O W A B T x (L + 1) < 50000 → Q (wn_AL a_fixed fl O W A B T x (L + 1)) → L < 5 → post (nI (L + 1)) (f_tables, f_ready, f_floor, (nI fo), (nI be), a_cost, a_overX, a_overY, a_pairCost, a_one, a_two, a_fixed, a_taken, a_sofar, (upd a_nextValue (L + 1) (nI (wn_lo a_fixed (L + 1)))), a_bestValues)) :
    wpX_descend post (f_tables, f_ready, f_floor, (nI fo), (nI be), a_cost, a_overX, a_overY, a_pairCost, a_one, a_two, a_fixed, a_taken, a_sofar, a_nextValue, a_bestValues) (nI L) lim := by
  have hTF := M.1
  have hOW := M.2.1
  have hfl := M.2.2.1
  have hx : ∀ i, i < L + 1 → x i < 3 := fun i hi => (K i hi).2
  have hal : wn_AL a_fixed fl O W A B T x (L + 1) ≤ 100000 := wn_cp_le _
  have d19 : ∀ z, z = nI (wn_cp (wn_sm (wn_ah (wn_op a_fixed) O W A B T x (L + 1)) (6 - (L + 1)))) → wX_descend_19 post (nI L) lim z f_tables f_ready f_floor (nI fo) (nI be) a_cost a_overX a_overY a_pairCost a_one a_two a_fixed a_taken a_sofar a_nextValue a_bestValues := by
    intro z ez
    rw [ez]
    unfold wX_descend_19
    rw [nI_1 L]
    refine ⟨vp_in_nI (by omega) (by omega), ?_⟩
    refine wn_xmorc (wn_SF fl O W A B T x (L + 1)) _ ?_ (by rw [nI_clamp (by omega), hs]) rfl (wn_fi_mono (wn_SF_fi hTF hOW hfl (L + 1) (by omega) hx) (show 6000 + 1200 * (L + 1) ≤ 13200 by omega)) (wn_ahk_fi hTF hOW (by omega) hx) (by omega)
    show (50000 ≤ nI (wn_AL a_fixed fl O W A B T x (L + 1)) → _) ∧ (¬ 50000 ≤ nI (wn_AL a_fixed fl O W A B T x (L + 1)) → (nI (wn_AL a_fixed fl O W A B T x (L + 1)) ≤ lim → _) ∧ (¬ nI (wn_AL a_fixed fl O W A B T x (L + 1)) ≤ lim → _))
    by_cases c1 : 50000 ≤ wn_AL a_fixed fl O W A B T x (L + 1)
    · exact br_t (nI_le (a := 50000) c1 (by omega)) (h0 (Or.inl c1))
    · refine br_f (nI_ge (b := 50000) (by omega) (by omega)) ?_
      by_cases c2 : Q (wn_AL a_fixed fl O W A B T x (L + 1))
      · refine br_t ((hQ _ hal).mpr c2) ?_
        by_cases c3 : L = 5
        · subst c3
          refine br_t rfl ?_
          have e6 : a_sofar 6 = nI (wn_AL a_fixed fl O W A B T x (5 + 1)) := hs
          rw [e6]
          exact wn_xtake hbe hal (fun h => h1 (by omega) c2 rfl h) (fun h bv hb => h2 (by omega) c2 rfl h bv hb)
        · refine br_f (fun z => c3 (by have := (nI_eq (a := L + 1) (b := 6) (by omega) (by omega)).mp z; omega)) ?_
          exact wn_xopen hF (by omega) (h3 (by omega) c2 (by omega))
      · exact br_f (fun z => c2 ((hQ _ hal).mp z)) (h0 (Or.inr c2))
  unfold wpX_descend
  rw [nI_1 L]
  by_cases c : L = 5
  · refine br_t (nI_le (a := 6) (by omega) (by omega)) (d19 _ ?_)
    subst c
    show (0 : Int32) = nI (wn_cp 0)
    rw [wn_cp_lt (by omega)]; exact nI_0.symm
  · exact br_f (nI_ge (b := 6) (by omega) (by omega)) (wn_xah M K (by omega) (d19 _ rfl))

/-- the invariant at the loop's head, level L -/
def wn_LI (K : Nat → Nat) (F : Nat → Int32) (lim : Nat → Nat → Bool) (fl : Nat) (O W A B : Nat → Nat) (T L : Nat) (x nv : Nat → Nat) (fo be ar : Nat) (a_taken a_sofar a_nextValue a_bestValues : Nat → Int32) : Prop :=
  wn_Tk L x a_taken ∧ (∀ i, i < L → wn_op F i (x i) = true) ∧ (∀ i, i < L → nv i = x i + 1) ∧ (∀ i, i ≤ L → a_nextValue i = nI (nv i)) ∧ wn_lo F L ≤ nv L ∧ nv L ≤ 3 ∧
  (∀ i, i ≤ L → a_sofar i = nI (wn_cp (wn_SF fl O W A B T x i))) ∧ wn_fd K (wn_ok F) lim ((wn_px x L * 3 + nv L) * 3 ^ (5 - L)) = (fo, be, ar) ∧ (be < 50000 → ∀ v, v < 6 → a_bestValues v = nI (wn_dg ar v))
/-- behind a value taken at level L -/
def wn_LA (K : Nat → Nat) (F : Nat → Int32) (lim : Nat → Nat → Bool) (fl : Nat) (O W A B : Nat → Nat) (T L : Nat) (x nv : Nat → Nat) (fo be ar : Nat) (a_taken a_sofar a_nextValue a_bestValues : Nat → Int32) : Prop :=
  wn_Tk (L + 1) x a_taken ∧ (∀ i, i < L + 1 → wn_op F i (x i) = true) ∧ (∀ i, i < L + 1 → nv i = x i + 1) ∧ (∀ i, i < L + 1 → a_nextValue i = nI (nv i)) ∧
  (∀ i, i ≤ L + 1 → a_sofar i = nI (wn_cp (wn_SF fl O W A B T x i))) ∧ wn_fd K (wn_ok F) lim (wn_px x (L + 1) * 3 ^ (5 - L)) = (fo, be, ar) ∧ (be < 50000 → ∀ v, v < 6 → a_bestValues v = nI (wn_dg ar v))
/-- what the loop asks of a state at level L -/
def wn_GO (post : SX → Prop) (b sh : Int32) (n : Nat) (K : Nat → Nat) (lim : Nat → Nat → Bool) (f_tables f_ready f_floor : Int32) (a_cost a_overX a_overY a_pairCost a_one a_two a_fixed : Nat → Int32) (fl : Nat) (O W A B : Nat → Nat) (T : Nat) : Prop :=
  ∀ (L s fo be ar : Nat) (x nv : Nat → Nat) (a_taken a_sofar a_nextValue a_bestValues : Nat → Int32), L < 6 → wn_ph nv L < n → s + wn_ph nv L ≤ 1456 → wn_LI K a_fixed lim fl O W A B T L x nv fo be ar a_taken a_sofar a_nextValue a_bestValues →
    wX_search_35 post b sh n (nI L) (nI s) f_tables f_ready f_floor (nI fo) (nI be) a_cost a_overX a_overY a_pairCost a_one a_two a_fixed a_taken a_sofar a_nextValue a_bestValues
theorem wn_xs146 {post : SX → Prop} {K : Nat → Nat} {lim : Nat → Nat → Bool} {b sh zl : Int32} {n L s fo be ar : Nat} {x nv : Nat → Nat} (M : wn_XM T A B O W fl f_tables f_floor a_overX a_overY a_one a_two) (hF : wn_FS a_fixed)
    (hK : ∀ q, K q = wn_cp (wn_SF fl O W A B T (wn_dg q) 6)) (hanti : ∀ b k k', k' ≤ k → lim b k = true → lim b k' = true) (hQ : ∀ k, k ≤ 100000 → (nI k ≤ zl ↔ lim be k = true))
    (G : wn_GO post b sh n K lim f_tables f_ready f_floor a_cost a_overX a_overY a_pairCost a_one a_two a_fixed fl O W A B T) (hL : L < 6) (hn : wn_ph nv L + (2 * 3 ^ (5 - L) - 1) < n + 1) (hs : s + wn_ph nv L + (2 * 3 ^ (5 - L) - 1) ≤ 1456)
    (I : wn_LA K a_fixed lim fl O W A B T L x nv fo be ar a_taken a_sofar a_nextValue a_bestValues) :
    wX_search_146 post (wX_search_35 post b sh n) b sh (nI s) zl (nI L) f_tables f_ready f_floor (nI fo) (nI be) a_cost a_overX a_overY a_pairCost a_one a_two a_fixed a_taken a_sofar a_nextValue a_bestValues := by
  have hTF := M.1
  have hOW := M.2.1
  obtain ⟨tk, hop, hnv, hnx, hsf, hfd, hbv⟩ := I
  have hx : ∀ i, i < L + 1 → x i < 3 := fun i hi => (tk i hi).2
  have hin := wn_fd_in (K := K) (ok := wn_ok a_fixed) (lim := lim) (wn_px x (L + 1) * 3 ^ (5 - L))
  rw [hfd] at hin
  have hE := wn_pp (5 - L)
  have e1 : wn_px x L * 3 + nv L = wn_px x (L + 1) + 1 := by rw [hnv L (by omega), wn_px_s]; omega
  have hop' := (wn_op_iff hF hL (hx L (by omega))).mp (hop L (by omega))
  have enL := hnv L (by omega)
  have hxL := hx L (by omega)
  -- the state when the level stays
  have stay : ∀ (fo' be' ar' : Nat) (bv : Nat → Int32), wn_fd K (wn_ok a_fixed) lim ((wn_px x (L + 1) + 1) * 3 ^ (5 - L)) = (fo', be', ar') → (be' < 50000 → ∀ v, v < 6 → bv v = nI (wn_dg ar' v)) →
      wX_search_35 post b sh n (nI L) (nI (s + 1)) f_tables f_ready f_floor (nI fo') (nI be') a_cost a_overX a_overY a_pairCost a_one a_two a_fixed a_taken a_sofar a_nextValue bv := by
    intro fo' be' ar' bv h1 h2
    refine G L (s + 1) fo' be' ar' x nv a_taken a_sofar a_nextValue bv hL (by omega) (by omega) ⟨fun i hi => tk i (by omega), fun i hi => hop i (by omega), fun i hi => hnv i (by omega), fun i hi => hnx i (by omega), by omega, by omega, fun i hi => hsf i (by omega), ?_, h2⟩
    rw [e1]; exact h1
  unfold wX_search_146
  refine wn_xdesc (Q := fun k => lim be k = true) M tk hL hF hin.2.1 (hsf _ (Nat.le_refl _)) hQ ?_ ?_ ?_ ?_
  · intro hno
    refine nm_r (nI_1 s) (stay fo be ar a_bestValues ?_ hbv)
    rw [wn_prune hTF hOW hL hx hK hanti (by rw [hfd]) hno]
    exact hfd
  · intro ha hq h5 hle
    subst h5
    refine nm_r (nI_1 s) (stay (fo + 1) be ar a_bestValues ?_ hbv)
    obtain ⟨hd, ho⟩ := wn_leaf hx hop
    have eK : K (wn_px x 6) = wn_AL a_fixed fl O W A B T x (5 + 1) := by
      rw [hK]
      show _ = wn_cp (wn_SF fl O W A B T x 6)
      rw [wn_SF_c 6 hd]
    have hfd' : wn_fd K (wn_ok a_fixed) lim (wn_px x 6) = (fo, be, ar) := by
      have := hfd
      rw [show 5 - 5 = 0 from rfl, Nat.pow_zero, Nat.mul_one] at this
      exact this
    rw [show 5 - 5 = 0 from rfl, Nat.pow_zero, Nat.mul_one]
    show wn_fd K (wn_ok a_fixed) lim (wn_px x 6 + 1) = _
    rw [wn_fd_s, hfd', eK, wn_st_yes ⟨ho, ha, hq⟩]
    rw [if_neg (show ¬ wn_AL a_fixed fl O W A B T x (5 + 1) < be by omega), if_neg (show ¬ wn_AL a_fixed fl O W A B T x (5 + 1) < be by omega)]
  · intro ha hq h5 hlt bv hb
    subst h5
    obtain ⟨hd, ho⟩ := wn_leaf hx hop
    refine nm_r (nI_1 s) (stay (fo + 1) (wn_AL a_fixed fl O W A B T x (5 + 1)) (wn_px x 6) bv ?_ (fun _ v hv => ?_))
    · have eK : K (wn_px x 6) = wn_AL a_fixed fl O W A B T x (5 + 1) := by
        rw [hK]
        show _ = wn_cp (wn_SF fl O W A B T x 6)
        rw [wn_SF_c 6 hd]
      have hfd' : wn_fd K (wn_ok a_fixed) lim (wn_px x 6) = (fo, be, ar) := by
        have := hfd
        rw [show 5 - 5 = 0 from rfl, Nat.pow_zero, Nat.mul_one] at this
        exact this
      rw [show 5 - 5 = 0 from rfl, Nat.pow_zero, Nat.mul_one]
      show wn_fd K (wn_ok a_fixed) lim (wn_px x 6 + 1) = _
      rw [wn_fd_s, hfd', eK, wn_st_yes ⟨ho, ha, hq⟩]
      rw [if_pos hlt, if_pos hlt]
    · rw [hb v hv, (tk v hv).1, hd v hv]
  · intro ha hq h5
    have hF1 := wn_lohi (v := L + 1) hF (by omega)
    have hph : wn_ph (wn_up nv (L + 1) (wn_lo a_fixed (L + 1))) (L + 1) = wn_ph nv L + wn_g (L + 1) (wn_lo a_fixed (L + 1)) := by
      unfold wn_ph
      rw [wn_sm_s _ (L + 1)]
      show _ + wn_g (L + 1) (wn_up nv (L + 1) (wn_lo a_fixed (L + 1)) (L + 1)) = _
      rw [wn_up_s]
      congr 1
      refine wn_sm_c _ (fun i hi => ?_)
      show wn_g i (wn_up nv (L + 1) (wn_lo a_fixed (L + 1)) i) = _
      rw [wn_up_n (by omega)]
    have hg := wn_g_le (d := wn_lo a_fixed (L + 1)) h5
    refine nm_r (nI_1 s) (G (L + 1) (s + 1) fo be ar x (wn_up nv (L + 1) (wn_lo a_fixed (L + 1))) a_taken a_sofar _ a_bestValues (by omega) (by omega) (by omega) ⟨tk, hop, fun i hi => ?_, fun i hi => ?_, ?_, ?_, hsf, ?_, hbv⟩)
    · rw [wn_up_n (by omega)]; exact hnv i hi
    · by_cases e : i = L + 1
      · rw [e, pk_us, wn_up_s]
      · rw [pk_un e, wn_up_n e]; exact hnx i (by omega)
    · rw [wn_up_s]; exact Nat.le_refl _
    · rw [wn_up_s]; omega
    · rw [wn_up_s, wn_shut (c := wn_px x (L + 1)) (d := 0) (e := wn_lo a_fixed (L + 1)) (L := L + 1) hF (by omega) (by omega) (by omega) (fun a _ h2 h3 => by omega)]
      rw [Nat.add_zero, Nat.mul_assoc, Nat.mul_comm 3, ← wn_p3' h5]
      exact hfd
end
end
section
/-! 09: X: the search's loop -/
theorem wn_l1_hi {be k : Nat} (h : 49999 < be) (hk : k ≤ 100000) : nI k ≤ 49999 ↔ wn_l1 be k = true := by
  unfold wn_l1
  rw [if_neg (by omega), decide_eq_true_iff]
  exact nI_leI (b := 49999) (by omega) (by omega)
theorem wn_nm1 {k : Nat} (hk : k < 2 ^ 31) : ¬ nI k ≤ -1 := by
  rw [Int32.le_iff_toInt_le, nI_toInt hk, show (-1 : Int32).toInt = -1 from by decide]
  omega
theorem wn_l1_lo {be k : Nat} (h : be ≤ 49999) (hk : k ≤ 100000) : nI k ≤ nI be - 1 ↔ wn_l1 be k = true := by
  unfold wn_l1
  rw [if_pos h, decide_eq_true_iff]
  cases be with
  | zero =>
    rw [show nI 0 - 1 = -1 from by decide]
    constructor
    · intro z; exact absurd z (wn_nm1 (by omega))
    · intro z; omega
  | succ b =>
    rw [nI_pred, nI_leI (by omega) (by omega)]
    omega
/-- a search's two numbers and the fold's limit -/
def wn_HL (b sh : Int32) (lim : Nat → Nat → Bool) : Prop :=
  (sh = 0 ∧ ∃ N, N < 50000 ∧ b = nI N ∧ lim = wn_l0 N) ∨ (sh = 1 ∧ b = 49999 ∧ lim = wn_l1)
theorem wn_HL_anti {b sh : Int32} {lim : Nat → Nat → Bool} (h : wn_HL b sh lim) : ∀ c k k', k' ≤ k → lim c k = true → lim c k' = true := by
  intro c k k' hk hl
  rcases h with ⟨_, N, _, _, e⟩ | ⟨_, _, e⟩
  · rw [e] at hl ⊢
    unfold wn_l0 at hl ⊢
    rw [decide_eq_true_iff] at hl ⊢
    omega
  · rw [e] at hl ⊢
    unfold wn_l1 at hl ⊢
    by_cases z : c ≤ 49999
    · rw [if_pos z, decide_eq_true_iff] at hl ⊢; omega
    · rw [if_neg z, decide_eq_true_iff] at hl ⊢; omega
section
variable {f_tables f_ready f_floor f_found f_best : Int32} {a_cost a_overX a_overY a_pairCost a_one a_two a_fixed a_taken a_sofar a_nextValue a_bestValues : Nat → Int32}
variable {T fl : Nat} {O W A B : Nat → Nat}
theorem wn_xs35 {post : SX → Prop} {K : Nat → Nat} {lim : Nat → Nat → Bool} {b sh : Int32} (M : wn_XM T A B O W fl f_tables f_floor a_overX a_overY a_one a_two) (hF : wn_FS a_fixed)
    (hK : ∀ q, K q = wn_cp (wn_SF fl O W A B T (wn_dg q) 6)) (hlim : wn_HL b sh lim)
    (hp : ∀ (fo be ar : Nat) (a_taken a_sofar a_nextValue a_bestValues : Nat → Int32), wn_fd K (wn_ok a_fixed) lim 729 = (fo, be, ar) → (be < 50000 → ∀ v, v < 6 → a_bestValues v = nI (wn_dg ar v)) → post (f_tables, f_ready, f_floor, (nI fo), (nI be), a_cost, a_overX, a_overY, a_pairCost, a_one, a_two, a_fixed, a_taken, a_sofar, a_nextValue, a_bestValues)) :
    ∀ n, wn_GO post b sh n K lim f_tables f_ready f_floor a_cost a_overX a_overY a_pairCost a_one a_two a_fixed fl O W A B T := by
  have hTF := M.1
  have hOW := M.2.1
  have hfl := M.2.2.1
  intro n
  induction n with
  | zero => intro L s fo be ar x nv tk sf nx bv hL h; omega
  | succ n ih =>
    intro L s fo be ar x nv a_taken a_sofar a_nextValue a_bestValues hL hn hs I
    obtain ⟨tk, hop, hnv, hnx, hlo, hn3, hsf, hfd, hbv⟩ := I
    have c : (nI L).toNatClampNeg = L := nI_clamp (by omega)
    have v6 : vp_in (nI L) 6 := vp_in_nI (by omega) (by omega)
    have hlh := wn_lohi hF hL
    rw [wX_search_35]
    refine br_f (nI_ge (b := 3000) (by omega) (by omega)) (br_f (nI_pos (by omega)) ⟨v6, wn_xlast hF hL ?_⟩)
    rw [c, hnx L (Nat.le_refl _)]
    by_cases hd : nv L ≤ wn_hi a_fixed L
    · refine br_t (nI_le hd (by omega)) ⟨v6, v6, nm_e ⟨v6, v6, nm_e ⟨v6, ?_⟩⟩⟩
      rw [pk_us, nI_1 (nv L)]
      have hd3 : nv L < 3 := by omega
      have K' : wn_Tk (L + 1) (wn_up x L (nv L)) (upd a_taken L (nI (nv L))) := by
        intro i hi
        by_cases e : i = L
        · rw [e, pk_us, wn_up_s]; exact ⟨rfl, hd3⟩
        · rw [pk_un e, wn_up_n e]; exact tk i (by omega)
      have hx' : ∀ i, i < L + 1 → wn_up x L (nv L) i < 3 := fun i hi => (K' i hi).2
      have exi : ∀ i, i < L → x i = wn_up x L (nv L) i := fun i hi => (wn_up_n (by omega)).symm
      have eS : ∀ i, i ≤ L → wn_SF fl O W A B T x i = wn_SF fl O W A B T (wn_up x L (nv L)) i := fun i hi => wn_SF_c i (fun j hj => exi j (by omega))
      refine wn_xwt (x := wn_up x L (nv L)) M (fun i hi => K' i (by omega)) hL hd3 (by omega) ⟨vp_in_nI (by omega) (by omega), ?_⟩
      refine wn_xmorc (wn_SF fl O W A B T (wn_up x L (nv L)) L) _ ?_ (by rw [hsf L (Nat.le_refl _), eS L (Nat.le_refl _)]) rfl (wn_fi_mono (wn_SF_fi hTF hOW hfl L (by omega) (fun i hi => hx' i (by omega))) (show 6000 + 1200 * L ≤ 13200 by omega)) (wn_wt_fi hTF hOW hL hd3 (fun i hi => hx' i (by omega))) (by omega)
      refine ⟨by rw [nI_1 L]; exact vp_in_nI (by omega) (by omega), nm_r (e' := upd a_sofar (L + 1) (nI (wn_cp (wn_SF fl O W A B T (wn_up x L (nv L)) (L + 1))))) (by rw [nI_1 L, nI_clamp (by omega), wn_SF_s, wn_up_s]) ?_⟩
      have hst := wn_ph_st (nv := nv) (L := L) hd3
      have LA : wn_LA K a_fixed lim fl O W A B T L (wn_up x L (nv L)) (wn_up nv L (nv L + 1)) fo be ar (upd a_taken L (nI (nv L))) (upd a_sofar (L + 1) (nI (wn_cp (wn_SF fl O W A B T (wn_up x L (nv L)) (L + 1))))) (upd a_nextValue L (nI (nv L + 1))) a_bestValues := by
        refine ⟨K', fun i hi => ?_, fun i hi => ?_, fun i hi => ?_, fun i hi => ?_, ?_, hbv⟩
        · by_cases e : i = L
          · rw [e, wn_up_s, wn_op_iff hF hL hd3]; exact ⟨hlo, hd⟩
          · rw [wn_up_n e]; exact hop i (by omega)
        · by_cases e : i = L
          · rw [e, wn_up_s, wn_up_s]
          · rw [wn_up_n e, wn_up_n e]; exact hnv i (by omega)
        · by_cases e : i = L
          · rw [e, pk_us, wn_up_s]
          · rw [pk_un e, wn_up_n e]; exact hnx i (by omega)
        · by_cases e : i = L + 1
          · rw [e, pk_us]
          · rw [pk_un e, ← eS i (by omega)]; exact hsf i (by omega)
        · rw [wn_px_s, wn_up_s, ← wn_px_c L exi]; exact hfd
      have A146 : ∀ zl : Int32, (∀ k, k ≤ 100000 → (nI k ≤ zl ↔ lim be k = true)) → wX_search_146 post (wX_search_35 post b sh n) b sh (nI s) zl (nI L) f_tables f_ready f_floor (nI fo) (nI be) a_cost a_overX a_overY a_pairCost a_one a_two a_fixed (upd a_taken L (nI (nv L))) (upd a_sofar (L + 1) (nI (wn_cp (wn_SF fl O W A B T (wn_up x L (nv L)) (L + 1))))) (upd a_nextValue L (nI (nv L + 1))) a_bestValues :=
        fun zl hQ => wn_xs146 M hF hK (wn_HL_anti hlim) hQ ih hL (by omega) (by omega) LA
      rcases hlim with ⟨e1, N, hN, e2, e3⟩ | ⟨e1, e2, e3⟩
      · refine br_t e1 ?_
        unfold wX_search_145
        refine A146 b (fun k hk => ?_)
        rw [e2, e3, nI_leI (by omega) (by omega)]
        exact decide_eq_true_iff.symm
      · refine br_f (by rw [e1]; exact wn_n10) ?_
        have hbe : be ≤ 100000 := by
          have := (wn_fd_in (K := K) (ok := wn_ok a_fixed) (lim := lim) ((wn_px x L * 3 + nv L) * 3 ^ (5 - L))).2.1
          rw [hfd] at this
          exact this
        by_cases hb : 49999 < be
        · refine br_t (by rw [e2]; exact nI_lt (a := 49999) hb (by omega)) ?_
          unfold wX_search_145
          refine A146 b (fun k hk => ?_)
          rw [e2, e3]
          exact wn_l1_hi hb hk
        · refine br_f (by rw [e2]; exact nI_nlt (a := 49999) (by omega) (by omega)) ?_
          refine A146 _ (fun k hk => ?_)
          rw [e3]
          exact wn_l1_lo (by omega) hk
    · refine br_f (nI_ge (by omega) (by omega)) ?_
      have skip := wn_shut (K := K) (lim := lim) (c := wn_px x L) (d := nv L) (e := 3) hF hL hn3 (Nat.le_refl _) (fun a h1 h2 h3 => by omega)
      rw [hfd] at skip
      cases L with
      | zero =>
        refine nm_r (e' := -1) (by decide) (nm_r (nI_1 s) ?_)
        have h1 : 1 ≤ wn_ph nv 0 := by
          show 1 ≤ 0 + wn_g 0 (nv 0)
          have := wn_g_pos 0 (nv 0)
          omega
        obtain ⟨n, rfl⟩ : ∃ n', n = n' + 1 := ⟨n - 1, by omega⟩
        rw [wX_search_35]
        have e729 : (wn_px x 0 * 3 + 3) * 3 ^ (5 - 0) = 729 := by
          show (0 * 3 + 3) * 3 ^ 5 = 729
          decide
        rw [e729] at skip
        exact br_f (nI_ge (b := 3000) (by omega) (by omega)) (br_t wn_m1 (hp fo be ar _ _ _ _ skip hbv))
      | succ L =>
        have hup := wn_ph_up (nv := nv) (L := L)
        have hxL := (tk L (by omega)).2
        have hopL := (wn_op_iff hF (by omega) hxL).mp (hop L (by omega))
        have enL := hnv L (by omega)
        refine nm_r (pk_m1 L) (nm_r (nI_1 s) (ih L (s + 1) fo be ar x nv a_taken a_sofar a_nextValue a_bestValues (by omega) (by omega) (by omega) ⟨fun i hi => tk i (by omega), fun i hi => hop i (by omega), fun i hi => hnv i (by omega), fun i hi => hnx i (by omega), by omega, by omega, fun i hi => hsf i (by omega), ?_, hbv⟩))
        rw [← skip]
        congr 1
        rw [wn_p3' (show L < 5 by omega), enL, wn_px_s, Nat.mul_comm (3 ^ (5 - (L + 1))) 3, ← Nat.mul_assoc]
        congr 1
        omega
end
end
section
/-! 10: moving costs keeps every assignment's whole cost (capped) -/
def wn_vx (x : Nat → Nat) : Prop := ∀ v, v < 6 → x v < 3
/-- what is left of an entry when l is moved away -/
def wn_nw (l c : Nat) : Nat := if l < 50000 then wn_les c l else 0
theorem wn_nw_fb {l c B : Nat} (h : wn_fb B c) (hB : B < 50000) : wn_fb B (wn_nw l c) := by
  unfold wn_nw
  by_cases e : l < 50000
  · rw [if_pos e]
    unfold wn_fb at h ⊢
    rcases wn_les_cases c l with ⟨h1, h2⟩ | ⟨h1, h2⟩ <;> omega
  · rw [if_neg e]; exact Or.inl (Nat.zero_le _)
/-- the arithmetic of a move: from entry w (or all of w's row) to o -/
theorem wn_mv {s o w l o' w' B : Nat} (hl : l ≤ w) (hlb : wn_fb B l) (hw : wn_fb B w) (ho : wn_fb B o) (hB : B < 25000) (eo : o' = wn_mor o l) (ew : w' = wn_nw l w) : wn_cp (s + o' + w') = wn_cp (s + o + w) := by
  unfold wn_fb at hlb hw ho
  unfold wn_nw at ew
  by_cases e : l < 50000
  · rw [if_pos e] at ew
    rcases wn_les_cases w l with ⟨h1, h2⟩ | ⟨h1, h2⟩ <;> rcases wn_mor_cases o l with ⟨h3, h4, h5⟩ | ⟨h3, h5⟩
    · rw [show s + o' + w' = s + o + w by omega]
    · rw [wn_cp_ge (by omega), wn_cp_ge (by omega)]
    · rw [wn_cp_ge (by omega), wn_cp_ge (by omega)]
    · rw [wn_cp_ge (by omega), wn_cp_ge (by omega)]
  · rcases wn_mor_cases o l with ⟨h3, h4, h5⟩ | ⟨h3, h5⟩
    · omega
    · rw [wn_cp_ge (by omega), wn_cp_ge (by omega)]
/-- the costs moved so far: n moves from tables -/
def wn_MO (n fl : Nat) (O W A B : Nat → Nat) (T : Nat) (S0 : (Nat → Nat) → Nat) : Prop :=
  (∀ i, i < 18 → wn_fb (19 * (n + 1)) (O i)) ∧ (∀ i, i < T * 9 → wn_fb 19 (W i)) ∧ ∀ x, wn_vx x → wn_cp (wn_S fl O W A B T x) = wn_cp (S0 x)
theorem wn_MO_up {n n' fl : Nat} {O W A B : Nat → Nat} {T : Nat} {S0 : (Nat → Nat) → Nat} (h : wn_MO n fl O W A B T S0) (hn : n ≤ n') : wn_MO n' fl O W A B T S0 :=
  ⟨fun i hi => wn_fb_mono (h.1 i hi) (by omega), h.2⟩
/-- the row of three that a move from a table empties -/
def wn_row (ix : Nat → Nat) (i : Nat) : Prop := i = ix 0 ∨ i = ix 1 ∨ i = ix 2
theorem wn_row_iff {ix : Nat → Nat} {i : Nat} : wn_row ix i ↔ ∃ b, b < 3 ∧ i = ix b := by
  unfold wn_row
  constructor
  · intro h
    rcases h with h | h | h
    · exact ⟨0, by omega, h⟩
    · exact ⟨1, by omega, h⟩
    · exact ⟨2, by omega, h⟩
  · intro h
    obtain ⟨b, hb, e⟩ := h
    have : b = 0 ∨ b = 1 ∨ b = 2 := by omega
    rcases this with rfl | rfl | rfl
    · exact Or.inl e
    · exact Or.inr (Or.inl e)
    · exact Or.inr (Or.inr e)
/-- the geometry of a row -/
def wn_IX (A B : Nat → Nat) (T t vv a : Nat) (ix : Nat → Nat) : Prop :=
  t < T ∧ vv < 6 ∧ a < 3 ∧ (∀ b, b < 3 → t * 9 ≤ ix b ∧ ix b < t * 9 + 9) ∧ (∀ x, wn_vx x → x vv = a → ∃ b, b < 3 ∧ t * 9 + x (A t) + 3 * x (B t) = ix b) ∧ (∀ x, wn_vx x → x vv ≠ a → ∀ b, b < 3 → t * 9 + x (A t) + 3 * x (B t) ≠ ix b)
theorem wn_IXA {A B : Nat → Nat} {T t a : Nat} (h : wn_TF A B T) (ht : t < T) (ha : a < 3) : wn_IX A B T t (A t) a (fun b => t * 9 + a + 3 * b) := by
  obtain ⟨h1, h2, h3⟩ := h.2 t ht
  refine ⟨ht, h1, ha, fun b hb => ?_, fun x hx e => ⟨x (B t), hx _ h2, by rw [e]⟩, fun x hx e b hb z => ?_⟩
  · show t * 9 ≤ t * 9 + a + 3 * b ∧ t * 9 + a + 3 * b < t * 9 + 9
    omega
  · have z' : t * 9 + x (A t) + 3 * x (B t) = t * 9 + a + 3 * b := z
    have := hx _ h1
    have := hx _ h2
    exact e (by omega)
theorem wn_IXB {A B : Nat → Nat} {T t a : Nat} (h : wn_TF A B T) (ht : t < T) (ha : a < 3) : wn_IX A B T t (B t) a (fun b => t * 9 + b + 3 * a) := by
  obtain ⟨h1, h2, h3⟩ := h.2 t ht
  refine ⟨ht, h2, ha, fun b hb => ?_, fun x hx e => ⟨x (A t), hx _ h1, by rw [e]⟩, fun x hx e b hb z => ?_⟩
  · show t * 9 ≤ t * 9 + b + 3 * a ∧ t * 9 + b + 3 * a < t * 9 + 9
    omega
  · have z' : t * 9 + x (A t) + 3 * x (B t) = t * 9 + b + 3 * a := z
    have := hx _ h1
    have := hx _ h2
    exact e (by omega)
theorem wn_mvV {n fl t vv a l : Nat} {O W O' W' A B ix : Nat → Nat} {T : Nat} {S0 : (Nat → Nat) → Nat} (h : wn_TF A B T) (I : wn_IX A B T t vv a ix) (h0 : wn_MO n fl O W A B T S0) (hn : n ≤ 50) (hl : l = wn_lst (fun b => W (ix b)) 3)
    (eO : O' (vv * 3 + a) = wn_mor (O (vv * 3 + a)) l) (eO' : ∀ i, i ≠ vv * 3 + a → O' i = O i) (eW : ∀ b, b < 3 → W' (ix b) = wn_nw l (W (ix b))) (eW' : ∀ i, ¬ wn_row ix i → W' i = W i) : wn_MO (n + 1) fl O' W' A B T S0 := by
  obtain ⟨ht, hv, ha, hrg, hin, hout⟩ := I
  obtain ⟨hO, hW, hS⟩ := h0
  have hT := h.1
  have hlb : wn_fb 19 l := by
    rw [hl]; exact wn_lst_fb 3 (fun b hb => hW _ (by have := hrg b hb; omega))
  refine ⟨fun i hi => ?_, fun i hi => ?_, fun x hx => ?_⟩
  · by_cases e : i = vv * 3 + a
    · have ho := hO i hi
      rw [e, eO]
      rw [e] at ho
      unfold wn_fb at ho hlb ⊢
      rcases wn_mor_cases (O (vv * 3 + a)) l with ⟨h3, h4, h5⟩ | ⟨h3, h5⟩ <;> omega
    · rw [eO' i e]; exact wn_fb_mono (hO i hi) (by omega)
  · by_cases e : ∃ b, b < 3 ∧ i = ix b
    · obtain ⟨b, hb, e⟩ := e
      rw [e, eW b hb]
      exact wn_nw_fb (hW _ (by rw [← e]; exact hi)) (by omega)
    · rw [eW' i (fun z => e (wn_row_iff.mp z))]; exact hW i hi
  · rw [← hS x hx]
    by_cases c : x vv = a
    · obtain ⟨b, hb, eb⟩ := hin x hx c
      have s1 := wn_sm_one (f := fun v => O (v * 3 + x v)) (g := fun v => O' (v * 3 + x v)) (k := vv) 6 hv (fun i hi ne => eO' _ (by have := hx i hi; omega))
      have s2 := wn_sm_one (f := fun t => W (t * 9 + x (A t) + 3 * x (B t))) (g := fun t => W' (t * 9 + x (A t) + 3 * x (B t))) (k := t) T ht (fun i hi ne => eW' _ (fun z => by
        obtain ⟨b', hb', e'⟩ := wn_row_iff.mp z
        have := hrg b' hb'
        have := hx _ (h.2 i hi).1
        have := hx _ (h.2 i hi).2.1
        omega))
      have g1 := wn_sm_ge (f := fun v => O (v * 3 + x v)) (k := vv) 6 hv
      have g2 := wn_sm_ge (f := fun t => W (t * 9 + x (A t) + 3 * x (B t))) (k := t) T ht
      have s1' : wn_sm (fun v => O' (v * 3 + x v)) 6 + O (vv * 3 + a) = wn_sm (fun v => O (v * 3 + x v)) 6 + O' (vv * 3 + a) := by rw [← c]; exact s1
      have g1' : O (vv * 3 + a) ≤ wn_sm (fun v => O (v * 3 + x v)) 6 := by rw [← c]; exact g1
      have s2' : wn_sm (fun t => W' (t * 9 + x (A t) + 3 * x (B t))) T + W (ix b) = wn_sm (fun t => W (t * 9 + x (A t) + 3 * x (B t))) T + W' (ix b) := by rw [← eb]; exact s2
      have g2' : W (ix b) ≤ wn_sm (fun t => W (t * 9 + x (A t) + 3 * x (B t))) T := by rw [← eb]; exact g2
      have hlw : l ≤ W (ix b) := by rw [hl]; exact (wn_lst_le (fun b => W (ix b)) 3).2 b hb
      have key := wn_mv (s := fl + (wn_sm (fun v => O (v * 3 + x v)) 6 - O (vv * 3 + a)) + (wn_sm (fun t => W (t * 9 + x (A t) + 3 * x (B t))) T - W (ix b))) (B := 19 * (n + 1)) hlw (wn_fb_mono hlb (by omega)) (wn_fb_mono (hW (ix b) (by have := hrg b hb; omega)) (by omega)) (hO (vv * 3 + a) (by omega)) (by omega) eO (eW b hb)
      unfold wn_S
      generalize wn_sm (fun v => O (v * 3 + x v)) 6 = p1 at *
      generalize wn_sm (fun v => O' (v * 3 + x v)) 6 = p2 at *
      generalize wn_sm (fun t => W (t * 9 + x (A t) + 3 * x (B t))) T = p3 at *
      generalize wn_sm (fun t => W' (t * 9 + x (A t) + 3 * x (B t))) T = p4 at *
      rw [show fl + p2 + p4 = fl + (p1 - O (vv * 3 + a)) + (p3 - W (ix b)) + O' (vv * 3 + a) + W' (ix b) by omega, key]
      congr 1
      omega
    · unfold wn_S
      rw [wn_sm_c (f := fun v => O' (v * 3 + x v)) (g := fun v => O (v * 3 + x v)) 6 (fun i hi => eO' _ (fun z => by
        have := hx i hi
        have e : i = vv := by omega
        subst e
        exact c (by omega)))]
      rw [wn_sm_c (f := fun t => W' (t * 9 + x (A t) + 3 * x (B t))) (g := fun t => W (t * 9 + x (A t) + 3 * x (B t))) T (fun i hi => eW' _ (fun z => by
        obtain ⟨b', hb', e'⟩ := wn_row_iff.mp z
        by_cases ei : i = t
        · subst ei; exact hout x hx c b' hb' e'
        · have := hrg b' hb'
          have := hx _ (h.2 i hi).1
          have := hx _ (h.2 i hi).2.1
          omega))]
/-- .. and those moved on to the floor: v variables -/
def wn_MF (v fl : Nat) (O W A B : Nat → Nat) (T : Nat) (S0 : (Nat → Nat) → Nat) : Prop :=
  wn_fb (1000 * v) fl ∧ (∀ i, i < 18 → wn_fb 1000 (O i)) ∧ (∀ i, i < T * 9 → wn_fb 19 (W i)) ∧ ∀ x, wn_vx x → wn_cp (wn_S fl O W A B T x) = wn_cp (S0 x)
theorem wn_MF_0 {n : Nat} {O W A B : Nat → Nat} {T : Nat} {S0 : (Nat → Nat) → Nat} (h : wn_MO n 0 O W A B T S0) (hn : n ≤ 50) : wn_MF 0 0 O W A B T S0 :=
  ⟨Or.inl (Nat.le_refl _), fun i hi => wn_fb_mono (h.1 i hi) (by omega), h.2⟩
theorem wn_mvF {v fl fl' l : Nat} {O O' W A B : Nat → Nat} {T : Nat} {S0 : (Nat → Nat) → Nat} (hv : v < 6) (h0 : wn_MF v fl O W A B T S0) (hl : l = wn_lst (fun a => O (v * 3 + a)) 3)
    (ef : fl' = wn_mor fl l) (eO : ∀ a, a < 3 → O' (v * 3 + a) = wn_nw l (O (v * 3 + a))) (eO' : ∀ i, i < v * 3 ∨ v * 3 + 3 ≤ i → O' i = O i) : wn_MF (v + 1) fl' O' W A B T S0 := by
  obtain ⟨hf, hO, hW, hS⟩ := h0
  have hlb : wn_fb 1000 l := by
    rw [hl]; exact wn_lst_fb 3 (fun a ha => hO _ (by omega))
  refine ⟨?_, fun i hi => ?_, hW, fun x hx => ?_⟩
  · rw [ef]
    unfold wn_fb at hf hlb ⊢
    rcases wn_mor_cases fl l with ⟨h3, h4, h5⟩ | ⟨h3, h5⟩ <;> omega
  · by_cases e : i < v * 3 ∨ v * 3 + 3 ≤ i
    · rw [eO' i e]; exact hO i hi
    · have e' : i = v * 3 + (i - v * 3) := by omega
      rw [e', eO _ (by omega), ← e']
      exact wn_nw_fb (hO i hi) (by omega)
  · rw [← hS x hx]
    have hxv := hx v hv
    have s1 := wn_sm_one (f := fun v => O (v * 3 + x v)) (g := fun v => O' (v * 3 + x v)) (k := v) 6 hv (fun i hi ne => eO' _ (by have := hx i hi; omega))
    have g1 := wn_sm_ge (f := fun v => O (v * 3 + x v)) (k := v) 6 hv
    have s1' : wn_sm (fun v => O' (v * 3 + x v)) 6 + O (v * 3 + x v) = wn_sm (fun v => O (v * 3 + x v)) 6 + O' (v * 3 + x v) := s1
    have g1' : O (v * 3 + x v) ≤ wn_sm (fun v => O (v * 3 + x v)) 6 := g1
    have hlw : l ≤ O (v * 3 + x v) := by rw [hl]; exact (wn_lst_le (fun a => O (v * 3 + a)) 3).2 (x v) hxv
    have key := wn_mv (s := (wn_sm (fun v => O (v * 3 + x v)) 6 - O (v * 3 + x v)) + wn_sm (fun t => W (t * 9 + x (A t) + 3 * x (B t))) T) (B := 6000) hlw (wn_fb_mono hlb (by omega)) (wn_fb_mono (hO _ (by omega)) (by omega)) (wn_fb_mono hf (by omega)) (by omega) ef (eO (x v) hxv)
    unfold wn_S
    generalize wn_sm (fun v => O (v * 3 + x v)) 6 = p1 at *
    generalize wn_sm (fun v => O' (v * 3 + x v)) 6 = p2 at *
    generalize wn_sm (fun t => W (t * 9 + x (A t) + 3 * x (B t))) T = p3 at *
    rw [show fl' + p2 + p3 = (p1 - O (v * 3 + x v)) + p3 + fl' + O' (v * 3 + x v) by omega, key]
    congr 1
    omega
end
section
/-! 11: X: moveToValue, moveToFloor -/
def wn_nW (ix : Nat → Nat) (l : Nat) (W : Nat → Nat) : Nat → Nat := fun i => if i = ix 0 ∨ i = ix 1 ∨ i = ix 2 then wn_nw l (W i) else W i
theorem wn_nW_1 {ix W : Nat → Nat} {l i : Nat} (h : wn_row ix i) : wn_nW ix l W i = wn_nw l (W i) := if_pos h
theorem wn_nW_0 {ix W : Nat → Nat} {l i : Nat} (h : ¬ wn_row ix i) : wn_nW ix l W i = W i := if_neg h
theorem wn_nw_1 {l c : Nat} (h : l < 50000) : wn_nw l c = wn_les c l := if_pos h
theorem wn_nw_0 {l c : Nat} (h : ¬ l < 50000) : wn_nw l c = 0 := if_neg h
/-- how a pair's place is reckoned -/
def wn_PA (t a : Nat) (z : Int32) (ix : Nat → Nat) : Prop := (∀ (p : Int32 → Prop) (b : Nat), p (nI (ix b)) → wpX_pairAt p (nI t) (nI a) (nI b) z) ∧ (∀ b, b < 3 → ix b < 72) ∧ (∀ b b', ix b = ix b' → b = b')
theorem wn_PAA {t a : Nat} (ht : t < 8) (ha : a < 3) : wn_PA t a 1 (fun b => t * 9 + a + 3 * b) :=
  ⟨fun p b h => wn_xpA t a b h, fun b hb => by show t * 9 + a + 3 * b < 72; omega, fun b b' h => by
    have h' : t * 9 + a + 3 * b = t * 9 + a + 3 * b' := h
    omega⟩
theorem wn_PAB {t a : Nat} (ht : t < 8) (ha : a < 3) : wn_PA t a 0 (fun b => t * 9 + b + 3 * a) :=
  ⟨fun p b h => wn_xpB t a b h, fun b hb => by show t * 9 + b + 3 * a < 72; omega, fun b b' h => by
    have h' : t * 9 + b + 3 * a = t * 9 + b' + 3 * a := h
    omega⟩
section
variable {f_tables f_ready f_floor f_found f_best : Int32} {a_cost a_overX a_overY a_pairCost a_one a_two a_fixed a_taken a_sofar a_nextValue a_bestValues : Nat → Int32}
theorem wn_xmv102 {post : SX → Prop} {z : Int32} {t a l : Nat} {W ix : Nat → Nat} (hP : wn_PA t a z ix) (hl : l ≤ 100000) (hW : ∀ b, b < 3 → W (ix b) ≤ 100000 ∧ l ≤ W (ix b)) (hw : ∀ b, b < 3 → a_two (ix b) = nI (W (ix b)))
    (h : ∀ two : Nat → Int32, (∀ i, ¬ wn_row ix i → two i = a_two i) → (∀ b, b < 3 → two (ix b) = nI (wn_nw l (W (ix b)))) → post (f_tables, f_ready, f_floor, f_found, f_best, a_cost, a_overX, a_overY, a_pairCost, a_one, two, a_fixed, a_taken, a_sofar, a_nextValue, a_bestValues)) :
    ∀ (j k n : Nat) (two : Nat → Int32), k + j = 3 → j < n → (∀ i, (∀ b, b < k → i ≠ ix b) → two i = a_two i) → (∀ b, b < k → two (ix b) = nI (wn_nw l (W (ix b)))) → wX_moveToValue_102 post (nI t) (nI a) z (nI l) f_tables f_ready f_floor f_found f_best n (nI k) a_cost a_overX a_overY a_pairCost a_one two a_fixed a_taken a_sofar a_nextValue a_bestValues := by
  obtain ⟨hpa, hix, hinj⟩ := hP
  intro j
  induction j with
  | zero =>
    intro k n two hk hn h1 h2
    obtain ⟨n, rfl⟩ : ∃ n', n = n' + 1 := ⟨n - 1, by omega⟩
    rw [wX_moveToValue_102]
    exact br_t (nI_le (a := 3) (by omega) (by omega)) (h two (fun i hr => h1 i (fun b hb e => hr (wn_row_iff.mpr ⟨b, by omega, e⟩))) (fun b hb => h2 b (by omega)))
  | succ j ih =>
    intro k n two hk hn h1 h2
    obtain ⟨n, rfl⟩ : ∃ n', n = n' + 1 := ⟨n - 1, by omega⟩
    have hk3 : k < 3 := by omega
    have c : (nI (ix k)).toNatClampNeg = ix k := nI_clamp (by have := hix k hk3; omega)
    have v72 : vp_in (nI (ix k)) 72 := vp_in_nI (hix k hk3) (by omega)
    have e2 : two (ix k) = nI (W (ix k)) := by
      rw [h1 (ix k) (fun b hb e => by have := hinj k b e; omega), hw k hk3]
    have nx : wX_moveToValue_102 post (nI t) (nI a) z (nI l) f_tables f_ready f_floor f_found f_best n (nI (k + 1)) a_cost a_overX a_overY a_pairCost a_one (upd two (ix k) (nI (wn_nw l (W (ix k))))) a_fixed a_taken a_sofar a_nextValue a_bestValues := by
      refine ih (k + 1) n _ (by omega) (by omega) (fun i hi => ?_) (fun b hb => ?_)
      · rw [pk_un (hi k (by omega))]; exact h1 i (fun b hb => hi b (by omega))
      · by_cases e : b = k
        · rw [e, pk_us]
        · rw [pk_un (fun q => e (hinj b k q))]; exact h2 b (by omega)
    rw [wX_moveToValue_102]
    refine br_f (nI_ge (b := 3) (by omega) (by omega)) (hpa _ k ?_)
    by_cases hl5 : l < 50000
    · rw [wn_nw_1 hl5] at nx
      refine br_t (nI_lt (b := 50000) hl5 (by omega)) ⟨v72, ?_⟩
      exact wn_xless (W (ix k)) l ⟨v72, nm_r (by rw [c]) (nm_r (nI_1 k) nx)⟩ (by rw [c, e2]) rfl (fun _ => (hW k hk3).2) (hW k hk3).1
    · rw [wn_nw_0 hl5] at nx
      exact br_f (nI_nlt (b := 50000) (by omega) (by omega)) ⟨v72, nm_r (e' := upd two (ix k) (nI 0)) (by rw [c, nI_0]) (nm_r (nI_1 k) nx)⟩
theorem wn_xmv70 {post : SX → Prop} {z : Int32} {t a l vv o : Nat} {W ix : Nat → Nat} (hP : wn_PA t a z ix) (hv : vv < 6) (ha : a < 3) (hl : l ≤ 100000) (ho : o ≤ 100000) (hW : ∀ b, b < 3 → W (ix b) ≤ 100000 ∧ l ≤ W (ix b)) (hw : ∀ b, b < 3 → a_two (ix b) = nI (W (ix b))) (eo : a_one (vv * 3 + a) = nI o)
    (h : ∀ two : Nat → Int32, (∀ i, ¬ wn_row ix i → two i = a_two i) → (∀ b, b < 3 → two (ix b) = nI (wn_nw l (W (ix b)))) → post (f_tables, f_ready, f_floor, f_found, f_best, a_cost, a_overX, a_overY, a_pairCost, (upd a_one (vv * 3 + a) (nI (wn_mor o l))), two, a_fixed, a_taken, a_sofar, a_nextValue, a_bestValues)) :
    wX_moveToValue_70 post (nI t) (nI a) z (nI l) (nI vv) f_tables f_ready f_floor f_found f_best a_cost a_overX a_overY a_pairCost a_one a_two a_fixed a_taken a_sofar a_nextValue a_bestValues := by
  have v18 : vp_in (nI (vv * 3 + a)) 18 := vp_in_nI (by omega) (by omega)
  unfold wX_moveToValue_70
  rw [wn_i3]
  refine ⟨v18, wn_xmore o l ⟨v18, nm_r (by rw [nI_clamp (by omega)]) ⟨4, ?_⟩⟩ (by rw [nI_clamp (by omega), eo]) rfl ho hl⟩
  exact wn_xmv102 hP hl hW hw h 3 0 4 a_two (by omega) (by omega) (fun _ _ => rfl) (fun b hb => by omega)
theorem wn_xmv7 {post : SX → Prop} {z : Int32} {t a vv : Nat} {W ix : Nat → Nat} (hP : wn_PA t a z ix) (ht : t < 8) (hz : (z = 0 ∧ a_overY t = nI vv) ∨ (z = 1 ∧ a_overX t = nI vv)) (hW : ∀ b, b < 3 → W (ix b) ≤ 100000) (hw : ∀ b, b < 3 → a_two (ix b) = nI (W (ix b)))
    (h0 : wn_lst (fun b => W (ix b)) 3 = 0 → post (f_tables, f_ready, f_floor, f_found, f_best, a_cost, a_overX, a_overY, a_pairCost, a_one, a_two, a_fixed, a_taken, a_sofar, a_nextValue, a_bestValues)) (h1 : wn_lst (fun b => W (ix b)) 3 ≠ 0 → wX_moveToValue_70 post (nI t) (nI a) z (nI (wn_lst (fun b => W (ix b)) 3)) (nI vv) f_tables f_ready f_floor f_found f_best a_cost a_overX a_overY a_pairCost a_one a_two a_fixed a_taken a_sofar a_nextValue a_bestValues) :
    ∀ j k n, k + j = 3 → j < n → wX_moveToValue_7 post (nI t) (nI a) z f_tables f_ready f_floor f_found f_best a_cost a_overX a_overY a_pairCost a_one a_two a_fixed a_taken a_sofar a_nextValue a_bestValues n (nI (wn_lst (fun b => W (ix b)) k)) (nI k) := by
  obtain ⟨hpa, hix, hinj⟩ := hP
  have ct : (nI t).toNatClampNeg = t := nI_clamp (by omega)
  have v8 : vp_in (nI t) 8 := vp_in_nI ht (by omega)
  intro j
  induction j with
  | zero =>
    intro k n hk hn
    obtain ⟨n, rfl⟩ : ∃ n', n = n' + 1 := ⟨n - 1, by omega⟩
    have ek : k = 3 := by omega
    have hle := (wn_lst_le (fun b => W (ix b)) 3).1
    rw [ek, wX_moveToValue_7]
    refine br_t (nI_le (a := 3) (by omega) (by omega)) ?_
    by_cases e : wn_lst (fun b => W (ix b)) 3 = 0
    · exact br_t (by rw [e]; exact nI_0) (h0 e)
    · refine br_f (nI_ne0 (by omega) (by omega)) ?_
      rcases hz with ⟨ez, eo⟩ | ⟨ez, eo⟩
      · refine br_t ez ⟨v8, ?_⟩
        rw [ct, eo]; exact h1 e
      · refine br_f (by rw [ez]; exact wn_n10) ⟨v8, ?_⟩
        rw [ct, eo]; exact h1 e
  | succ j ih =>
    intro k n hk hn
    obtain ⟨n, rfl⟩ : ∃ n', n = n' + 1 := ⟨n - 1, by omega⟩
    have hk3 : k < 3 := by omega
    have c : (nI (ix k)).toNatClampNeg = ix k := nI_clamp (by have := hix k hk3; omega)
    have v72 : vp_in (nI (ix k)) 72 := vp_in_nI (hix k hk3) (by omega)
    have nx := ih (k + 1) n (by omega) (by omega)
    have hle := (wn_lst_le (fun b => W (ix b)) k).1
    have hwk := hW k hk3
    rw [wX_moveToValue_7]
    refine br_f (nI_ge (b := 3) (by omega) (by omega)) (hpa _ k ⟨v72, nm_r (e' := nI (W (ix k))) (by rw [c, hw k hk3]) ?_⟩)
    rcases wn_lst_s (fun b => W (ix b)) k with ⟨h3, e⟩ | ⟨h3, e⟩
    · rw [e] at nx
      exact br_t (nI_le h3 (by omega)) (nm_r (nI_1 k) nx)
    · rw [e] at nx
      exact br_f (nI_ge h3 (by omega)) (nm_r (nI_1 k) nx)
theorem wn_xmv {post : SX → Prop} {z : Int32} {t a vv n fl T : Nat} {O W A B ix : Nat → Nat} {S0 : (Nat → Nat) → Nat} (hTF : wn_TF A B T) (hP : wn_PA t a z ix) (I : wn_IX A B T t vv a ix) (hz : (z = 0 ∧ a_overY t = nI vv) ∨ (z = 1 ∧ a_overX t = nI vv))
    (ho : ∀ i, i < 18 → a_one i = nI (O i)) (hw : ∀ i, i < T * 9 → a_two i = nI (W i)) (hM : wn_MO n fl O W A B T S0) (hn : n ≤ 50)
    (h : ∀ (O' W' : Nat → Nat) (one two : Nat → Int32), (∀ i, i < 18 → one i = nI (O' i)) → (∀ i, i < T * 9 → two i = nI (W' i)) → wn_MO (n + 1) fl O' W' A B T S0 → post (f_tables, f_ready, f_floor, f_found, f_best, a_cost, a_overX, a_overY, a_pairCost, one, two, a_fixed, a_taken, a_sofar, a_nextValue, a_bestValues)) :
    wpX_moveToValue post (f_tables, f_ready, f_floor, f_found, f_best, a_cost, a_overX, a_overY, a_pairCost, a_one, a_two, a_fixed, a_taken, a_sofar, a_nextValue, a_bestValues) (nI t) (nI a) z := by
  have hT := hTF.1
  obtain ⟨ht, hv, ha, hrg, hin, hout⟩ := id I
  have hb72 : ∀ b, b < 3 → ix b < T * 9 := fun b hb => by have := hrg b hb; omega
  have hW : ∀ b, b < 3 → W (ix b) ≤ 100000 := fun b hb => wn_fb_le (hM.2.1 _ (hb72 b hb)) (by omega)
  have hwb : ∀ b, b < 3 → a_two (ix b) = nI (W (ix b)) := fun b hb => hw _ (hb72 b hb)
  have hle := wn_lst_le (fun b => W (ix b)) 3
  have hO18 := hM.1 (vv * 3 + a) (by omega)
  unfold wpX_moveToValue
  refine ⟨4, wn_xmv7 hP (by omega) hz hW hwb (fun _ => h O W a_one a_two ho hw (wn_MO_up hM (by omega))) (fun _ => ?_) 3 0 4 (by omega) (by omega)⟩
  refine wn_xmv70 (o := O (vv * 3 + a)) hP hv ha hle.1 (wn_fb_le hO18 (by omega)) (fun b hb => ⟨hW b hb, hle.2 b hb⟩) hwb (ho _ (by omega)) (fun two h1 h2 => ?_)
  refine h (wn_up O (vv * 3 + a) (wn_mor (O (vv * 3 + a)) (wn_lst (fun b => W (ix b)) 3))) (wn_nW ix (wn_lst (fun b => W (ix b)) 3) W) _ two (fun i hi => ?_) (fun i hi => ?_) ?_
  · by_cases e : i = vv * 3 + a
    · rw [e, pk_us, wn_up_s]
    · rw [pk_un e, wn_up_n e]; exact ho i hi
  · by_cases e : wn_row ix i
    · rw [wn_nW_1 e]
      obtain ⟨b, hb, e'⟩ := wn_row_iff.mp e
      rw [e']; exact h2 b hb
    · rw [wn_nW_0 e, h1 i e]; exact hw i hi
  · exact wn_mvV hTF I hM hn rfl wn_up_s (fun i hi => wn_up_n hi) (fun b hb => wn_nW_1 (wn_row_iff.mpr ⟨b, hb, rfl⟩)) (fun i hi => wn_nW_0 hi)
theorem wn_xmf55 {post : SX → Prop} {v l : Nat} {O : Nat → Nat} (hv : v < 6) (hl : l ≤ 100000) (hO : ∀ a, a < 3 → O (v * 3 + a) ≤ 100000 ∧ l ≤ O (v * 3 + a)) (ho : ∀ a, a < 3 → a_one (v * 3 + a) = nI (O (v * 3 + a)))
    (h : ∀ one : Nat → Int32, (∀ i, i < v * 3 ∨ v * 3 + 3 ≤ i → one i = a_one i) → (∀ a, a < 3 → one (v * 3 + a) = nI (wn_nw l (O (v * 3 + a)))) → post (f_tables, f_ready, f_floor, f_found, f_best, a_cost, a_overX, a_overY, a_pairCost, one, a_two, a_fixed, a_taken, a_sofar, a_nextValue, a_bestValues)) :
    ∀ (j k n : Nat) (one : Nat → Int32), k + j = 3 → j < n → (∀ i, i < v * 3 ∨ v * 3 + k ≤ i → one i = a_one i) → (∀ a, a < k → one (v * 3 + a) = nI (wn_nw l (O (v * 3 + a)))) → wX_moveToFloor_55 post (nI v) (nI l) f_tables f_ready f_floor f_found f_best n (nI k) a_cost a_overX a_overY a_pairCost one a_two a_fixed a_taken a_sofar a_nextValue a_bestValues := by
  intro j
  induction j with
  | zero =>
    intro k n one hk hn h1 h2
    obtain ⟨n, rfl⟩ : ∃ n', n = n' + 1 := ⟨n - 1, by omega⟩
    rw [wX_moveToFloor_55]
    exact br_t (nI_le (a := 3) (by omega) (by omega)) (h one (fun i hi => h1 i (by omega)) (fun a ha => h2 a (by omega)))
  | succ j ih =>
    intro k n one hk hn h1 h2
    obtain ⟨n, rfl⟩ : ∃ n', n = n' + 1 := ⟨n - 1, by omega⟩
    have hk3 : k < 3 := by omega
    have c : (nI (v * 3 + k)).toNatClampNeg = v * 3 + k := nI_clamp (by omega)
    have v18 : vp_in (nI (v * 3 + k)) 18 := vp_in_nI (by omega) (by omega)
    have e2 : one (v * 3 + k) = nI (O (v * 3 + k)) := by rw [h1 _ (by omega), ho k hk3]
    have nx : wX_moveToFloor_55 post (nI v) (nI l) f_tables f_ready f_floor f_found f_best n (nI (k + 1)) a_cost a_overX a_overY a_pairCost (upd one (v * 3 + k) (nI (wn_nw l (O (v * 3 + k))))) a_two a_fixed a_taken a_sofar a_nextValue a_bestValues := by
      refine ih (k + 1) n _ (by omega) (by omega) (fun i hi => ?_) (fun a ha => ?_)
      · rw [pk_un (by omega)]; exact h1 i (by omega)
      · by_cases e : a = k
        · rw [e, pk_us]
        · rw [pk_un (by omega)]; exact h2 a (by omega)
    rw [wX_moveToFloor_55]
    refine br_f (nI_ge (b := 3) (by omega) (by omega)) ?_
    rw [wn_i3]
    by_cases hl5 : l < 50000
    · rw [wn_nw_1 hl5] at nx
      refine br_t (nI_lt (b := 50000) hl5 (by omega)) ⟨v18, ?_⟩
      exact wn_xless (O (v * 3 + k)) l ⟨v18, nm_r (by rw [c]) (nm_r (nI_1 k) nx)⟩ (by rw [c, e2]) rfl (fun _ => (hO k hk3).2) (hO k hk3).1
    · rw [wn_nw_0 hl5] at nx
      exact br_f (nI_nlt (b := 50000) (by omega) (by omega)) ⟨v18, nm_r (e' := upd one (v * 3 + k) (nI 0)) (by rw [c, nI_0]) (nm_r (nI_1 k) nx)⟩
theorem wn_xmf5 {post : SX → Prop} {v fl : Nat} {O : Nat → Nat} (hv : v < 6) (hO : ∀ a, a < 3 → O (v * 3 + a) ≤ 100000) (ho : ∀ a, a < 3 → a_one (v * 3 + a) = nI (O (v * 3 + a))) (hf : fl ≤ 100000) (ef : f_floor = nI fl)
    (h : ∃ n55, wX_moveToFloor_55 post (nI v) (nI (wn_lst (fun a => O (v * 3 + a)) 3)) f_tables f_ready (nI (wn_mor fl (wn_lst (fun a => O (v * 3 + a)) 3))) f_found f_best n55 0 a_cost a_overX a_overY a_pairCost a_one a_two a_fixed a_taken a_sofar a_nextValue a_bestValues) :
    ∀ j k n, k + j = 3 → j < n → wX_moveToFloor_5 post (nI v) f_tables f_ready f_floor f_found f_best a_cost a_overX a_overY a_pairCost a_one a_two a_fixed a_taken a_sofar a_nextValue a_bestValues n (nI (wn_lst (fun a => O (v * 3 + a)) k)) (nI k) := by
  intro j
  induction j with
  | zero =>
    intro k n hk hn
    obtain ⟨n, rfl⟩ : ∃ n', n = n' + 1 := ⟨n - 1, by omega⟩
    have ek : k = 3 := by omega
    have hle := (wn_lst_le (fun a => O (v * 3 + a)) 3).1
    rw [ek, wX_moveToFloor_5]
    exact br_t (nI_le (a := 3) (by omega) (by omega)) (wn_xmore fl _ h ef rfl hf hle)
  | succ j ih =>
    intro k n hk hn
    obtain ⟨n, rfl⟩ : ∃ n', n = n' + 1 := ⟨n - 1, by omega⟩
    have hk3 : k < 3 := by omega
    have c : (nI (v * 3 + k)).toNatClampNeg = v * 3 + k := nI_clamp (by omega)
    have v18 : vp_in (nI (v * 3 + k)) 18 := vp_in_nI (by omega) (by omega)
    have nx := ih (k + 1) n (by omega) (by omega)
    have hle := (wn_lst_le (fun a => O (v * 3 + a)) k).1
    have hok := hO k hk3
    rw [wX_moveToFloor_5]
    refine br_f (nI_ge (b := 3) (by omega) (by omega)) ?_
    rw [wn_i3, c, ho k hk3]
    refine ⟨v18, ?_⟩
    rcases wn_lst_s (fun a => O (v * 3 + a)) k with ⟨h3, e⟩ | ⟨h3, e⟩
    · rw [e] at nx
      exact br_t (nI_le h3 (by omega)) (nm_r (nI_1 k) nx)
    · rw [e] at nx
      exact br_f (nI_ge h3 (by omega)) ⟨v18, nm_e (nm_r (nI_1 k) nx)⟩
theorem wn_xmf {post : SX → Prop} {v fl T : Nat} {O W A B : Nat → Nat} {S0 : (Nat → Nat) → Nat} (hv : v < 6) (ho : ∀ i, i < 18 → a_one i = nI (O i)) (hM : wn_MF v fl O W A B T S0)
    (h : ∀ (fl' : Nat) (O' : Nat → Nat) (one : Nat → Int32), (∀ i, i < 18 → one i = nI (O' i)) → wn_MF (v + 1) fl' O' W A B T S0 → post (f_tables, f_ready, (nI fl'), f_found, f_best, a_cost, a_overX, a_overY, a_pairCost, one, a_two, a_fixed, a_taken, a_sofar, a_nextValue, a_bestValues)) :
    wpX_moveToFloor post (f_tables, f_ready, (nI fl), f_found, f_best, a_cost, a_overX, a_overY, a_pairCost, a_one, a_two, a_fixed, a_taken, a_sofar, a_nextValue, a_bestValues) (nI v) := by
  have hO : ∀ a, a < 3 → O (v * 3 + a) ≤ 100000 := fun a ha => wn_fb_le (hM.2.1 _ (by omega)) (by omega)
  have hle := wn_lst_le (fun a => O (v * 3 + a)) 3
  have hf : fl ≤ 100000 := wn_fb_le hM.1 (by omega)
  have hoa : ∀ a, a < 3 → a_one (v * 3 + a) = nI (O (v * 3 + a)) := fun a ha => ho _ (by omega)
  unfold wpX_moveToFloor
  refine ⟨4, wn_xmf5 hv hO hoa hf rfl ⟨4, wn_xmf55 hv hle.1 (fun a ha => ⟨hO a ha, hle.2 a ha⟩) hoa (fun one h1 h2 => ?_) 3 0 4 a_one (by omega) (by omega) (fun _ _ => rfl) (fun a ha => by omega)⟩ 3 0 4 (by omega) (by omega)⟩
  refine h _ (fun i => if v * 3 ≤ i ∧ i < v * 3 + 3 then wn_nw (wn_lst (fun a => O (v * 3 + a)) 3) (O i) else O i) one (fun i hi => ?_) ?_
  · show one i = nI (if v * 3 ≤ i ∧ i < v * 3 + 3 then wn_nw (wn_lst (fun a => O (v * 3 + a)) 3) (O i) else O i)
    by_cases e : v * 3 ≤ i ∧ i < v * 3 + 3
    · rw [if_pos e]
      have e' : i = v * 3 + (i - v * 3) := by omega
      have := h2 (i - v * 3) (by omega)
      rw [← e'] at this
      exact this
    · rw [if_neg e, h1 i (by omega)]; exact ho i hi
  · exact wn_mvF hv hM rfl rfl (fun a ha => if_pos (by omega)) (fun i hi => if_neg (by omega))
end
end
section
/-! 12: X: prepare and the search as a whole -/
/-- the costs as given -/
def wn_G (T : Nat) (C P A B : Nat → Nat) (f_tables : Int32) (a_cost a_overX a_overY a_pairCost : Nat → Int32) : Prop :=
  wn_TF A B T ∧ f_tables = nI T ∧ (∀ i, i < 18 → a_cost i = nI (C i) ∧ C i ≤ 20) ∧ (∀ t, t < T → a_overX t = nI (A t) ∧ a_overY t = nI (B t)) ∧ (∀ i, i < 72 → a_pairCost i = nI (P i) ∧ P i ≤ 20)
def wn_S0 (C P A B : Nat → Nat) (T : Nat) (x : Nat → Nat) : Nat := wn_S 0 (fun i => wn_as (C i)) (fun i => wn_as (P i)) A B T x
def wn_K (C P A B : Nat → Nat) (T q : Nat) : Nat := wn_cp (wn_S0 C P A B T (wn_dg q))
/-- moved -/
def wn_PR (T : Nat) (C P A B : Nat → Nat) (f_tables f_floor : Int32) (a_overX a_overY a_one a_two : Nat → Int32) : Prop :=
  ∃ (fl : Nat) (O W : Nat → Nat), wn_XM T A B O W fl f_tables f_floor a_overX a_overY a_one a_two ∧ ∀ x, wn_vx x → wn_cp (wn_S fl O W A B T x) = wn_cp (wn_S0 C P A B T x)
section
variable {f_tables f_ready f_floor f_found f_best : Int32} {a_cost a_overX a_overY a_pairCost a_one a_two a_fixed a_taken a_sofar a_nextValue a_bestValues : Nat → Int32}
variable {T : Nat} {C P A B : Nat → Nat}
theorem wn_x126 {post : SX → Prop} {W : Nat → Nat} {S0 : (Nat → Nat) → Nat} (h : ∀ (fl : Nat) (O : Nat → Nat) (one : Nat → Int32), (∀ i, i < 18 → one i = nI (O i)) → wn_MF 6 fl O W A B T S0 → post (f_tables, f_ready, (nI fl), f_found, f_best, a_cost, a_overX, a_overY, a_pairCost, one, a_two, a_fixed, a_taken, a_sofar, a_nextValue, a_bestValues)) :
    ∀ (j v n fl : Nat) (O : Nat → Nat) (one : Nat → Int32), v + j = 6 → j < n → (∀ i, i < 18 → one i = nI (O i)) → wn_MF v fl O W A B T S0 → wX_prepare_126 post n (nI v) f_tables f_ready (nI fl) f_found f_best a_cost a_overX a_overY a_pairCost one a_two a_fixed a_taken a_sofar a_nextValue a_bestValues := by
  intro j
  induction j with
  | zero =>
    intro v n fl O one hv hn h1 h2
    obtain ⟨n, rfl⟩ : ∃ n', n = n' + 1 := ⟨n - 1, by omega⟩
    have ev : v = 6 := by omega
    subst ev
    rw [wX_prepare_126]
    exact br_t (nI_le (a := 6) (by omega) (by omega)) (h fl O one h1 h2)
  | succ j ih =>
    intro v n fl O one hv hn h1 h2
    obtain ⟨n, rfl⟩ : ∃ n', n = n' + 1 := ⟨n - 1, by omega⟩
    rw [wX_prepare_126]
    refine br_f (nI_ge (b := 6) (by omega) (by omega)) (wn_xmf (by omega) h1 h2 (fun fl' O' one' h3 h4 => ?_))
    exact nm_r (nI_1 v) (ih (v + 1) n fl' O' one' (by omega) (by omega) h3 h4)
theorem wn_x93 {post : SX → Prop} {t : Nat} {J83 : Int32 → Int32 → Int32 → Int32 → Int32 → Int32 → (Nat → Int32) → (Nat → Int32) → (Nat → Int32) → (Nat → Int32) → (Nat → Int32) → (Nat → Int32) → (Nat → Int32) → (Nat → Int32) → (Nat → Int32) → (Nat → Int32) → (Nat → Int32) → Prop} {S0 : (Nat → Nat) → Nat}
    (hTF : wn_TF A B T) (hov : ∀ t, t < T → a_overX t = nI (A t) ∧ a_overY t = nI (B t)) (ht : t < T)
    (h : ∀ (O W : Nat → Nat) (one two : Nat → Int32), (∀ i, i < 18 → one i = nI (O i)) → (∀ i, i < T * 9 → two i = nI (W i)) → wn_MO (6 * (t + 1)) 0 O W A B T S0 → J83 (nI (t + 1)) f_tables f_ready f_floor f_found f_best a_cost a_overX a_overY a_pairCost one two a_fixed a_taken a_sofar a_nextValue a_bestValues) :
    ∀ (j a n : Nat) (O W : Nat → Nat) (one two : Nat → Int32), a + j = 3 → j < n → (∀ i, i < 18 → one i = nI (O i)) → (∀ i, i < T * 9 → two i = nI (W i)) → wn_MO (6 * t + 2 * a) 0 O W A B T S0 → wX_prepare_93 post J83 (nI t) n (nI a) f_tables f_ready f_floor f_found f_best a_cost a_overX a_overY a_pairCost one two a_fixed a_taken a_sofar a_nextValue a_bestValues := by
  have hT := hTF.1
  intro j
  induction j with
  | zero =>
    intro a n O W one two ha hn h1 h2 h3
    obtain ⟨n, rfl⟩ : ∃ n', n = n' + 1 := ⟨n - 1, by omega⟩
    rw [wX_prepare_93]
    exact br_t (nI_le (a := 3) (by omega) (by omega)) (nm_r (nI_1 t) (h O W one two h1 h2 (wn_MO_up h3 (by omega))))
  | succ j ih =>
    intro a n O W one two ha hn h1 h2 h3
    obtain ⟨n, rfl⟩ : ∃ n', n = n' + 1 := ⟨n - 1, by omega⟩
    rw [wX_prepare_93]
    refine br_f (nI_ge (b := 3) (by omega) (by omega)) (wn_xmv hTF (wn_PAA (by omega) (by omega)) (wn_IXA hTF ht (by omega)) (Or.inr ⟨rfl, (hov t ht).1⟩) h1 h2 h3 (by omega) (fun O1 W1 one1 two1 k1 k2 k3 => ?_))
    refine wn_xmv hTF (wn_PAB (by omega) (by omega)) (wn_IXB hTF ht (by omega)) (Or.inl ⟨rfl, (hov t ht).2⟩) k1 k2 k3 (by omega) (fun O2 W2 one2 two2 m1 m2 m3 => ?_)
    exact nm_r (nI_1 a) (ih (a + 1) n O2 W2 one2 two2 (by omega) (by omega) m1 m2 (wn_MO_up m3 (by omega)))
theorem wn_x83 {post : SX → Prop} {S0 : (Nat → Nat) → Nat} (hTF : wn_TF A B T) (hov : ∀ t, t < T → a_overX t = nI (A t) ∧ a_overY t = nI (B t)) (eT : f_tables = nI T)
    (h : ∀ (fl : Nat) (O W : Nat → Nat) (one two : Nat → Int32), (∀ i, i < 18 → one i = nI (O i)) → (∀ i, i < T * 9 → two i = nI (W i)) → wn_MF 6 fl O W A B T S0 → post (f_tables, f_ready, (nI fl), f_found, f_best, a_cost, a_overX, a_overY, a_pairCost, one, two, a_fixed, a_taken, a_sofar, a_nextValue, a_bestValues)) :
    ∀ (j t n : Nat) (O W : Nat → Nat) (one two : Nat → Int32), t + j = T → j < n → (∀ i, i < 18 → one i = nI (O i)) → (∀ i, i < T * 9 → two i = nI (W i)) → wn_MO (6 * t) 0 O W A B T S0 → wX_prepare_83 post n (nI t) f_tables f_ready (nI 0) f_found f_best a_cost a_overX a_overY a_pairCost one two a_fixed a_taken a_sofar a_nextValue a_bestValues := by
  have hT := hTF.1
  intro j
  induction j with
  | zero =>
    intro t n O W one two ht hn h1 h2 h3
    obtain ⟨n, rfl⟩ : ∃ n', n = n' + 1 := ⟨n - 1, by omega⟩
    rw [wX_prepare_83]
    exact br_t (by rw [eT]; exact nI_le (by omega) (by omega)) ⟨7, wn_x126 (fun fl O' one' k1 k2 => h fl O' W one' two k1 h2 k2) 6 0 7 0 O one (by omega) (by omega) h1 (wn_MF_0 h3 (by omega))⟩
  | succ j ih =>
    intro t n O W one two ht hn h1 h2 h3
    obtain ⟨n, rfl⟩ : ∃ n', n = n' + 1 := ⟨n - 1, by omega⟩
    rw [wX_prepare_83]
    exact br_f (by rw [eT]; exact nI_ge (by omega) (by omega)) ⟨4, wn_x93 hTF hov (by omega) (fun O' W' one' two' k1 k2 k3 => ih (t + 1) n O' W' one' two' (by omega) (by omega) k1 k2 k3) 3 0 4 O W one two (by omega) (by omega) h1 h2 h3⟩
theorem wn_x49 {post : SX → Prop} (hT : T ≤ 8) (eT : f_tables = nI T) (hP : ∀ i, i < 72 → a_pairCost i = nI (P i) ∧ P i ≤ 20)
    (h : ∀ two : Nat → Int32, (∀ i, i < T * 9 → two i = nI (wn_as (P i))) → ∃ n83, wX_prepare_83 post n83 0 f_tables f_ready f_floor f_found f_best a_cost a_overX a_overY a_pairCost a_one two a_fixed a_taken a_sofar a_nextValue a_bestValues) :
    ∀ (j k n : Nat) (two : Nat → Int32), k + j = T * 9 → j < n → (∀ i, i < k → two i = nI (wn_as (P i))) → wX_prepare_49 post f_tables f_ready f_floor f_found f_best n (nI k) a_cost a_overX a_overY a_pairCost a_one two a_fixed a_taken a_sofar a_nextValue a_bestValues := by
  have e9 : f_tables * 9 = nI (T * 9) := by rw [eT, show (9 : Int32) = nI 9 from rfl, pk_mul]
  intro j
  induction j with
  | zero =>
    intro k n two hk hn h1
    obtain ⟨n, rfl⟩ : ∃ n', n = n' + 1 := ⟨n - 1, by omega⟩
    rw [wX_prepare_49]
    exact br_t (by rw [e9]; exact nI_le (by omega) (by omega)) (h two (fun i hi => h1 i (by omega)))
  | succ j ih =>
    intro k n two hk hn h1
    obtain ⟨n, rfl⟩ : ∃ n', n = n' + 1 := ⟨n - 1, by omega⟩
    have c : (nI k).toNatClampNeg = k := nI_clamp (by omega)
    have v72 : vp_in (nI k) 72 := vp_in_nI (by omega) (by omega)
    obtain ⟨eP, lP⟩ := hP k (by omega)
    rw [wX_prepare_49]
    refine br_f (by rw [e9]; exact nI_ge (by omega) (by omega)) ⟨v72, ?_⟩
    refine wn_xas (P k) ⟨v72, nm_r (e' := upd two k (nI (wn_as (P k)))) (by rw [c]) (nm_r (nI_1 k) (ih (k + 1) n _ (by omega) (by omega) (fun i hi => ?_)))⟩ (by rw [c, eP]) lP
    by_cases e : i = k
    · rw [e, pk_us]
    · rw [pk_un e]; exact h1 i (by omega)
theorem wn_x20 {post : SX → Prop} (hC : ∀ i, i < 18 → a_cost i = nI (C i) ∧ C i ≤ 20)
    (h : ∀ one : Nat → Int32, (∀ i, i < 18 → one i = nI (wn_as (C i))) → ∃ n49, wX_prepare_49 post f_tables f_ready f_floor f_found f_best n49 0 a_cost a_overX a_overY a_pairCost one a_two a_fixed a_taken a_sofar a_nextValue a_bestValues) :
    ∀ (j k n : Nat) (one : Nat → Int32), k + j = 18 → j < n → (∀ i, i < k → one i = nI (wn_as (C i))) → wX_prepare_20 post f_tables f_ready f_floor f_found f_best n (nI k) a_cost a_overX a_overY a_pairCost one a_two a_fixed a_taken a_sofar a_nextValue a_bestValues := by
  intro j
  induction j with
  | zero =>
    intro k n one hk hn h1
    obtain ⟨n, rfl⟩ : ∃ n', n = n' + 1 := ⟨n - 1, by omega⟩
    rw [wX_prepare_20]
    exact br_t (nI_le (a := 18) (by omega) (by omega)) (h one (fun i hi => h1 i (by omega)))
  | succ j ih =>
    intro k n one hk hn h1
    obtain ⟨n, rfl⟩ : ∃ n', n = n' + 1 := ⟨n - 1, by omega⟩
    have c : (nI k).toNatClampNeg = k := nI_clamp (by omega)
    have v18 : vp_in (nI k) 18 := vp_in_nI (by omega) (by omega)
    obtain ⟨eC, lC⟩ := hC k (by omega)
    rw [wX_prepare_20]
    refine br_f (nI_ge (b := 18) (by omega) (by omega)) ⟨v18, ?_⟩
    refine wn_xas (C k) ⟨v18, nm_r (e' := upd one k (nI (wn_as (C k)))) (by rw [c]) (nm_r (nI_1 k) (ih (k + 1) n _ (by omega) (by omega) (fun i hi => ?_)))⟩ (by rw [c, eC]) lC
    by_cases e : i = k
    · rw [e, pk_us]
    · rw [pk_un e]; exact h1 i (by omega)
theorem wn_MO_0 (hT : T ≤ 8) (hC : ∀ i, i < 18 → C i ≤ 20) (hP : ∀ i, i < 72 → P i ≤ 20) : wn_MO 0 0 (fun i => wn_as (C i)) (fun i => wn_as (P i)) A B T (wn_S0 C P A B T) :=
  ⟨fun i hi => wn_fb_mono (wn_as_fb (hC i hi)) (by omega), fun i hi => wn_as_fb (hP i (by omega)), fun x _ => rfl⟩
theorem wn_xprep {post : SX → Prop} (g : wn_G T C P A B f_tables a_cost a_overX a_overY a_pairCost) (R : f_ready = 0 ∨ (f_ready = 1 ∧ wn_PR T C P A B f_tables f_floor a_overX a_overY a_one a_two))
    (h : ∀ (f_floor : Int32) (a_one a_two : Nat → Int32), wn_PR T C P A B f_tables f_floor a_overX a_overY a_one a_two → post (f_tables, 1, f_floor, f_found, f_best, a_cost, a_overX, a_overY, a_pairCost, a_one, a_two, a_fixed, a_taken, a_sofar, a_nextValue, a_bestValues)) : wpX_prepare post (f_tables, f_ready, f_floor, f_found, f_best, a_cost, a_overX, a_overY, a_pairCost, a_one, a_two, a_fixed, a_taken, a_sofar, a_nextValue, a_bestValues) := by
  obtain ⟨hTF, eT, hC, hov, hP⟩ := g
  have hT := hTF.1
  unfold wpX_prepare
  rcases R with e | ⟨e, p⟩
  · refine br_t e ⟨19, wn_x20 hC (fun one h1 => ⟨T * 9 + 1, wn_x49 hT eT hP (fun two h2 => ⟨T + 1, ?_⟩) (T * 9) 0 (T * 9 + 1) a_two (by omega) (by omega) (fun i hi => by omega)⟩) 18 0 19 a_one (by omega) (by omega) (fun i hi => by omega)⟩
    refine wn_x83 hTF hov eT (fun fl O W one' two' k1 k2 k3 => ?_) T 0 (T + 1) _ _ one two (by omega) (by omega) h1 h2 (wn_MO_0 hT (fun i hi => (hC i hi).2) (fun i hi => (hP i hi).2))
    obtain ⟨m1, m2, m3, m4⟩ := k3
    exact h (nI fl) one' two' ⟨fl, O, W, ⟨hTF, ⟨m2, m3⟩, m1, eT, rfl, hov, k1, k2⟩, m4⟩
  · subst e
    exact br_f wn_n10 (h f_floor a_one a_two p)
theorem wn_xsearch {post : SX → Prop} {b sh : Int32} {lim : Nat → Nat → Bool} (g : wn_G T C P A B f_tables a_cost a_overX a_overY a_pairCost) (R : f_ready = 0 ∨ (f_ready = 1 ∧ wn_PR T C P A B f_tables f_floor a_overX a_overY a_one a_two)) (hF : wn_FS a_fixed) (hlim : wn_HL b sh lim)
    (h : ∀ (f_floor : Int32) (a_one a_two : Nat → Int32) (fo be ar : Nat) (a_taken a_sofar a_nextValue a_bestValues : Nat → Int32), wn_PR T C P A B f_tables f_floor a_overX a_overY a_one a_two → wn_fd (wn_K C P A B T) (wn_ok a_fixed) lim 729 = (fo, be, ar) → (be < 50000 → ∀ v, v < 6 → a_bestValues v = nI (wn_dg ar v)) → post (f_tables, 1, f_floor, (nI fo), (nI be), a_cost, a_overX, a_overY, a_pairCost, a_one, a_two, a_fixed, a_taken, a_sofar, a_nextValue, a_bestValues)) :
    wpX_search post (f_tables, f_ready, f_floor, f_found, f_best, a_cost, a_overX, a_overY, a_pairCost, a_one, a_two, a_fixed, a_taken, a_sofar, a_nextValue, a_bestValues) b sh := by
  unfold wpX_search
  refine wn_xprep g R (fun f_floor a_one a_two p => ?_)
  have hp := p
  obtain ⟨fl, O, W, M, hS⟩ := hp
  have hTF := M.1
  have hfl := M.2.2.1
  have efl := M.2.2.2.2.1
  refine nm_e ?_
  refine wn_xopen (l := 0) hF (by omega) ?_
  have hK : ∀ q, wn_K C P A B T q = wn_cp (wn_SF fl O W A B T (wn_dg q) 6) := by
    intro q
    rw [wn_SF_6 hTF, hS _ (fun v _ => wn_dg_lt q v)]
    rfl
  have hlh := wn_lohi (v := 0) hF (by omega)
  have GO := wn_xs35 (f_ready := 1) (a_cost := a_cost) (a_pairCost := a_pairCost) (post := post) M hF hK hlim (fun fo be ar tk sf nx bv h1 h2 => h f_floor a_one a_two fo be ar tk sf nx bv p h1 h2) 1457
  refine ⟨1457, GO 0 0 0 100000 0 (fun _ => 0) (fun _ => wn_lo a_fixed 0) _ _ _ _ (by omega) (Nat.lt_succ_of_le wn_ph_0) (by rw [Nat.zero_add]; exact wn_ph_0) ⟨fun i hi => by omega, fun i hi => by omega, fun i hi => by omega, fun i hi => ?_, Nat.le_refl _, (show wn_lo a_fixed 0 ≤ 3 by omega), fun i hi => ?_, ?_, fun hb => absurd hb (by omega)⟩⟩
  · have e : i = 0 := by omega
    subst e
    exact pk_us
  · have e : i = 0 := by omega
    subst e
    rw [pk_us, efl]
    show nI fl = nI (wn_cp fl)
    rw [wn_fb_cp hfl (by omega)]
  · have e := wn_shut (K := wn_K C P A B T) (lim := lim) (c := 0) (d := 0) (e := wn_lo a_fixed 0) (L := 0) hF (by omega) (by omega) (by omega) (fun a _ h2 h3 => by omega)
    show wn_fd (wn_K C P A B T) (wn_ok a_fixed) lim ((0 * 3 + wn_lo a_fixed 0) * 3 ^ (5 - 0)) = _
    rw [e, show (0 * 3 + 0) * 3 ^ (5 - 0) = 0 by decide]
    rfl
end
end
section
/-! 13: Y: valueIn, totalOf, work -/
def wn_yt (k : Nat) : Int32 := if k < 50000 then nI k else -6
theorem wn_yt_1 {k : Nat} (h : k < 50000) : wn_yt k = nI k := if_pos h
theorem wn_yt_0 {k : Nat} (h : 50000 ≤ k) : wn_yt k = -6 := if_neg (by omega)
theorem wn_m6 : (-6 : Int32) < 0 := by decide
theorem wn_m6' : ¬ (0 : Int32) ≤ -6 := by decide
theorem wn_n30 : ¬ (3 : Int32) = 0 := by decide
/-- the reference's sum s and flag f against the capped sum -/
def wn_YA (s : Nat) (f : Int32) (S k : Nat) : Prop := s ≤ 20 * k ∧ ((f = 0 ∧ S = s) ∨ (f = 1 ∧ 100000 ≤ S))
section
variable {f_tables f_known : Int32} {a_costs a_xs a_ys a_pairs a_totals : Nat → Int32}
variable {T : Nat} {C P A B : Nat → Nat}
theorem wn_yv5 {post : Int32 → Prop} {v : Nat} (hv : v < 6) : ∀ j k n q, k = v + j → k < 6 → j < n → q < 2 ^ 31 → post (nI (q / 3 ^ j % 3)) → wY_valueIn_5 post (nI v) f_tables f_known a_costs a_xs a_ys a_pairs a_totals n (nI q) (nI k) := by
  intro j
  induction j with
  | zero =>
    intro k n q hk hk6 hn hq h
    obtain ⟨n, rfl⟩ : ∃ n', n = n' + 1 := ⟨n - 1, by omega⟩
    rw [wY_valueIn_5]
    rw [Nat.pow_zero, Nat.div_one, ← pk_rem hq (by omega) (by omega)] at h
    exact br_t (nI_le (by omega) (by omega)) ⟨wn_n30, h⟩
  | succ j ih =>
    intro k n q hk hk6 hn hq h
    obtain ⟨n, rfl⟩ : ∃ n', n = n' + 1 := ⟨n - 1, by omega⟩
    obtain ⟨k, rfl⟩ : ∃ k', k = k' + 1 := ⟨k - 1, by omega⟩
    rw [wY_valueIn_5]
    refine br_f (nI_ge (by omega) (by omega)) ⟨wn_n30, nm_r (pk_div (d := 3) hq (by omega) (by omega)) (nm_r (pk_m1 k) (ih k n (q / 3) (by omega) (by omega) (by omega) (by omega) ?_))⟩
    rw [Nat.div_div_eq_div_mul, Nat.mul_comm 3, ← Nat.pow_succ]
    exact h
theorem wn_yval {post : Int32 → Prop} {q v : Nat} (hv : v < 6) (hq : q < 2 ^ 31) (h : post (nI (wn_dg q v))) : wpY_valueIn post (f_tables, f_known, a_costs, a_xs, a_ys, a_pairs, a_totals) (nI q) (nI v) := by
  unfold wpY_valueIn
  exact ⟨6, wn_yv5 hv (5 - v) 5 6 q (by omega) (by omega) (by omega) hq h⟩
theorem wn_YA_s {s S k c : Nat} {f : Int32} (h : wn_YA s f S k) (hc : c ≤ 20) : (f = 0 ∧ c = 20 ∧ wn_YA (s + c) 1 (S + wn_as c) (k + 1)) ∨ (f = 0 ∧ ¬ c = 20 ∧ wn_YA (s + c) 0 (S + wn_as c) (k + 1)) ∨ (f = 1 ∧ wn_YA (s + c) 1 (S + wn_as c) (k + 1)) := by
  obtain ⟨h1, h2⟩ := h
  unfold wn_YA
  rcases wn_as_cases hc with ⟨e, ea⟩ | ⟨e, ea⟩ <;> rcases h2 with ⟨ef, hS⟩ | ⟨ef, hS⟩
  · exact Or.inl ⟨ef, e, by omega, Or.inr ⟨rfl, by omega⟩⟩
  · exact Or.inr (Or.inr ⟨ef, by omega, Or.inr ⟨rfl, by omega⟩⟩)
  · exact Or.inr (Or.inl ⟨ef, by omega, by omega, Or.inl ⟨rfl, by omega⟩⟩)
  · exact Or.inr (Or.inr ⟨ef, by omega, Or.inr ⟨rfl, by omega⟩⟩)
theorem wn_y64 {post : Int32 → Prop} {q S1 : Nat} (g : wn_G T C P A B f_tables a_costs a_xs a_ys a_pairs) (hq : q < 729)
    (h : post (wn_yt (wn_cp (S1 + wn_sm (fun t => wn_as (P (t * 9 + wn_dg q (A t) + 3 * wn_dg q (B t)))) T)))) :
    ∀ (j k n s : Nat) (f : Int32), k + j = T → j < n → wn_YA s f (S1 + wn_sm (fun t => wn_as (P (t * 9 + wn_dg q (A t) + 3 * wn_dg q (B t)))) k) (6 + k) → wY_totalOf_64 post (nI q) f_tables f_known a_costs a_xs a_ys a_pairs a_totals n (nI s) f (nI k) := by
  obtain ⟨hTF, eT, hC, hov, hP⟩ := g
  have hT := hTF.1
  intro j
  induction j with
  | zero =>
    intro k n s f hk hn hA
    obtain ⟨n, rfl⟩ : ∃ n', n = n' + 1 := ⟨n - 1, by omega⟩
    have ek : k = T := by omega
    rw [ek] at hA
    rw [wY_totalOf_64]
    refine br_t (by rw [eT]; exact nI_le (by omega) (by omega)) ?_
    obtain ⟨h1, h2⟩ := hA
    rcases h2 with ⟨ef, hS⟩ | ⟨ef, hS⟩
    · rw [hS, wn_cp_lt (by omega), wn_yt_1 (by omega)] at h
      exact br_t ef h
    · rw [wn_cp_ge (by omega), wn_yt_0 (by omega)] at h
      exact br_f (by rw [ef]; exact wn_n10) h
  | succ j ih =>
    intro k n s f hk hn hA
    obtain ⟨n, rfl⟩ : ∃ n', n = n' + 1 := ⟨n - 1, by omega⟩
    have hkT : k < T := by omega
    have c : (nI k).toNatClampNeg = k := nI_clamp (by omega)
    have v8 : vp_in (nI k) 8 := vp_in_nI (by omega) (by omega)
    obtain ⟨eA, eB⟩ := hov k hkT
    obtain ⟨lA, lB, hne⟩ := hTF.2 k hkT
    have d1 := wn_dg_lt q (A k)
    have d2 := wn_dg_lt q (B k)
    have hi : k * 9 + wn_dg q (A k) + 3 * wn_dg q (B k) < 72 := by omega
    obtain ⟨eP, lP⟩ := hP _ hi
    have nx := fun s' f' hA' => ih (k + 1) n s' f' (by omega) (by omega) hA'
    rw [wn_sm_s, ← Nat.add_assoc] at nx
    rw [wY_totalOf_64]
    refine br_f (by rw [eT]; exact nI_ge (by omega) (by omega)) ⟨v8, ?_⟩
    rw [c, eA, eB]
    refine wn_yval lA (by omega) ⟨v8, wn_yval lB (by omega) ?_⟩
    rw [wn_i9, nI_clamp (by omega), eP]
    refine ⟨vp_in_nI hi (by omega), nm_e (nm_r (nI_add s _) ?_)⟩
    rcases wn_YA_s hA lP with ⟨ef, e20, hA'⟩ | ⟨ef, e20, hA'⟩ | ⟨ef, hA'⟩
    · exact br_t ef (br_t (by rw [e20]; rfl) (nm_r (nI_1 k) (nx _ _ hA')))
    · exact br_t ef (br_f (fun z => e20 ((nI_eq (b := 20) (by omega) (by omega)).mp z)) (nm_r (nI_1 k) (nx _ _ hA')))
    · exact br_f (by rw [ef]; exact wn_n10) (nm_r (nI_1 k) (nx _ _ hA'))
theorem wn_y7 {post : Int32 → Prop} {q : Nat} (g : wn_G T C P A B f_tables a_costs a_xs a_ys a_pairs) (hq : q < 729) (h : post (wn_yt (wn_K C P A B T q))) :
    ∀ (j k n s : Nat) (f : Int32), k + j = 6 → j < n → wn_YA s f (wn_sm (fun v => wn_as (C (v * 3 + wn_dg q v))) k) k → wY_totalOf_7 post (nI q) f_tables f_known a_costs a_xs a_ys a_pairs a_totals n (nI s) f (nI k) := by
  intro j
  induction j with
  | zero =>
    intro k n s f hk hn hA
    obtain ⟨n, rfl⟩ : ∃ n', n = n' + 1 := ⟨n - 1, by omega⟩
    have ek : k = 6 := by omega
    subst ek
    rw [wY_totalOf_7]
    refine br_t (nI_le (a := 6) (by omega) (by omega)) ⟨T + 1, ?_⟩
    have e : wn_K C P A B T q = wn_cp (wn_sm (fun v => wn_as (C (v * 3 + wn_dg q v))) 6 + wn_sm (fun t => wn_as (P (t * 9 + wn_dg q (A t) + 3 * wn_dg q (B t)))) T) := by
      unfold wn_K wn_S0 wn_S
      rw [Nat.zero_add]
    rw [e] at h
    exact wn_y64 g hq h T 0 (T + 1) s f (by omega) (by omega) hA
  | succ j ih =>
    intro k n s f hk hn hA
    obtain ⟨n, rfl⟩ : ∃ n', n = n' + 1 := ⟨n - 1, by omega⟩
    have d1 := wn_dg_lt q k
    have hi : k * 3 + wn_dg q k < 18 := by omega
    obtain ⟨eC, lC⟩ := g.2.2.1 _ hi
    have nx := fun s' f' hA' => ih (k + 1) n s' f' (by omega) (by omega) hA'
    rw [wn_sm_s] at nx
    rw [wY_totalOf_7]
    refine br_f (nI_ge (b := 6) (by omega) (by omega)) (wn_yval (by omega) (by omega) ?_)
    rw [wn_i3, nI_clamp (by omega), eC]
    refine ⟨vp_in_nI hi (by omega), nm_e (nm_r (nI_add s _) ?_)⟩
    rcases wn_YA_s hA lC with ⟨ef, e20, hA'⟩ | ⟨ef, e20, hA'⟩ | ⟨ef, hA'⟩
    · exact br_t ef (br_t (by rw [e20]; rfl) (nm_r (nI_1 k) (nx _ _ hA')))
    · exact br_t ef (br_f (fun z => e20 ((nI_eq (b := 20) (by omega) (by omega)).mp z)) (nm_r (nI_1 k) (nx _ _ hA')))
    · exact br_f (by rw [ef]; exact wn_n10) (nm_r (nI_1 k) (nx _ _ hA'))
theorem wn_ytot {post : Int32 → Prop} {q : Nat} (g : wn_G T C P A B f_tables a_costs a_xs a_ys a_pairs) (hq : q < 729) (h : post (wn_yt (wn_K C P A B T q))) : wpY_totalOf post (f_tables, f_known, a_costs, a_xs, a_ys, a_pairs, a_totals) (nI q) := by
  unfold wpY_totalOf
  exact ⟨7, wn_y7 g hq h 6 0 7 0 0 (by omega) (by omega) ⟨Nat.zero_le _, Or.inl ⟨rfl, rfl⟩⟩⟩
/-- the totals are worked out -/
def wn_TT (C P A B : Nat → Nat) (T : Nat) (a_totals : Nat → Int32) : Prop := ∀ q, q < 729 → a_totals q = wn_yt (wn_K C P A B T q)
theorem wn_y10 {post : SY → Prop} (g : wn_G T C P A B f_tables a_costs a_xs a_ys a_pairs) (h : ∀ a_totals : Nat → Int32, wn_TT C P A B T a_totals → post (f_tables, 1, a_costs, a_xs, a_ys, a_pairs, a_totals)) :
    ∀ (j k n : Nat) (tt : Nat → Int32), k + j = 729 → j < n → (∀ q, q < k → tt q = wn_yt (wn_K C P A B T q)) → wY_work_10 post f_tables f_known n (nI k) a_costs a_xs a_ys a_pairs tt := by
  intro j
  induction j with
  | zero =>
    intro k n tt hk hn h1
    obtain ⟨n, rfl⟩ : ∃ n', n = n' + 1 := ⟨n - 1, by omega⟩
    rw [wY_work_10]
    exact br_t (nI_le (a := 729) (by omega) (by omega)) (h tt (fun q hq => h1 q (by omega)))
  | succ j ih =>
    intro k n tt hk hn h1
    obtain ⟨n, rfl⟩ : ∃ n', n = n' + 1 := ⟨n - 1, by omega⟩
    rw [wY_work_10]
    refine br_f (nI_ge (b := 729) (by omega) (by omega)) (wn_ytot g (by omega) ⟨vp_in_nI (by omega) (by omega), nm_r (e' := upd tt k (wn_yt (wn_K C P A B T k))) (by rw [nI_clamp (by omega)]) (nm_r (nI_1 k) (ih (k + 1) n _ (by omega) (by omega) (fun q hq => ?_)))⟩)
    by_cases e : q = k
    · rw [e, pk_us]
    · rw [pk_un e]; exact h1 q (by omega)
theorem wn_ywork {post : SY → Prop} (g : wn_G T C P A B f_tables a_costs a_xs a_ys a_pairs) (R : f_known = 0 ∨ (f_known = 1 ∧ wn_TT C P A B T a_totals)) (h : ∀ a_totals : Nat → Int32, wn_TT C P A B T a_totals → post (f_tables, 1, a_costs, a_xs, a_ys, a_pairs, a_totals)) : wpY_work post (f_tables, f_known, a_costs, a_xs, a_ys, a_pairs, a_totals) := by
  unfold wpY_work
  rcases R with e | ⟨e, t⟩
  · exact br_t e ⟨730, wn_y10 g h 729 0 730 a_totals (by omega) (by omega) (fun q hq => by omega)⟩
  · subst e
    exact br_f wn_n10 (h a_totals t)
end
end
section
/-! 14: Y: the questions, each a fold over the totals -/
theorem wn_st1_no {b : Bool} {k q fo be ar : Nat} (h : ¬ (b = true ∧ k < 50000 ∧ k < be)) : wn_st wn_l1 b k q (fo, be, ar) = (fo, be, ar) :=
  wn_st_no (fun z => h ⟨z.1, z.2.1, (wn_l1_iff z.2.1).mp z.2.2⟩)
theorem wn_st1_yes {b : Bool} {k q fo be ar : Nat} (hb : b = true) (hk : k < 50000) (h : k < be) : wn_st wn_l1 b k q (fo, be, ar) = (fo + 1, k, q) := by
  rw [wn_st_yes ⟨hb, hk, (wn_l1_iff hk).mpr h⟩, if_pos (show k < be from h), if_pos (show k < be from h)]
def wn_yb (be ar : Nat) : Int32 := if be < 50000 then nI ar else -6
theorem wn_yb_1 {be ar : Nat} (h : be < 50000) : wn_yb be ar = nI ar := if_pos h
theorem wn_yb_0 {be ar : Nat} (h : ¬ be < 50000) : wn_yb be ar = -6 := if_neg h
theorem wn_yt_0' {k : Nat} (h : ¬ k < 50000) : wn_yt k = -6 := if_neg h
theorem wn_K_le (C P A B : Nat → Nat) (T q : Nat) : wn_K C P A B T q ≤ 100000 := wn_cp_le _
theorem wn_m6n {k : Nat} (h : k < 2 ^ 31) : ¬ (-6 : Int32) = nI k := by
  intro z
  have := nI_pos (n := k) h
  rw [← z] at this
  exact this wn_m6
theorem wn_yt_eq {k be : Nat} (hb : be < 50000) : wn_yt k = nI be ↔ k = be := by
  by_cases h : k < 50000
  · rw [wn_yt_1 h, nI_eq (by omega) (by omega)]
  · rw [wn_yt_0' h]
    constructor
    · intro z; exact absurd z (wn_m6n (by omega))
    · intro z; omega
section
variable {f_tables f_known : Int32} {a_costs a_xs a_ys a_pairs a_totals : Nat → Int32}
variable {T : Nat} {C P A B : Nat → Nat}
theorem wn_y9 {post : Int32 → SY → Prop} {ok : Nat → Bool} (hok : ∀ q, q < 729 → ok q = true) (tt : wn_TT C P A B T a_totals) (h : post (wn_yb (wn_fd (wn_K C P A B T) ok wn_l1 729).2.1 (wn_fd (wn_K C P A B T) ok wn_l1 729).2.2) (f_tables, f_known, a_costs, a_xs, a_ys, a_pairs, a_totals)) :
    ∀ j k n, k + j = 729 → j < n → wY_first_9 post f_tables f_known a_costs a_xs a_ys a_pairs a_totals n (wn_yb (wn_fd (wn_K C P A B T) ok wn_l1 k).2.1 (wn_fd (wn_K C P A B T) ok wn_l1 k).2.2) (nI k) := by
  intro j
  induction j with
  | zero =>
    intro k n hk hn
    obtain ⟨n, rfl⟩ : ∃ n', n = n' + 1 := ⟨n - 1, by omega⟩
    have ek : k = 729 := by omega
    rw [ek, wY_first_9]
    exact br_t (nI_le (a := 729) (by omega) (by omega)) h
  | succ j ih =>
    intro k n hk hn
    obtain ⟨n, rfl⟩ : ∃ n', n = n' + 1 := ⟨n - 1, by omega⟩
    have c : (nI k).toNatClampNeg = k := nI_clamp (by omega)
    have v729 : vp_in (nI k) 729 := vp_in_nI (by omega) (by omega)
    have nx := ih (k + 1) n (by omega) (by omega)
    have hin := wn_fd_in (K := wn_K C P A B T) (ok := ok) (lim := wn_l1) k
    have hokk := hok k (by omega)
    rw [wn_fd_s] at nx
    obtain ⟨fo, be, ar, es⟩ : ∃ fo be ar, wn_fd (wn_K C P A B T) ok wn_l1 k = (fo, be, ar) := ⟨_, _, _, rfl⟩
    rw [es] at nx hin ⊢
    have hin3 : be < 50000 → ar < k ∧ ok ar = true ∧ wn_K C P A B T ar = be := hin.2.2.1
    have hle : be ≤ 100000 := hin.2.1
    show wY_first_9 post f_tables f_known a_costs a_xs a_ys a_pairs a_totals (n + 1) (wn_yb be ar) (nI k)
    rw [wY_first_9]
    refine br_f (nI_ge (b := 729) (by omega) (by omega)) ⟨v729, ?_⟩
    rw [c, tt k (by omega)]
    by_cases h5 : wn_K C P A B T k < 50000
    · rw [wn_yt_1 h5]
      refine br_f (nI_pos (by omega)) ?_
      by_cases hb : be < 50000
      · obtain ⟨h1, h2, h3⟩ := hin3 hb
        rw [wn_yb_1 hb]
        refine br_f (nI_pos (by omega)) ⟨v729, vp_in_nI (by omega) (by omega), ?_⟩
        rw [nI_clamp (n := ar) (by omega), tt ar (by omega), h3, wn_yt_1 hb]
        by_cases hc : be ≤ wn_K C P A B T k
        · rw [wn_st1_no (by omega), show wn_yb (fo, be, ar).2.1 (fo, be, ar).2.2 = nI ar from wn_yb_1 hb] at nx
          exact br_t (nI_le hc (by omega)) (nm_r (nI_1 k) nx)
        · rw [wn_st1_yes hokk h5 (by omega), show wn_yb (fo + 1, wn_K C P A B T k, k).2.1 (fo + 1, wn_K C P A B T k, k).2.2 = nI k from wn_yb_1 h5] at nx
          exact br_f (nI_ge (by omega) (by omega)) (nm_r (nI_1 k) nx)
      · rw [wn_yb_0 hb]
        rw [wn_st1_yes hokk h5 (by omega), show wn_yb (fo + 1, wn_K C P A B T k, k).2.1 (fo + 1, wn_K C P A B T k, k).2.2 = nI k from wn_yb_1 h5] at nx
        exact br_t wn_m6 (nm_r (nI_1 k) nx)
    · rw [wn_yt_0' h5]
      rw [wn_st1_no (by omega)] at nx
      exact br_t wn_m6 (nm_r (nI_1 k) nx)
theorem wn_yfirst {post : Int32 → SY → Prop} {ok : Nat → Bool} {fo be ar : Nat} (g : wn_G T C P A B f_tables a_costs a_xs a_ys a_pairs) (R : f_known = 0 ∨ (f_known = 1 ∧ wn_TT C P A B T a_totals)) (hok : ∀ q, q < 729 → ok q = true)
    (e : wn_fd (wn_K C P A B T) ok wn_l1 729 = (fo, be, ar)) (h : ∀ a_totals : Nat → Int32, wn_TT C P A B T a_totals → post (wn_yb be ar) (f_tables, 1, a_costs, a_xs, a_ys, a_pairs, a_totals)) : wpY_first post (f_tables, f_known, a_costs, a_xs, a_ys, a_pairs, a_totals) := by
  unfold wpY_first
  refine wn_ywork g R (fun a_totals tt => ?_)
  have h' := h a_totals tt
  refine ⟨730, wn_y9 hok tt (by rw [e]; exact h') 729 0 730 (by omega) (by omega)⟩
theorem wn_yleast {post : Int32 → SY → Prop} {ok : Nat → Bool} {fo be ar : Nat} (g : wn_G T C P A B f_tables a_costs a_xs a_ys a_pairs) (R : f_known = 0 ∨ (f_known = 1 ∧ wn_TT C P A B T a_totals)) (hok : ∀ q, q < 729 → ok q = true)
    (e : wn_fd (wn_K C P A B T) ok wn_l1 729 = (fo, be, ar)) (h : ∀ a_totals : Nat → Int32, wn_TT C P A B T a_totals → post (wn_yt be) (f_tables, 1, a_costs, a_xs, a_ys, a_pairs, a_totals)) : wpY_least post (f_tables, f_known, a_costs, a_xs, a_ys, a_pairs, a_totals) := by
  have hin := wn_fd_in (K := wn_K C P A B T) (ok := ok) (lim := wn_l1) 729
  rw [e] at hin
  unfold wpY_least
  refine wn_yfirst g R hok e (fun a_totals tt => ?_)
  have h' := h a_totals tt
  show (0 ≤ wn_yb be ar → _) ∧ (¬ 0 ≤ wn_yb be ar → _)
  by_cases hb : be < 50000
  · obtain ⟨h1, h2, h3⟩ : ar < 729 ∧ ok ar = true ∧ wn_K C P A B T ar = be := hin.2.2.1 hb
    rw [wn_yb_1 hb]
    refine br_t (nI_pos' (by omega)) ⟨vp_in_nI (by omega) (by omega), ?_⟩
    rw [nI_clamp (by omega), tt ar (by omega), h3]
    exact h'
  · rw [wn_yb_0 hb]
    rw [wn_yt_0' hb] at h'
    exact br_f wn_m6' h'
theorem wn_y8 {post : Int32 → SY → Prop} {ok : Nat → Bool} {lim : Nat → Nat → Bool} {x1 : Int32} (hok : ∀ q, q < 729 → ok q = true) (tt : wn_TT C P A B T a_totals) (hl : ∀ q be, q < 729 → wn_K C P A B T q < 50000 → (x1 < nI (wn_K C P A B T q) ↔ ¬ lim be (wn_K C P A B T q) = true))
    (h : post (nI (wn_fd (wn_K C P A B T) ok lim 729).1) (f_tables, f_known, a_costs, a_xs, a_ys, a_pairs, a_totals)) : ∀ j k n, k + j = 729 → j < n → wY_upTo_8 post x1 f_tables f_known a_costs a_xs a_ys a_pairs a_totals n (nI (wn_fd (wn_K C P A B T) ok lim k).1) (nI k) := by
  intro j
  induction j with
  | zero =>
    intro k n hk hn
    obtain ⟨n, rfl⟩ : ∃ n', n = n' + 1 := ⟨n - 1, by omega⟩
    have ek : k = 729 := by omega
    rw [ek, wY_upTo_8]
    exact br_t (nI_le (a := 729) (by omega) (by omega)) h
  | succ j ih =>
    intro k n hk hn
    obtain ⟨n, rfl⟩ : ∃ n', n = n' + 1 := ⟨n - 1, by omega⟩
    have c : (nI k).toNatClampNeg = k := nI_clamp (by omega)
    have v729 : vp_in (nI k) 729 := vp_in_nI (by omega) (by omega)
    have nx := ih (k + 1) n (by omega) (by omega)
    have hokk := hok k (by omega)
    rw [wn_fd_s] at nx
    rw [wY_upTo_8]
    refine br_f (nI_ge (b := 729) (by omega) (by omega)) ⟨v729, ?_⟩
    rw [c, tt k (by omega)]
    by_cases h5 : wn_K C P A B T k < 50000
    · rw [wn_yt_1 h5]
      refine br_f (nI_pos (by omega)) ⟨v729, ?_⟩
      have hlk := hl k (wn_fd (wn_K C P A B T) ok lim k).2.1 (by omega) h5
      by_cases hc : lim (wn_fd (wn_K C P A B T) ok lim k).2.1 (wn_K C P A B T k) = true
      · rw [wn_st_yes ⟨hokk, h5, hc⟩] at nx
        exact br_f (fun z => (hlk.mp z) hc) (nm_r (nI_1 _) (nm_r (nI_1 k) nx))
      · rw [wn_st_no (fun z => hc z.2.2)] at nx
        exact br_t (hlk.mpr hc) (nm_r (nI_1 k) nx)
    · rw [wn_yt_0' h5]
      rw [wn_st_no (fun z => h5 z.2.1)] at nx
      exact br_t wn_m6 (nm_r (nI_1 k) nx)
theorem wn_yupto {post : Int32 → SY → Prop} {ok : Nat → Bool} {lim : Nat → Nat → Bool} {x1 : Int32} {fo be ar : Nat} (g : wn_G T C P A B f_tables a_costs a_xs a_ys a_pairs) (R : f_known = 0 ∨ (f_known = 1 ∧ wn_TT C P A B T a_totals)) (hok : ∀ q, q < 729 → ok q = true)
    (hl : ∀ q be, q < 729 → wn_K C P A B T q < 50000 → (x1 < nI (wn_K C P A B T q) ↔ ¬ lim be (wn_K C P A B T q) = true)) (e : wn_fd (wn_K C P A B T) ok lim 729 = (fo, be, ar))
    (h : ∀ a_totals : Nat → Int32, wn_TT C P A B T a_totals → post (nI fo) (f_tables, 1, a_costs, a_xs, a_ys, a_pairs, a_totals)) : wpY_upTo post (f_tables, f_known, a_costs, a_xs, a_ys, a_pairs, a_totals) x1 := by
  unfold wpY_upTo
  refine wn_ywork g R (fun a_totals tt => ?_)
  have h' := h a_totals tt
  refine ⟨730, wn_y8 hok tt hl (by rw [e]; exact h') 729 0 730 (by omega) (by omega)⟩
theorem wn_y66 {post : Int32 → SY → Prop} {J : Int32 → Int32 → Prop} {x1 x2 : Int32} {k be : Nat} (hk : k < 729) (hbe : be ≤ 100000) (tt : wn_TT C P A B T a_totals) (h5 : wn_K C P A B T k < 50000) (h1 : wn_K C P A B T k < be → J (nI (wn_K C P A B T k)) (nI (k + 1))) (h2 : ¬ wn_K C P A B T k < be → J (wn_yt be) (nI (k + 1))) :
    wY_leastWith_66 post J x1 x2 (wn_yt be) (nI k) 1 f_tables f_known a_costs a_xs a_ys a_pairs a_totals := by
  have c : (nI k).toNatClampNeg = k := nI_clamp (by omega)
  have v729 : vp_in (nI k) 729 := vp_in_nI (by omega) (by omega)
  unfold wY_leastWith_66
  refine br_f wn_n10 ?_
  rw [c, tt k hk, wn_yt_1 h5]
  by_cases hb : be < 50000
  · rw [wn_yt_1 hb] at h2 ⊢
    refine br_f (nI_pos (by omega)) ⟨v729, ?_⟩
    by_cases hc : wn_K C P A B T k < be
    · exact br_f (nI_ge hc (by omega)) ⟨v729, nm_e (nm_r (nI_1 k) (h1 hc))⟩
    · exact br_t (nI_le (by omega) (by omega)) (nm_r (nI_1 k) (h2 hc))
  · rw [wn_yt_0' hb]
    exact br_t wn_m6 ⟨v729, nm_e (nm_r (nI_1 k) (h1 (by omega)))⟩
theorem wn_y32 {post : Int32 → SY → Prop} {ok : Nat → Bool} {v d : Nat} (hv : v < 6) (hd : d < 3) (hok : ∀ q, q < 729 → (ok q = true ↔ wn_dg q v = d)) (tt : wn_TT C P A B T a_totals) (h : post (wn_yt (wn_fd (wn_K C P A B T) ok wn_l1 729).2.1) (f_tables, f_known, a_costs, a_xs, a_ys, a_pairs, a_totals)) :
    ∀ j k n, k + j = 729 → j < n → wY_leastWith_32 post (nI v) (nI d) f_tables f_known a_costs a_xs a_ys a_pairs a_totals n (wn_yt (wn_fd (wn_K C P A B T) ok wn_l1 k).2.1) (nI k) := by
  intro j
  induction j with
  | zero =>
    intro k n hk hn
    obtain ⟨n, rfl⟩ : ∃ n', n = n' + 1 := ⟨n - 1, by omega⟩
    have ek : k = 729 := by omega
    rw [ek, wY_leastWith_32]
    exact br_t (nI_le (a := 729) (by omega) (by omega)) h
  | succ j ih =>
    intro k n hk hn
    obtain ⟨n, rfl⟩ : ∃ n', n = n' + 1 := ⟨n - 1, by omega⟩
    have c : (nI k).toNatClampNeg = k := nI_clamp (by omega)
    have v729 : vp_in (nI k) 729 := vp_in_nI (by omega) (by omega)
    have nx := ih (k + 1) n (by omega) (by omega)
    have hin := wn_fd_in (K := wn_K C P A B T) (ok := ok) (lim := wn_l1) k
    have hokk := hok k (by omega)
    have hdk := wn_dg_lt k v
    rw [wn_fd_s] at nx
    obtain ⟨fo, be, ar, es⟩ : ∃ fo be ar, wn_fd (wn_K C P A B T) ok wn_l1 k = (fo, be, ar) := ⟨_, _, _, rfl⟩
    rw [es] at nx hin ⊢
    have hle : be ≤ 100000 := hin.2.1
    show wY_leastWith_32 post (nI v) (nI d) f_tables f_known a_costs a_xs a_ys a_pairs a_totals (n + 1) (wn_yt be) (nI k)
    rw [wY_leastWith_32]
    refine br_f (nI_ge (b := 729) (by omega) (by omega)) ⟨v729, ?_⟩
    rw [c, tt k (by omega)]
    by_cases h5 : wn_K C P A B T k < 50000
    · rw [wn_yt_1 h5]
      refine br_f (nI_pos (by omega)) (wn_yval hv (by omega) ?_)
      by_cases he : wn_dg k v = d
      · refine br_t (by rw [he]) (wn_y66 (by omega) hle tt h5 (fun hc => ?_) (fun hc => ?_))
        · rw [wn_st1_yes (hokk.mpr he) h5 hc, show wn_yt (fo + 1, wn_K C P A B T k, k).2.1 = nI (wn_K C P A B T k) from wn_yt_1 h5] at nx
          exact nx
        · rw [wn_st1_no (fun z => hc z.2.2)] at nx
          exact nx
      · rw [wn_st1_no (fun z => he (hokk.mp z.1))] at nx
        refine br_f (fun z => he ((nI_eq (by omega) (by omega)).mp z)) ?_
        unfold wY_leastWith_65 wY_leastWith_66
        exact br_t rfl (nm_r (nI_1 k) nx)
    · rw [wn_yt_0' h5]
      rw [wn_st1_no (fun z => h5 z.2.1)] at nx
      refine br_t wn_m6 ?_
      unfold wY_leastWith_65 wY_leastWith_66
      exact br_t rfl (nm_r (nI_1 k) nx)
theorem wn_y26 {post : Int32 → SY → Prop} {a b be : Nat} (ha : a < 6) (hb : b < 6) (tt : wn_TT C P A B T a_totals) (h0 : (∀ q, q < 729 → ¬ (be < 50000 ∧ wn_K C P A B T q = be ∧ wn_dg q a = wn_dg q b)) → post 0 (f_tables, f_known, a_costs, a_xs, a_ys, a_pairs, a_totals))
    (h1 : ∀ q, q < 729 → be < 50000 ∧ wn_K C P A B T q = be ∧ wn_dg q a = wn_dg q b → post 1 (f_tables, f_known, a_costs, a_xs, a_ys, a_pairs, a_totals)) :
    ∀ j k n, k + j = 729 → j < n → (∀ q, q < k → ¬ (be < 50000 ∧ wn_K C P A B T q = be ∧ wn_dg q a = wn_dg q b)) → wY_canAgree_26 post (nI a) (nI b) (wn_yt be) f_tables f_known a_costs a_xs a_ys a_pairs a_totals n (nI k) := by
  intro j
  induction j with
  | zero =>
    intro k n hk hn hq
    obtain ⟨n, rfl⟩ : ∃ n', n = n' + 1 := ⟨n - 1, by omega⟩
    have ek : k = 729 := by omega
    rw [ek] at hq ⊢
    rw [wY_canAgree_26]
    exact br_t (nI_le (a := 729) (by omega) (by omega)) (h0 hq)
  | succ j ih =>
    intro k n hk hn hq
    obtain ⟨n, rfl⟩ : ∃ n', n = n' + 1 := ⟨n - 1, by omega⟩
    have c : (nI k).toNatClampNeg = k := nI_clamp (by omega)
    have v729 : vp_in (nI k) 729 := vp_in_nI (by omega) (by omega)
    have nx : ¬ (be < 50000 ∧ wn_K C P A B T k = be ∧ wn_dg k a = wn_dg k b) → wY_canAgree_26 post (nI a) (nI b) (wn_yt be) f_tables f_known a_costs a_xs a_ys a_pairs a_totals n (nI (k + 1)) := fun hz => ih (k + 1) n (by omega) (by omega) (fun q hq' => by
      by_cases e : q = k
      · rw [e]; exact hz
      · exact hq q (by omega))
    have d1 := wn_dg_lt k a
    have d2 := wn_dg_lt k b
    rw [wY_canAgree_26]
    refine br_f (nI_ge (b := 729) (by omega) (by omega)) ?_
    by_cases h5 : be < 50000
    · rw [wn_yt_1 h5] at nx ⊢
      refine br_f (nI_pos (by omega)) ⟨v729, ?_⟩
      rw [c, tt k (by omega)]
      by_cases he : wn_K C P A B T k = be
      · refine br_t ((wn_yt_eq h5).mpr he) (wn_yval ha (by omega) (wn_yval hb (by omega) ?_))
        by_cases hd : wn_dg k a = wn_dg k b
        · exact br_t (by rw [hd]) (h1 k (by omega) ⟨h5, he, hd⟩)
        · exact br_f (fun z => hd ((nI_eq (by omega) (by omega)).mp z)) (nm_r (nI_1 k) (nx (fun z => hd z.2.2)))
      · exact br_f (fun z => he ((wn_yt_eq h5).mp z)) (nm_r (nI_1 k) (nx (fun z => he z.2.1)))
    · rw [wn_yt_0' h5] at nx ⊢
      exact br_t wn_m6 (nm_r (nI_1 k) (nx (fun z => h5 z.1)))
end
end
section
/-! 15: X: leastCost, countUpTo; fixed variables; the fold for canAgree -/
theorem wn_op_free {F : Nat → Int32} {u e : Nat} (h : F u = -1) : wn_op F u e = true := by
  unfold wn_op
  rw [decide_eq_true (show F u < 0 by rw [h]; exact wn_m1)]; rfl
theorem wn_op_pin {F : Nat → Int32} {u d e : Nat} (h : F u = nI d) (hd : d < 3) (he : e < 3) : wn_op F u e = true ↔ e = d := by
  unfold wn_op
  rw [Bool.or_eq_true, decide_eq_true_iff, decide_eq_true_iff, h, nI_eq (by omega) (by omega)]
  constructor
  · intro z
    rcases z with z | z
    · exact absurd z (nI_pos (by omega))
    · exact z.symm
  · intro z; exact Or.inr z.symm
theorem wn_ok_free {F : Nat → Int32} (h : ∀ v, v < 6 → F v = -1) (q : Nat) : wn_ok F q = true := wn_ok_iff.mpr (fun v hv => wn_op_free (h v hv))
theorem wn_FS_free {F : Nat → Int32} (h : ∀ v, v < 6 → F v = -1) : wn_FS F := fun v hv => Or.inl (h v hv)
theorem wn_FS_upd {F : Nat → Int32} {a d : Nat} (h : wn_FS F) (hd : d < 3) : wn_FS (upd F a (nI d)) := by
  intro v hv
  by_cases e : v = a
  · rw [e, pk_us]; exact Or.inr ⟨d, hd, rfl⟩
  · rw [pk_un e]; exact h v hv
theorem wn_ok_1 {F : Nat → Int32} {a d q : Nat} (h : ∀ v, v < 6 → F v = -1) (ha : a < 6) (hd : d < 3) : wn_ok (upd F a (nI d)) q = true ↔ wn_dg q a = d := by
  rw [wn_ok_iff]
  constructor
  · intro z
    exact (wn_op_pin (F := upd F a (nI d)) pk_us hd (wn_dg_lt q a)).mp (z a ha)
  · intro z v hv
    by_cases e : v = a
    · rw [e]; exact (wn_op_pin (F := upd F a (nI d)) pk_us hd (wn_dg_lt q a)).mpr z
    · exact wn_op_free (by rw [pk_un e]; exact h v hv)
theorem wn_ok_2 {F : Nat → Int32} {a b d q : Nat} (h : ∀ v, v < 6 → F v = -1) (ha : a < 6) (hb : b < 6) (hd : d < 3) : wn_ok (upd (upd F a (nI d)) b (nI d)) q = true ↔ wn_dg q a = d ∧ wn_dg q b = d := by
  have ea : upd (upd F a (nI d)) b (nI d) a = nI d := by
    by_cases e : a = b
    · rw [e, pk_us]
    · rw [pk_un e, pk_us]
  rw [wn_ok_iff]
  constructor
  · intro z
    exact ⟨(wn_op_pin ea hd (wn_dg_lt q a)).mp (z a ha), (wn_op_pin (F := upd (upd F a (nI d)) b (nI d)) pk_us hd (wn_dg_lt q b)).mp (z b hb)⟩
  · intro z v hv
    by_cases e : v = b
    · rw [e]; exact (wn_op_pin (F := upd (upd F a (nI d)) b (nI d)) pk_us hd (wn_dg_lt q b)).mpr z.2
    · by_cases e2 : v = a
      · rw [e2]; exact (wn_op_pin ea hd (wn_dg_lt q a)).mpr z.1
      · exact wn_op_free (by rw [pk_un e, pk_un e2]; exact h v hv)
/-- a fold that takes none -/
theorem wn_fd_none {K : Nat → Nat} {ok : Nat → Bool} : ∀ p, wn_fd K ok (fun _ _ => false) p = (0, 100000, 0) := by
  intro p
  induction p with
  | zero => rfl
  | succ p ih =>
    rw [wn_fd_s, ih]
    exact wn_st_no (fun z => Bool.noConfusion z.2.2)
/-- the best of the pinned leaves is the best of all if and only if one of them is as good -/
theorem wn_pin_best {K : Nat → Nat} {ok ok' : Nat → Bool} {fo be ar fo' be' ar' : Nat} (hall : ∀ q, q < 729 → ok q = true) (e : wn_fd K ok wn_l1 729 = (fo, be, ar)) (e' : wn_fd K ok' wn_l1 729 = (fo', be', ar')) (hb : be < 50000) : be' = be ↔ ∃ q, q < 729 ∧ K q = be ∧ ok' q = true := by
  have hin' := wn_fd_in (K := K) (ok := ok') (lim := wn_l1) 729
  have hm := wn_fd_min (K := K) (ok := ok) 729
  have hm' := wn_fd_min (K := K) (ok := ok') 729
  rw [e'] at hin' hm'
  rw [e] at hm
  have h3 : be' < 50000 → ar' < 729 ∧ ok' ar' = true ∧ K ar' = be' := hin'.2.2.1
  constructor
  · intro z
    obtain ⟨h1, h2, h4⟩ := h3 (by omega)
    exact ⟨ar', h1, by omega, h2⟩
  · intro z
    obtain ⟨q, hq, eq, ho⟩ := z
    have a1 : be' ≤ K q := hm' q hq ho (by omega)
    obtain ⟨h1, h2, h4⟩ := h3 (by omega)
    have a2 : be ≤ K ar' := hm ar' h1 (hall ar' h1) (by omega)
    omega
section
variable {f_tables f_ready f_floor f_found f_best : Int32} {a_cost a_overX a_overY a_pairCost a_one a_two a_fixed a_taken a_sofar a_nextValue a_bestValues : Nat → Int32}
variable {T : Nat} {C P A B : Nat → Nat}
theorem wn_xlc {post : Int32 → SX → Prop} (g : wn_G T C P A B f_tables a_cost a_overX a_overY a_pairCost) (R : f_ready = 0 ∨ (f_ready = 1 ∧ wn_PR T C P A B f_tables f_floor a_overX a_overY a_one a_two)) (hF : wn_FS a_fixed)
    (h : ∀ (f_floor : Int32) (a_one a_two : Nat → Int32) (fo be ar : Nat) (a_taken a_sofar a_nextValue a_bestValues : Nat → Int32), wn_PR T C P A B f_tables f_floor a_overX a_overY a_one a_two → wn_fd (wn_K C P A B T) (wn_ok a_fixed) wn_l1 729 = (fo, be, ar) → (be < 50000 → ∀ v, v < 6 → a_bestValues v = nI (wn_dg ar v)) → post (wn_yt be) (f_tables, 1, f_floor, (nI fo), (nI be), a_cost, a_overX, a_overY, a_pairCost, a_one, a_two, a_fixed, a_taken, a_sofar, a_nextValue, a_bestValues)) :
    wpX_leastCost post (f_tables, f_ready, f_floor, f_found, f_best, a_cost, a_overX, a_overY, a_pairCost, a_one, a_two, a_fixed, a_taken, a_sofar, a_nextValue, a_bestValues) := by
  unfold wpX_leastCost
  refine wn_xsearch g R hF (Or.inr ⟨rfl, rfl, rfl⟩) (fun f_floor a_one a_two fo be ar tk sf nx bv p e hb => ?_)
  have h' := h f_floor a_one a_two fo be ar tk sf nx bv p e hb
  have hin := wn_fd_in (K := wn_K C P A B T) (ok := wn_ok a_fixed) (lim := wn_l1) 729
  rw [e] at hin
  have hle : be ≤ 100000 := hin.2.1
  by_cases h5 : be < 50000
  · rw [wn_yt_1 h5] at h'
    exact br_t (nI_lt (b := 50000) h5 (by omega)) h'
  · rw [wn_yt_0' h5] at h'
    exact br_f (nI_nlt (b := 50000) (by omega) (by omega)) h'
theorem wn_xcu {post : Int32 → SX → Prop} {N : Nat} (hN : N < 50000) (g : wn_G T C P A B f_tables a_cost a_overX a_overY a_pairCost) (R : f_ready = 0 ∨ (f_ready = 1 ∧ wn_PR T C P A B f_tables f_floor a_overX a_overY a_one a_two)) (hF : wn_FS a_fixed)
    (h : ∀ (f_floor : Int32) (a_one a_two : Nat → Int32) (fo be ar : Nat) (a_taken a_sofar a_nextValue a_bestValues : Nat → Int32), wn_PR T C P A B f_tables f_floor a_overX a_overY a_one a_two → wn_fd (wn_K C P A B T) (wn_ok a_fixed) (wn_l0 N) 729 = (fo, be, ar) → post (nI fo) (f_tables, 1, f_floor, (nI fo), (nI be), a_cost, a_overX, a_overY, a_pairCost, a_one, a_two, a_fixed, a_taken, a_sofar, a_nextValue, a_bestValues)) :
    wpX_countUpTo post (f_tables, f_ready, f_floor, f_found, f_best, a_cost, a_overX, a_overY, a_pairCost, a_one, a_two, a_fixed, a_taken, a_sofar, a_nextValue, a_bestValues) (nI N) := by
  unfold wpX_countUpTo
  exact wn_xsearch g R hF (Or.inl ⟨rfl, N, hN, rfl, rfl⟩) (fun f_floor a_one a_two fo be ar tk sf nx bv p e hb => h f_floor a_one a_two fo be ar tk sf nx bv p e)
theorem wn_x36 {post : Int32 → SX → Prop} {a b fo0 be0 ar0 : Nat} {ok : Nat → Bool} (ha : a < 6) (hb : b < 6) (g : wn_G T C P A B f_tables a_cost a_overX a_overY a_pairCost) (hall : ∀ q, q < 729 → ok q = true) (e0 : wn_fd (wn_K C P A B T) ok wn_l1 729 = (fo0, be0, ar0)) (h5 : be0 < 50000)
    (h1 : (∃ q, q < 729 ∧ wn_K C P A B T q = be0 ∧ wn_dg q a = wn_dg q b) → ∀ (f_ready f_floor f_found f_best : Int32) (a_one a_two a_fixed a_taken a_sofar a_nextValue a_bestValues : Nat → Int32), (f_ready = 0 ∨ (f_ready = 1 ∧ wn_PR T C P A B f_tables f_floor a_overX a_overY a_one a_two)) → post 1 (f_tables, f_ready, f_floor, f_found, f_best, a_cost, a_overX, a_overY, a_pairCost, a_one, a_two, a_fixed, a_taken, a_sofar, a_nextValue, a_bestValues))
    (h0 : (∀ q, q < 729 → ¬ (wn_K C P A B T q = be0 ∧ wn_dg q a = wn_dg q b)) → ∀ (f_ready f_floor f_found f_best : Int32) (a_one a_two a_fixed a_taken a_sofar a_nextValue a_bestValues : Nat → Int32), (f_ready = 0 ∨ (f_ready = 1 ∧ wn_PR T C P A B f_tables f_floor a_overX a_overY a_one a_two)) → post 0 (f_tables, f_ready, f_floor, f_found, f_best, a_cost, a_overX, a_overY, a_pairCost, a_one, a_two, a_fixed, a_taken, a_sofar, a_nextValue, a_bestValues)) :
    ∀ (j k n : Nat) (f_ready f_floor f_found f_best : Int32) (a_one a_two a_fixed a_taken a_sofar a_nextValue a_bestValues : Nat → Int32), k + j = 3 → j < n → (f_ready = 0 ∨ (f_ready = 1 ∧ wn_PR T C P A B f_tables f_floor a_overX a_overY a_one a_two)) →
      (∀ q, q < 729 → wn_K C P A B T q = be0 → wn_dg q a = wn_dg q b → k ≤ wn_dg q a) → wX_canAgree_36 post (nI a) (nI b) (nI be0) n (nI k) f_tables f_ready f_floor f_found f_best a_cost a_overX a_overY a_pairCost a_one a_two a_fixed a_taken a_sofar a_nextValue a_bestValues := by
  intro j
  induction j with
  | zero =>
    intro k n f_ready f_floor f_found f_best a_one a_two a_fixed a_taken a_sofar a_nextValue a_bestValues hk hn R hq
    obtain ⟨n, rfl⟩ : ∃ n', n = n' + 1 := ⟨n - 1, by omega⟩
    rw [wX_canAgree_36]
    refine br_t (nI_le (a := 3) (by omega) (by omega)) (h0 (fun q hq' z => ?_) _ _ _ _ _ _ _ _ _ _ _ R)
    have := hq q hq' z.1 z.2
    have := wn_dg_lt q a
    omega
  | succ j ih =>
    intro k n f_ready f_floor f_found f_best a_one a_two a_fixed a_taken a_sofar a_nextValue a_bestValues hk hn R hq
    obtain ⟨n, rfl⟩ : ∃ n', n = n' + 1 := ⟨n - 1, by omega⟩
    have hk3 : k < 3 := by omega
    rw [wX_canAgree_36]
    refine br_f (nI_ge (b := 3) (by omega) (by omega)) (wn_xfree (fun F hF => ?_))
    refine ⟨vp_in_nI ha (by omega), nm_r (e' := upd F a (nI k)) (by rw [nI_clamp (by omega)]) ⟨vp_in_nI hb (by omega), nm_r (e' := upd (upd F a (nI k)) b (nI k)) (by rw [nI_clamp (by omega)]) ?_⟩⟩
    refine wn_xlc g R (wn_FS_upd (wn_FS_upd (wn_FS_free hF) hk3) hk3) (fun f_floor' a_one' a_two' fo be ar tk sf nx bv p e _ => ?_)
    have hpin := wn_pin_best hall e0 e h5
    by_cases c : be = be0
    · obtain ⟨q, hq1, hq2, hq3⟩ := hpin.mp c
      have hd := (wn_ok_2 hF ha hb hk3).mp hq3
      exact br_t ((wn_yt_eq h5).mpr c) (h1 ⟨q, hq1, hq2, by omega⟩ _ _ _ _ _ _ _ _ _ _ _ (Or.inr ⟨rfl, p⟩))
    · refine br_f (fun z => c ((wn_yt_eq h5).mp z)) (nm_r (nI_1 k) (ih (k + 1) n _ _ _ _ _ _ _ _ _ _ _ (by omega) (by omega) (Or.inr ⟨rfl, p⟩) (fun q hq1 hq2 hq3 => ?_)))
      have h6 := hq q hq1 hq2 hq3
      by_cases e6 : wn_dg q a = k
      · exact absurd (hpin.mpr ⟨q, hq1, hq2, (wn_ok_2 hF ha hb hk3).mpr ⟨e6, by omega⟩⟩) c
      · omega
end
end
section
/-! 16: the relation; how it is taken apart and made -/
def wn_RR (f_tables f_ready f_floor : Int32) (a_cost a_overX a_overY a_pairCost a_one a_two : Nat → Int32) (g_tables f_known : Int32) (a_costs a_xs a_ys a_pairs a_totals : Nat → Int32) : Prop :=
  ∃ (T : Nat) (C P A B : Nat → Nat), g_tables = f_tables ∧ a_costs = a_cost ∧ a_xs = a_overX ∧ a_ys = a_overY ∧ a_pairs = a_pairCost ∧ wn_G T C P A B f_tables a_cost a_overX a_overY a_pairCost ∧
    (f_ready = 0 ∨ (f_ready = 1 ∧ wn_PR T C P A B f_tables f_floor a_overX a_overY a_one a_two)) ∧ (f_known = 0 ∨ (f_known = 1 ∧ wn_TT C P A B T a_totals))
/-- both hold the same given costs; what X has moved, and Y added up, is of these -/
def i_Rel (k : Nat) (u : SX) (v : SY) : Prop := match u with
  | (f_tables, f_ready, f_floor, f_found, f_best, a_cost, a_overX, a_overY, a_pairCost, a_one, a_two, a_fixed, a_taken, a_sofar, a_nextValue, a_bestValues) => match v with
    | (g_tables, f_known, a_costs, a_xs, a_ys, a_pairs, a_totals) => wn_RR f_tables f_ready f_floor a_cost a_overX a_overY a_pairCost a_one a_two g_tables f_known a_costs a_xs a_ys a_pairs a_totals
theorem wn_el {k : Nat} {u : SX} {v : SY} {Q : SX → SY → Prop} (I : i_Rel k u v) (h : ∀ (T : Nat) (C P A B : Nat → Nat) (f_tables f_ready f_floor f_found f_best f_known : Int32) (a_cost a_overX a_overY a_pairCost a_one a_two a_fixed a_taken a_sofar a_nextValue a_bestValues a_totals : Nat → Int32),
    wn_G T C P A B f_tables a_cost a_overX a_overY a_pairCost → (f_ready = 0 ∨ (f_ready = 1 ∧ wn_PR T C P A B f_tables f_floor a_overX a_overY a_one a_two)) → (f_known = 0 ∨ (f_known = 1 ∧ wn_TT C P A B T a_totals)) →
    Q (f_tables, f_ready, f_floor, f_found, f_best, a_cost, a_overX, a_overY, a_pairCost, a_one, a_two, a_fixed, a_taken, a_sofar, a_nextValue, a_bestValues) (f_tables, f_known, a_cost, a_overX, a_overY, a_pairCost, a_totals)) : Q u v := by
  obtain ⟨f_tables, f_ready, f_floor, f_found, f_best, a_cost, a_overX, a_overY, a_pairCost, a_one, a_two, a_fixed, a_taken, a_sofar, a_nextValue, a_bestValues⟩ := u
  obtain ⟨g_tables, f_known, a_costs, a_xs, a_ys, a_pairs, a_totals⟩ := v
  have I' : wn_RR f_tables f_ready f_floor a_cost a_overX a_overY a_pairCost a_one a_two g_tables f_known a_costs a_xs a_ys a_pairs a_totals := I
  obtain ⟨T, C, P, A, B, e1, e2, e3, e4, e5, g, R, RY⟩ := I'
  subst e1 e2 e3 e4 e5
  exact h T C P A B _ _ _ _ _ _ _ _ _ _ _ _ _ _ _ _ _ _ g R RY
section
variable {f_tables f_ready f_floor f_found f_best : Int32} {a_cost a_overX a_overY a_pairCost a_one a_two a_fixed a_taken a_sofar a_nextValue a_bestValues : Nat → Int32}
variable {f_known : Int32} {a_totals : Nat → Int32} {T : Nat} {C P A B : Nat → Nat}
theorem wn_mk {k : Nat} (g : wn_G T C P A B f_tables a_cost a_overX a_overY a_pairCost) (R : f_ready = 0 ∨ (f_ready = 1 ∧ wn_PR T C P A B f_tables f_floor a_overX a_overY a_one a_two)) (RY : f_known = 0 ∨ (f_known = 1 ∧ wn_TT C P A B T a_totals)) :
    i_Rel k (f_tables, f_ready, f_floor, f_found, f_best, a_cost, a_overX, a_overY, a_pairCost, a_one, a_two, a_fixed, a_taken, a_sofar, a_nextValue, a_bestValues) (f_tables, f_known, a_cost, a_overX, a_overY, a_pairCost, a_totals) :=
  ⟨T, C, P, A, B, rfl, rfl, rfl, rfl, rfl, g, R, RY⟩
end
/-! arguments -/
theorem wn_xbv1 {post : Int32 → Prop} {x : Int32} (h : post 1) (hx : x < 0) : wpX_badVariable post x := br_t hx h
theorem wn_xbv2 {post : Int32 → Prop} {j : Nat} (h : post 1) (hj : 6 ≤ j) (hj2 : j < 2 ^ 31) : wpX_badVariable post (nI j) := br_f (nI_pos hj2) (br_f (nI_nlt (b := 6) hj hj2) h)
theorem wn_xbv0 {post : Int32 → Prop} {j : Nat} (h : post 0) (hj : j < 6) : wpX_badVariable post (nI j) := br_f (nI_pos (by omega)) (br_t (nI_lt (b := 6) hj (by omega)) h)
theorem wn_xbc1 {post : Int32 → Prop} {x : Int32} (h : post 1) (hx : x < 0) : wpX_badCost post x := br_t hx h
theorem wn_xbc2 {post : Int32 → Prop} {j : Nat} (h : post 1) (hj : 20 < j) (hj2 : j < 2 ^ 31) : wpX_badCost post (nI j) := br_f (nI_pos hj2) (br_f (nI_ge (a := 20) hj hj2) h)
theorem wn_xbc0 {post : Int32 → Prop} {j : Nat} (h : post 0) (hj : j ≤ 20) : wpX_badCost post (nI j) := br_f (nI_pos (by omega)) (br_t (nI_le (b := 20) hj (by omega)) h)
section
variable {f_tables f_known : Int32} {a_costs a_xs a_ys a_pairs a_totals : Nat → Int32}
theorem wn_yiv1 {post : Int32 → Prop} {x : Int32} (h : post 0) (hx : x < 0) : wpY_isVariable post (f_tables, f_known, a_costs, a_xs, a_ys, a_pairs, a_totals) x := br_t hx h
theorem wn_yiv2 {post : Int32 → Prop} {j : Nat} (h : post 0) (hj : 6 ≤ j) (hj2 : j < 2 ^ 31) : wpY_isVariable post (f_tables, f_known, a_costs, a_xs, a_ys, a_pairs, a_totals) (nI j) := br_f (nI_pos hj2) (br_t (nI_le (a := 6) hj hj2) h)
theorem wn_yiv0 {post : Int32 → Prop} {j : Nat} (h : post 1) (hj : j < 6) : wpY_isVariable post (f_tables, f_known, a_costs, a_xs, a_ys, a_pairs, a_totals) (nI j) := br_f (nI_pos (by omega)) (br_f (nI_ge (b := 6) hj (by omega)) h)
end
/-! the given costs, changed -/
section
variable {T : Nat} {C P A B : Nat → Nat} {f_tables : Int32} {a_cost a_overX a_overY a_pairCost : Nat → Int32}
theorem wn_G_cost {i c : Nat} (g : wn_G T C P A B f_tables a_cost a_overX a_overY a_pairCost) (hc : c ≤ 20) : wn_G T (wn_up C i c) P A B f_tables (upd a_cost i (nI c)) a_overX a_overY a_pairCost := by
  obtain ⟨h1, h2, h3, h4, h5⟩ := g
  refine ⟨h1, h2, fun j hj => ?_, h4, h5⟩
  by_cases e : j = i
  · rw [e, pk_us, wn_up_s]; exact ⟨rfl, hc⟩
  · rw [pk_un e, wn_up_n e]; exact h3 j hj
theorem wn_G_pair {i c : Nat} (g : wn_G T C P A B f_tables a_cost a_overX a_overY a_pairCost) (hc : c ≤ 20) : wn_G T C (wn_up P i c) A B f_tables a_cost a_overX a_overY (upd a_pairCost i (nI c)) := by
  obtain ⟨h1, h2, h3, h4, h5⟩ := g
  refine ⟨h1, h2, h3, h4, fun j hj => ?_⟩
  by_cases e : j = i
  · rw [e, pk_us, wn_up_s]; exact ⟨rfl, hc⟩
  · rw [pk_un e, wn_up_n e]; exact h5 j hj
theorem wn_G_drop (g : wn_G (T + 1) C P A B f_tables a_cost a_overX a_overY a_pairCost) : wn_G T C P A B (nI T) a_cost a_overX a_overY a_pairCost := by
  obtain ⟨h1, h2, h3, h4, h5⟩ := g
  exact ⟨⟨by have := h1.1; omega, fun t ht => h1.2 t (by omega)⟩, rfl, h3, fun t ht => h4 t (by omega), h5⟩
theorem wn_G_table {x y : Nat} {pc : Nat → Int32} (g : wn_G T C P A B f_tables a_cost a_overX a_overY a_pairCost) (hT : T < 8) (hx : x < 6) (hy : y < 6) (hxy : x ≠ y) (h9 : ∀ i, i < 72 → (T * 9 ≤ i ∧ i < T * 9 + 9 → pc i = 0) ∧ (¬ (T * 9 ≤ i ∧ i < T * 9 + 9) → pc i = a_pairCost i)) :
    wn_G (T + 1) C (fun i => if T * 9 ≤ i ∧ i < T * 9 + 9 then 0 else P i) (wn_up A T x) (wn_up B T y) (nI (T + 1)) a_cost (upd a_overX T (nI x)) (upd a_overY T (nI y)) pc := by
  obtain ⟨h1, h2, h3, h4, h5⟩ := g
  refine ⟨⟨by omega, fun t ht => ?_⟩, rfl, h3, fun t ht => ?_, fun i hi => ?_⟩
  · by_cases e : t = T
    · rw [e, wn_up_s, wn_up_s]; exact ⟨hx, hy, hxy⟩
    · rw [wn_up_n e, wn_up_n e]; exact h1.2 t (by omega)
  · by_cases e : t = T
    · rw [e, pk_us, pk_us, wn_up_s, wn_up_s]; exact ⟨rfl, rfl⟩
    · rw [pk_un e, pk_un e, wn_up_n e, wn_up_n e]; exact h4 t (by omega)
  · show pc i = nI (if T * 9 ≤ i ∧ i < T * 9 + 9 then 0 else P i) ∧ (if T * 9 ≤ i ∧ i < T * 9 + 9 then 0 else P i) ≤ 20
    by_cases e : T * 9 ≤ i ∧ i < T * 9 + 9
    · rw [if_pos e, (h9 i hi).1 e]; exact ⟨nI_0.symm, by omega⟩
    · rw [if_neg e, (h9 i hi).2 e]; exact h5 i hi
end
end
section
/-! 17: the calls that change costs -/
theorem i_up {k : Nat} {u : SX} {v : SY} (h : i_Rel k u v) : i_Rel (k + 4) u v := h
theorem i_vc0 : wpX_init (fun u => wpY_init (fun v => i_Rel 0 u v)) := by
  unfold wpX_init wpY_init
  exact wn_mk (T := 0) (C := fun _ => 0) (P := fun _ => 0) (A := fun _ => 0) (B := fun _ => 0) ⟨⟨by omega, fun t ht => by omega⟩, rfl, fun i _ => ⟨rfl, Nat.zero_le _⟩, fun t ht => by omega, fun i _ => ⟨rfl, Nat.zero_le _⟩⟩ (Or.inl rfl) (Or.inl rfl)
theorem i_vc_cost {k : Nat} {u : SX} {v : SY} (I : i_Rel k u v) (hk : k + 4 ≤ 2048) (v1 : Int32) (v2 : Int32) (v3 : Int32) : wpX_cost (fun r u' => wpY_cost (fun r' v' => r' = r ∧ i_Rel (k + 4) u' v') v v1 v2 v3) u v1 v2 v3 := by
  refine wn_el (Q := fun u v => wpX_cost (fun r u' => wpY_cost (fun r' v' => r' = r ∧ i_Rel (k + 4) u' v') v v1 v2 v3) u v1 v2 v3) I ?_
  intro T C P A B f_tables f_ready f_floor f_found f_best f_known a_cost a_overX a_overY a_pairCost a_one a_two a_fixed a_taken a_sofar a_nextValue a_bestValues a_totals g R RY
  unfold wpX_cost wpY_cost
  dsimp only
  by_cases h1 : v1 < 0
  · exact wn_xbv1 (br_f wn_n10 (wn_yiv1 (br_t rfl ⟨rfl, wn_mk g R RY⟩) h1)) h1
  obtain ⟨a, ha, rfl⟩ := nI_of h1
  by_cases ha6 : 6 ≤ a
  · exact wn_xbv2 (br_f wn_n10 (wn_yiv2 (br_t rfl ⟨rfl, wn_mk g R RY⟩) ha6 ha)) ha6 ha
  refine wn_xbv0 (br_t rfl ?_) (by omega)
  by_cases h2 : v2 < 0
  · exact br_t h2 (wn_yiv0 (br_f wn_n10 (br_t h2 ⟨rfl, wn_mk g R RY⟩)) (by omega))
  refine br_f h2 ?_
  obtain ⟨b, hb, rfl⟩ := nI_of h2
  by_cases hb3 : 3 ≤ b
  · exact br_f (nI_nlt (b := 3) hb3 hb) (wn_yiv0 (br_f wn_n10 (br_f h2 (br_f (nI_ge (a := 2) (by omega) hb) ⟨rfl, wn_mk g R RY⟩))) (by omega))
  refine br_t (nI_lt (b := 3) (by omega) (by omega)) ?_
  by_cases h3 : v3 < 0
  · exact wn_xbc1 (br_f wn_n10 (wn_yiv0 (br_f wn_n10 (br_f h2 (br_t (nI_le (b := 2) (by omega) (by omega)) (br_t h3 ⟨rfl, wn_mk g R RY⟩)))) (by omega))) h3
  obtain ⟨c, hc, rfl⟩ := nI_of h3
  by_cases hc20 : 20 < c
  · exact wn_xbc2 (br_f wn_n10 (wn_yiv0 (br_f wn_n10 (br_f h2 (br_t (nI_le (b := 2) (by omega) (by omega)) (br_f h3 (br_f (nI_ge (a := 20) hc20 hc) ⟨rfl, wn_mk g R RY⟩))))) (by omega))) hc20 hc
  have v18 : vp_in (nI (a * 3 + b)) 18 := vp_in_nI (by omega) (by omega)
  have cl : (nI (a * 3 + b)).toNatClampNeg = a * 3 + b := nI_clamp (by omega)
  rw [wn_i3, cl]
  refine wn_xbc0 (br_t rfl ⟨v18, nm_e ⟨v18, nm_e ?_⟩⟩) (by omega)
  refine wn_yiv0 (br_f wn_n10 (br_f h2 (br_t (nI_le (b := 2) (by omega) (by omega)) (br_f h3 (br_t (nI_le (b := 20) (by omega) (by omega)) ⟨v18, nm_e ⟨v18, nm_e ⟨rfl, ?_⟩⟩⟩))))) (by omega)
  exact wn_mk (wn_G_cost g (by omega)) (Or.inl rfl) (Or.inl rfl)
theorem i_vc_pair {k : Nat} {u : SX} {v : SY} (I : i_Rel k u v) (hk : k + 4 ≤ 2048) (v1 : Int32) (v2 : Int32) (v3 : Int32) : wpX_pair (fun r u' => wpY_pair (fun r' v' => r' = r ∧ i_Rel (k + 4) u' v') v v1 v2 v3) u v1 v2 v3 := by
  refine wn_el (Q := fun u v => wpX_pair (fun r u' => wpY_pair (fun r' v' => r' = r ∧ i_Rel (k + 4) u' v') v v1 v2 v3) u v1 v2 v3) I ?_
  intro T C P A B f_tables f_ready f_floor f_found f_best f_known a_cost a_overX a_overY a_pairCost a_one a_two a_fixed a_taken a_sofar a_nextValue a_bestValues a_totals g R RY
  have hT := g.1.1
  have eT := g.2.1
  unfold wpX_pair wpY_pair
  dsimp only
  by_cases h1 : v1 < 0
  · exact br_t h1 (br_t h1 ⟨rfl, wn_mk g R RY⟩)
  refine br_f h1 ?_
  obtain ⟨t, ht, rfl⟩ := nI_of h1
  by_cases htT : t < T
  · have lt : nI t < f_tables := by rw [eT]; exact nI_lt htT (by omega)
    refine br_t lt ?_
    by_cases h2 : v2 < 0
    · exact br_t h2 (br_f h1 (br_t lt (br_t h2 ⟨rfl, wn_mk g R RY⟩)))
    refine br_f h2 ?_
    obtain ⟨b, hb, rfl⟩ := nI_of h2
    by_cases hb8 : 8 < b
    · exact br_f (nI_ge (a := 8) hb8 hb) (br_f h1 (br_t lt (br_f h2 (br_f (nI_ge (a := 8) hb8 hb) ⟨rfl, wn_mk g R RY⟩))))
    have le8 : nI b ≤ 8 := nI_le (b := 8) (by omega) (by omega)
    refine br_t le8 ?_
    by_cases h3 : v3 < 0
    · exact wn_xbc1 (br_f wn_n10 (br_f h1 (br_t lt (br_f h2 (br_t le8 (br_t h3 ⟨rfl, wn_mk g R RY⟩)))))) h3
    obtain ⟨c, hc, rfl⟩ := nI_of h3
    by_cases hc20 : 20 < c
    · exact wn_xbc2 (br_f wn_n10 (br_f h1 (br_t lt (br_f h2 (br_t le8 (br_f h3 (br_f (nI_ge (a := 20) hc20 hc) ⟨rfl, wn_mk g R RY⟩))))))) hc20 hc
    have v72 : vp_in (nI (t * 9 + b)) 72 := vp_in_nI (by omega) (by omega)
    have cl : (nI (t * 9 + b)).toNatClampNeg = t * 9 + b := nI_clamp (by omega)
    rw [wn_i9', cl]
    refine wn_xbc0 (br_t rfl ⟨v72, nm_e ⟨v72, nm_e ?_⟩⟩) (by omega)
    refine br_f h1 (br_t lt (br_f h2 (br_t le8 (br_f h3 (br_t (nI_le (b := 20) (by omega) (by omega)) ⟨v72, nm_e ⟨v72, nm_e ⟨rfl, ?_⟩⟩⟩)))))
    exact wn_mk (wn_G_pair g (by omega)) (Or.inl rfl) (Or.inl rfl)
  · have nlt : ¬ nI t < f_tables := by rw [eT]; exact nI_nlt (by omega) (by omega)
    exact br_f nlt (br_f h1 (br_f nlt ⟨rfl, wn_mk g R RY⟩))
theorem i_vc_drop {k : Nat} {u : SX} {v : SY} (I : i_Rel k u v) (hk : k + 4 ≤ 2048) : wpX_drop (fun r u' => wpY_drop (fun r' v' => r' = r ∧ i_Rel (k + 4) u' v') v) u := by
  refine wn_el (Q := fun u v => wpX_drop (fun r u' => wpY_drop (fun r' v' => r' = r ∧ i_Rel (k + 4) u' v') v) u) I ?_
  intro T C P A B f_tables f_ready f_floor f_found f_best f_known a_cost a_overX a_overY a_pairCost a_one a_two a_fixed a_taken a_sofar a_nextValue a_bestValues a_totals g R RY
  have hT := g.1.1
  have eT := g.2.1
  unfold wpX_drop wpY_drop
  dsimp only
  cases T with
  | zero =>
    have e0 : f_tables = 0 := by rw [eT]; exact nI_0
    exact br_t e0 (br_t e0 ⟨rfl, wn_mk g R RY⟩)
  | succ T =>
    have e0 : ¬ f_tables = 0 := by rw [eT]; exact nI_ne0 (by omega) (by omega)
    have e1 : f_tables - 1 = nI T := by rw [eT, nI_pred]
    exact br_f e0 (nm_r e1 (br_f e0 (nm_r e1 ⟨rfl, wn_mk (wn_G_drop g) (Or.inl rfl) (Or.inl rfl)⟩)))
section
variable {f_tables f_ready f_floor f_found f_best : Int32} {a_cost a_overX a_overY a_pairCost a_one a_two a_fixed a_taken a_sofar a_nextValue a_bestValues : Nat → Int32}
theorem wn_xt55 {post : Int32 → SX → Prop} {T : Nat} (hT : T < 8) (eT : f_tables = nI T) (h : ∀ pc : Nat → Int32, (∀ i, pc i = if T * 9 ≤ i ∧ i < T * 9 + 9 then 0 else a_pairCost i) → post (nI T) ((nI (T + 1)), 0, f_floor, f_found, f_best, a_cost, a_overX, a_overY, pc, a_one, a_two, a_fixed, a_taken, a_sofar, a_nextValue, a_bestValues)) :
    ∀ (j k n : Nat) (pc : Nat → Int32), k + j = 9 → j < n → (∀ i, pc i = if T * 9 ≤ i ∧ i < T * 9 + k then 0 else a_pairCost i) → wX_table_55 post f_tables f_ready f_floor f_found f_best n (nI k) a_cost a_overX a_overY pc a_one a_two a_fixed a_taken a_sofar a_nextValue a_bestValues := by
  intro j
  induction j with
  | zero =>
    intro k n pc hk hn h1
    obtain ⟨n, rfl⟩ : ∃ n', n = n' + 1 := ⟨n - 1, by omega⟩
    have ek : k = 9 := by omega
    rw [ek] at h1 ⊢
    rw [wX_table_55]
    refine br_t (nI_le (a := 9) (by omega) (by omega)) (nm_r (e' := nI (T + 1)) (by rw [eT, nI_1]) ?_)
    rw [nI_pred]
    exact h pc h1
  | succ j ih =>
    intro k n pc hk hn h1
    obtain ⟨n, rfl⟩ : ∃ n', n = n' + 1 := ⟨n - 1, by omega⟩
    rw [wX_table_55]
    have ei : f_tables * 9 + nI k = nI (T * 9 + k) := by rw [eT, wn_i9']
    refine br_f (nI_ge (b := 9) (by omega) (by omega)) ⟨by rw [ei]; exact vp_in_nI (by omega) (by omega), nm_r (e' := upd pc (T * 9 + k) 0) (by rw [ei, nI_clamp (by omega)]) (nm_r (nI_1 k) (ih (k + 1) n _ (by omega) (by omega) (fun i => ?_)))⟩
    by_cases e : i = T * 9 + k
    · rw [e, pk_us, if_pos (by omega)]
    · rw [pk_un e, h1 i]
      by_cases e2 : T * 9 ≤ i ∧ i < T * 9 + k
      · rw [if_pos e2, if_pos (by omega)]
      · rw [if_neg e2, if_neg (by omega)]
end
section
variable {f_tables f_known : Int32} {a_costs a_xs a_ys a_pairs a_totals : Nat → Int32}
theorem wn_yt57 {post : Int32 → SY → Prop} {T : Nat} (hT : T < 8) (eT : f_tables = nI T) (h : ∀ pc : Nat → Int32, (∀ i, pc i = if T * 9 ≤ i ∧ i < T * 9 + 9 then 0 else a_pairs i) → post (nI T) ((nI (T + 1)), 0, a_costs, a_xs, a_ys, pc, a_totals)) :
    ∀ (j k n : Nat) (pc : Nat → Int32), k + j = 9 → j < n → (∀ i, pc i = if T * 9 ≤ i ∧ i < T * 9 + k then 0 else a_pairs i) → wY_table_57 post f_tables f_known n (nI k) a_costs a_xs a_ys pc a_totals := by
  intro j
  induction j with
  | zero =>
    intro k n pc hk hn h1
    obtain ⟨n, rfl⟩ : ∃ n', n = n' + 1 := ⟨n - 1, by omega⟩
    have ek : k = 9 := by omega
    rw [ek] at h1 ⊢
    rw [wY_table_57]
    refine br_t (nI_le (a := 9) (by omega) (by omega)) (nm_r (e' := nI (T + 1)) (by rw [eT, nI_1]) ?_)
    rw [nI_pred]
    exact h pc h1
  | succ j ih =>
    intro k n pc hk hn h1
    obtain ⟨n, rfl⟩ : ∃ n', n = n' + 1 := ⟨n - 1, by omega⟩
    rw [wY_table_57]
    have ei : f_tables * 9 + nI k = nI (T * 9 + k) := by rw [eT, wn_i9']
    refine br_f (nI_ge (b := 9) (by omega) (by omega)) ⟨by rw [ei]; exact vp_in_nI (by omega) (by omega), nm_r (e' := upd pc (T * 9 + k) 0) (by rw [ei, nI_clamp (by omega)]) (nm_r (nI_1 k) (ih (k + 1) n _ (by omega) (by omega) (fun i => ?_)))⟩
    by_cases e : i = T * 9 + k
    · rw [e, pk_us, if_pos (by omega)]
    · rw [pk_un e, h1 i]
      by_cases e2 : T * 9 ≤ i ∧ i < T * 9 + k
      · rw [if_pos e2, if_pos (by omega)]
      · rw [if_neg e2, if_neg (by omega)]
end
theorem i_vc_table {k : Nat} {u : SX} {v : SY} (I : i_Rel k u v) (hk : k + 4 ≤ 2048) (v1 : Int32) (v2 : Int32) : wpX_table (fun r u' => wpY_table (fun r' v' => r' = r ∧ i_Rel (k + 4) u' v') v v1 v2) u v1 v2 := by
  refine wn_el (Q := fun u v => wpX_table (fun r u' => wpY_table (fun r' v' => r' = r ∧ i_Rel (k + 4) u' v') v v1 v2) u v1 v2) I ?_
  intro T C P A B f_tables f_ready f_floor f_found f_best f_known a_cost a_overX a_overY a_pairCost a_one a_two a_fixed a_taken a_sofar a_nextValue a_bestValues a_totals g R RY
  have hT := g.1.1
  have eT := g.2.1
  unfold wpX_table wpY_table
  dsimp only
  by_cases h1 : v1 < 0
  · exact wn_xbv1 (br_f wn_n10 (wn_yiv1 (br_t rfl ⟨rfl, wn_mk g R RY⟩) h1)) h1
  obtain ⟨a, ha, rfl⟩ := nI_of h1
  by_cases ha6 : 6 ≤ a
  · exact wn_xbv2 (br_f wn_n10 (wn_yiv2 (br_t rfl ⟨rfl, wn_mk g R RY⟩) ha6 ha)) ha6 ha
  refine wn_xbv0 (br_t rfl ?_) (by omega)
  by_cases h2 : v2 < 0
  · exact wn_xbv1 (br_f wn_n10 (wn_yiv0 (br_f wn_n10 (wn_yiv1 (br_t rfl ⟨rfl, wn_mk g R RY⟩) h2)) (by omega))) h2
  obtain ⟨b, hb, rfl⟩ := nI_of h2
  by_cases hb6 : 6 ≤ b
  · exact wn_xbv2 (br_f wn_n10 (wn_yiv0 (br_f wn_n10 (wn_yiv2 (br_t rfl ⟨rfl, wn_mk g R RY⟩) hb6 hb)) (by omega))) hb6 hb
  refine wn_xbv0 (br_t rfl ?_) (by omega)
  by_cases e : a = b
  · exact br_t (by rw [e]) (wn_yiv0 (br_f wn_n10 (wn_yiv0 (br_f wn_n10 (br_t (by rw [e]) ⟨rfl, wn_mk g R RY⟩)) (by omega))) (by omega))
  have ne : ¬ nI a = nI b := fun z => e ((nI_eq ha hb).mp z)
  refine br_f ne ?_
  by_cases hT8 : T < 8
  · have cl : f_tables.toNatClampNeg = T := by rw [eT]; exact nI_clamp (by omega)
    have v8 : vp_in f_tables 8 := by rw [eT]; exact vp_in_nI hT8 (by omega)
    refine br_t (by rw [eT]; exact nI_lt (b := 8) hT8 (by omega)) ⟨v8, nm_r (e' := upd a_overX T (nI a)) (by rw [cl]) ⟨v8, nm_r (e' := upd a_overY T (nI b)) (by rw [cl]) ⟨10, ?_⟩⟩⟩
    refine wn_xt55 hT8 eT (fun pc hpc => ?_) 9 0 10 a_pairCost (by omega) (by omega) (fun i => by rw [if_neg (by omega)])
    refine wn_yiv0 (br_f wn_n10 (wn_yiv0 (br_f wn_n10 (br_f ne (br_f (by rw [eT]; exact fun z => absurd ((nI_eq (b := 8) (by omega) (by omega)).mp z) (by omega)) ⟨v8, nm_r (e' := upd a_overX T (nI a)) (by rw [cl]) ⟨v8, nm_r (e' := upd a_overY T (nI b)) (by rw [cl]) ⟨10, ?_⟩⟩⟩))) (by omega))) (by omega)
    refine wn_yt57 hT8 eT (fun pc' hpc' => ⟨rfl, ?_⟩) 9 0 10 a_pairCost (by omega) (by omega) (fun i => by rw [if_neg (by omega)])
    have epc : pc' = pc := funext (fun i => by rw [hpc i, hpc' i])
    rw [epc]
    exact wn_mk (wn_G_table g hT8 (by omega) (by omega) e (fun i _ => ⟨fun z => by rw [hpc i, if_pos z], fun z => by rw [hpc i, if_neg z]⟩)) (Or.inl rfl) (Or.inl rfl)
  · have e8 : T = 8 := by omega
    exact br_f (by rw [eT]; exact nI_nlt (b := 8) (by omega) (by omega)) (wn_yiv0 (br_f wn_n10 (wn_yiv0 (br_f wn_n10 (br_f ne (br_t (by rw [eT, e8]; rfl) ⟨rfl, wn_mk g R RY⟩))) (by omega))) (by omega))
end
section
/-! 18: the questions -/
theorem wn_K_small {T q : Nat} {C P A B : Nat → Nat} {f_tables : Int32} {a_cost a_overX a_overY a_pairCost : Nat → Int32} (g : wn_G T C P A B f_tables a_cost a_overX a_overY a_pairCost) (h : wn_K C P A B T q < 50000) : wn_K C P A B T q ≤ 1000 := by
  obtain ⟨hTF, eT, hC, hov, hP⟩ := g
  have hT := hTF.1
  have s1 : wn_fi (19 * 6) (wn_sm (fun v => wn_as (C (v * 3 + wn_dg q v))) 6) := wn_sm_fi 6 (fun v hv => wn_fb_fi (wn_as_fb (hC _ (by have := wn_dg_lt q v; omega)).2))
  have s2 : wn_fi (19 * T) (wn_sm (fun t => wn_as (P (t * 9 + wn_dg q (A t) + 3 * wn_dg q (B t)))) T) := wn_sm_fi T (fun t ht => wn_fb_fi (wn_as_fb (hP _ (by have := wn_dg_lt q (A t); have := wn_dg_lt q (B t); omega)).2))
  have s3 := wn_fi_add s1 s2
  have e : wn_K C P A B T q = wn_cp (wn_sm (fun v => wn_as (C (v * 3 + wn_dg q v))) 6 + wn_sm (fun t => wn_as (P (t * 9 + wn_dg q (A t) + 3 * wn_dg q (B t)))) T) := by
    unfold wn_K wn_S0 wn_S
    rw [Nat.zero_add]
  unfold wn_fi at s3
  rw [e] at h ⊢
  rcases wn_cp_cases (wn_sm (fun v => wn_as (C (v * 3 + wn_dg q v))) 6 + wn_sm (fun t => wn_as (P (t * 9 + wn_dg q (A t) + 3 * wn_dg q (B t)))) T) with ⟨h1, e1⟩ | ⟨h1, e1⟩ <;> omega
theorem wn_yt_n6 {be : Nat} (h : be < 50000) : ¬ wn_yt be = -6 := by
  rw [wn_yt_1 h]
  exact fun z => wn_m6n (by omega) z.symm
theorem i_vc_least {k : Nat} {u : SX} {v : SY} (I : i_Rel k u v) (hk : k + 4 ≤ 2048) : wpX_least (fun r u' => wpY_least (fun r' v' => r' = r ∧ i_Rel (k + 4) u' v') v) u := by
  refine wn_el (Q := fun u v => wpX_least (fun r u' => wpY_least (fun r' v' => r' = r ∧ i_Rel (k + 4) u' v') v) u) I ?_
  intro T C P A B f_tables f_ready f_floor f_found f_best f_known a_cost a_overX a_overY a_pairCost a_one a_two a_fixed a_taken a_sofar a_nextValue a_bestValues a_totals g R RY
  unfold wpX_least
  refine wn_xfree (fun F hF => ?_)
  refine wn_xlc g R (wn_FS_free hF) (fun fl1 one1 two1 fo be ar tk sf nx bv p e _ => ?_)
  exact wn_yleast g RY (fun q _ => wn_ok_free hF q) e (fun tt htt => ⟨rfl, wn_mk g (Or.inr ⟨rfl, p⟩) (Or.inr ⟨rfl, htt⟩)⟩)
theorem i_vc_value {k : Nat} {u : SX} {v : SY} (I : i_Rel k u v) (hk : k + 4 ≤ 2048) (v1 : Int32) : wpX_value (fun r u' => wpY_value (fun r' v' => r' = r ∧ i_Rel (k + 4) u' v') v v1) u v1 := by
  refine wn_el (Q := fun u v => wpX_value (fun r u' => wpY_value (fun r' v' => r' = r ∧ i_Rel (k + 4) u' v') v v1) u v1) I ?_
  intro T C P A B f_tables f_ready f_floor f_found f_best f_known a_cost a_overX a_overY a_pairCost a_one a_two a_fixed a_taken a_sofar a_nextValue a_bestValues a_totals g R RY
  unfold wpX_value
  by_cases h1 : v1 < 0
  · refine wn_xbv1 (br_f wn_n10 ?_) h1
    unfold wpY_value
    exact wn_yiv1 (br_t rfl ⟨rfl, wn_mk g R RY⟩) h1
  obtain ⟨a, ha, rfl⟩ := nI_of h1
  by_cases ha6 : 6 ≤ a
  · refine wn_xbv2 (br_f wn_n10 ?_) ha6 ha
    unfold wpY_value
    exact wn_yiv2 (br_t rfl ⟨rfl, wn_mk g R RY⟩) ha6 ha
  refine wn_xbv0 (br_t rfl ?_) (by omega)
  refine wn_xfree (fun F hF => ?_)
  refine wn_xlc g R (wn_FS_free hF) (fun fl1 one1 two1 fo be ar tk sf nx bv p e hbv => ?_)
  have hin := wn_fd_in (K := wn_K C P A B T) (ok := wn_ok F) (lim := wn_l1) 729
  rw [e] at hin
  by_cases h5 : be < 50000
  · obtain ⟨hr1, hr2, hr3⟩ : ar < 729 ∧ wn_ok F ar = true ∧ wn_K C P A B T ar = be := hin.2.2.1 h5
    refine br_f (wn_yt_n6 h5) ⟨vp_in_nI (by omega) (by omega), ?_⟩
    have ebv : bv (nI a).toNatClampNeg = nI (wn_dg ar a) := by rw [nI_clamp ha]; exact hbv h5 a (by omega)
    rw [ebv]
    unfold wpY_value
    refine wn_yiv0 (br_f wn_n10 (wn_yfirst g RY (fun q _ => wn_ok_free hF q) e (fun tt htt => ?_))) (by omega)
    rw [wn_yb_1 h5]
    exact br_t (nI_pos' (by omega)) (wn_yval (by omega) (by omega) ⟨rfl, wn_mk g (Or.inr ⟨rfl, p⟩) (Or.inr ⟨rfl, htt⟩)⟩)
  · refine br_t (wn_yt_0' h5) ?_
    unfold wpY_value
    refine wn_yiv0 (br_f wn_n10 (wn_yfirst g RY (fun q _ => wn_ok_free hF q) e (fun tt htt => ?_))) (by omega)
    rw [wn_yb_0 h5]
    exact br_f wn_m6' ⟨rfl, wn_mk g (Or.inr ⟨rfl, p⟩) (Or.inr ⟨rfl, htt⟩)⟩
theorem i_vc_leastWith {k : Nat} {u : SX} {v : SY} (I : i_Rel k u v) (hk : k + 4 ≤ 2048) (v1 : Int32) (v2 : Int32) : wpX_leastWith (fun r u' => wpY_leastWith (fun r' v' => r' = r ∧ i_Rel (k + 4) u' v') v v1 v2) u v1 v2 := by
  refine wn_el (Q := fun u v => wpX_leastWith (fun r u' => wpY_leastWith (fun r' v' => r' = r ∧ i_Rel (k + 4) u' v') v v1 v2) u v1 v2) I ?_
  intro T C P A B f_tables f_ready f_floor f_found f_best f_known a_cost a_overX a_overY a_pairCost a_one a_two a_fixed a_taken a_sofar a_nextValue a_bestValues a_totals g R RY
  unfold wpX_leastWith wpY_leastWith
  dsimp only
  by_cases h1 : v1 < 0
  · exact wn_xbv1 (br_f wn_n10 (wn_yiv1 (br_t rfl ⟨rfl, wn_mk g R RY⟩) h1)) h1
  obtain ⟨a, ha, rfl⟩ := nI_of h1
  by_cases ha6 : 6 ≤ a
  · exact wn_xbv2 (br_f wn_n10 (wn_yiv2 (br_t rfl ⟨rfl, wn_mk g R RY⟩) ha6 ha)) ha6 ha
  refine wn_xbv0 (br_t rfl ?_) (by omega)
  by_cases h2 : v2 < 0
  · exact br_t h2 (wn_yiv0 (br_f wn_n10 (br_t h2 ⟨rfl, wn_mk g R RY⟩)) (by omega))
  refine br_f h2 ?_
  obtain ⟨b, hb, rfl⟩ := nI_of h2
  by_cases hb3 : 3 ≤ b
  · exact br_f (nI_nlt (b := 3) hb3 hb) (wn_yiv0 (br_f wn_n10 (br_f h2 (br_f (nI_ge (a := 2) (by omega) hb) ⟨rfl, wn_mk g R RY⟩))) (by omega))
  have b3 : b < 3 := by omega
  refine br_t (nI_lt (b := 3) b3 (by omega)) ?_
  refine wn_xfree (fun F hF => ⟨vp_in_nI (by omega) (by omega), nm_r (e' := upd F a (nI b)) (by rw [nI_clamp ha]) ?_⟩)
  refine wn_xlc g R (wn_FS_upd (wn_FS_free hF) b3) (fun fl1 one1 two1 fo be ar tk sf nx bv p e hbv => ?_)
  refine wn_yiv0 (br_f wn_n10 (br_f h2 (br_t (nI_le (b := 2) (by omega) (by omega)) (wn_ywork g RY (fun tt htt => ⟨730, wn_y32 (ok := wn_ok (upd F a (nI b))) (by omega) b3 (fun q _ => wn_ok_1 hF (by omega) b3) htt ?_ 729 0 730 (by omega) (by omega)⟩))))) (by omega)
  rw [e]
  exact ⟨rfl, wn_mk g (Or.inr ⟨rfl, p⟩) (Or.inr ⟨rfl, htt⟩)⟩
theorem i_vc_ties {k : Nat} {u : SX} {v : SY} (I : i_Rel k u v) (hk : k + 4 ≤ 2048) : wpX_ties (fun r u' => wpY_ties (fun r' v' => r' = r ∧ i_Rel (k + 4) u' v') v) u := by
  refine wn_el (Q := fun u v => wpX_ties (fun r u' => wpY_ties (fun r' v' => r' = r ∧ i_Rel (k + 4) u' v') v) u) I ?_
  intro T C P A B f_tables f_ready f_floor f_found f_best f_known a_cost a_overX a_overY a_pairCost a_one a_two a_fixed a_taken a_sofar a_nextValue a_bestValues a_totals g R RY
  unfold wpX_ties wpY_ties
  dsimp only
  refine wn_xfree (fun F hF => ?_)
  refine wn_xlc g R (wn_FS_free hF) (fun fl1 one1 two1 fo be ar tk sf nx bv p e hbv => ?_)
  by_cases h5 : be < 50000
  · refine br_f (wn_yt_n6 h5) ?_
    rw [wn_yt_1 h5]
    refine wn_xcu h5 g (Or.inr ⟨rfl, p⟩) (wn_FS_free hF) (fun fl2 one2 two2 fo2 be2 ar2 tk2 sf2 nx2 bv2 p2 e2 => ?_)
    refine wn_yleast g RY (fun q _ => wn_ok_free hF q) e (fun tt htt => ?_)
    rw [wn_yt_1 h5]
    refine br_t (nI_pos' (by omega)) (wn_yupto g (Or.inr ⟨rfl, htt⟩) (fun q _ => wn_ok_free hF q) (fun q b _ hK => ?_) e2 (fun tt2 htt2 => ⟨rfl, wn_mk g (Or.inr ⟨rfl, p2⟩) (Or.inr ⟨rfl, htt2⟩)⟩))
    rw [nI_ltI (by omega) (by omega)]
    unfold wn_l0
    rw [decide_eq_true_iff]
    omega
  · refine br_t (wn_yt_0' h5) ?_
    refine wn_yleast g RY (fun q _ => wn_ok_free hF q) e (fun tt htt => ?_)
    rw [wn_yt_0' h5]
    exact br_f wn_m6' ⟨rfl, wn_mk g (Or.inr ⟨rfl, p⟩) (Or.inr ⟨rfl, htt⟩)⟩
theorem i_vc_allowed {k : Nat} {u : SX} {v : SY} (I : i_Rel k u v) (hk : k + 4 ≤ 2048) : wpX_allowed (fun r u' => wpY_allowed (fun r' v' => r' = r ∧ i_Rel (k + 4) u' v') v) u := by
  refine wn_el (Q := fun u v => wpX_allowed (fun r u' => wpY_allowed (fun r' v' => r' = r ∧ i_Rel (k + 4) u' v') v) u) I ?_
  intro T C P A B f_tables f_ready f_floor f_found f_best f_known a_cost a_overX a_overY a_pairCost a_one a_two a_fixed a_taken a_sofar a_nextValue a_bestValues a_totals g R RY
  unfold wpX_allowed wpY_allowed
  dsimp only
  refine wn_xfree (fun F hF => ?_)
  refine wn_xcu (N := 49999) (by omega) g R (wn_FS_free hF) (fun fl2 one2 two2 fo2 be2 ar2 tk2 sf2 nx2 bv2 p2 e2 => ?_)
  refine wn_yupto g RY (fun q _ => wn_ok_free hF q) (fun q b _ hK => ?_) e2 (fun tt2 htt2 => ⟨rfl, wn_mk g (Or.inr ⟨rfl, p2⟩) (Or.inr ⟨rfl, htt2⟩)⟩)
  have hs := wn_K_small g hK
  have e1 : (1000 : Int32) < nI (wn_K C P A B T q) ↔ 1000 < wn_K C P A B T q := nI_ltI (a := 1000) (by omega) (by omega)
  rw [e1]
  unfold wn_l0
  rw [decide_eq_true_iff]
  omega
theorem i_vc_upTo {k : Nat} {u : SX} {v : SY} (I : i_Rel k u v) (hk : k + 4 ≤ 2048) (v1 : Int32) : wpX_upTo (fun r u' => wpY_upTo (fun r' v' => r' = r ∧ i_Rel (k + 4) u' v') v v1) u v1 := by
  refine wn_el (Q := fun u v => wpX_upTo (fun r u' => wpY_upTo (fun r' v' => r' = r ∧ i_Rel (k + 4) u' v') v v1) u v1) I ?_
  intro T C P A B f_tables f_ready f_floor f_found f_best f_known a_cost a_overX a_overY a_pairCost a_one a_two a_fixed a_taken a_sofar a_nextValue a_bestValues a_totals g R RY
  unfold wpX_upTo
  dsimp only
  by_cases h1 : v1 < 0
  · refine br_f (Int32.not_le.mpr h1) ?_
    refine wn_yupto (ok := fun _ => true) (lim := fun _ _ => false) g RY (fun _ _ => rfl) (fun q b _ hK => ⟨fun _ z => Bool.noConfusion z, fun _ => ?_⟩) (wn_fd_none 729) (fun tt htt => ⟨nI_0, wn_mk g R (Or.inr ⟨rfl, htt⟩)⟩)
    rw [Int32.lt_iff_toInt_lt] at h1 ⊢
    rw [nI_toInt (by omega)]
    rw [show (0 : Int32).toInt = 0 from by decide] at h1
    omega
  obtain ⟨j, hj, rfl⟩ := nI_of h1
  refine br_t (nI_pos' hj) (wn_xfree (fun F hF => ?_))
  by_cases h5 : 50000 ≤ j
  · refine br_t (nI_le (a := 50000) h5 hj) ?_
    unfold wX_upTo_23
    refine wn_xcu (N := 49999) (by omega) g R (wn_FS_free hF) (fun fl2 one2 two2 fo2 be2 ar2 tk2 sf2 nx2 bv2 p2 e2 => ?_)
    refine wn_yupto g RY (fun q _ => wn_ok_free hF q) (fun q b _ hK => ?_) e2 (fun tt2 htt2 => ⟨rfl, wn_mk g (Or.inr ⟨rfl, p2⟩) (Or.inr ⟨rfl, htt2⟩)⟩)
    rw [nI_ltI hj (by omega)]
    unfold wn_l0
    rw [decide_eq_true_iff]
    omega
  · refine br_f (nI_ge (b := 50000) (by omega) (by omega)) ?_
    unfold wX_upTo_23
    refine wn_xcu (N := j) (by omega) g R (wn_FS_free hF) (fun fl2 one2 two2 fo2 be2 ar2 tk2 sf2 nx2 bv2 p2 e2 => ?_)
    refine wn_yupto g RY (fun q _ => wn_ok_free hF q) (fun q b _ hK => ?_) e2 (fun tt2 htt2 => ⟨rfl, wn_mk g (Or.inr ⟨rfl, p2⟩) (Or.inr ⟨rfl, htt2⟩)⟩)
    rw [nI_ltI hj (by omega)]
    unfold wn_l0
    rw [decide_eq_true_iff]
    omega
section
variable {f_tables f_known : Int32} {a_costs a_xs a_ys a_pairs a_totals : Nat → Int32}
theorem wn_yagree {post : Int32 → SY → Prop} {T a b fo be ar : Nat} {C P A B : Nat → Nat} {ok : Nat → Bool} (ha : a < 6) (hb : b < 6) (g : wn_G T C P A B f_tables a_costs a_xs a_ys a_pairs) (R : f_known = 0 ∨ (f_known = 1 ∧ wn_TT C P A B T a_totals)) (hok : ∀ q, q < 729 → ok q = true)
    (e : wn_fd (wn_K C P A B T) ok wn_l1 729 = (fo, be, ar))
    (h0 : (∀ q, q < 729 → ¬ (be < 50000 ∧ wn_K C P A B T q = be ∧ wn_dg q a = wn_dg q b)) → ∀ a_totals : Nat → Int32, wn_TT C P A B T a_totals → post 0 (f_tables, 1, a_costs, a_xs, a_ys, a_pairs, a_totals))
    (h1 : ∀ q, q < 729 → be < 50000 ∧ wn_K C P A B T q = be ∧ wn_dg q a = wn_dg q b → ∀ a_totals : Nat → Int32, wn_TT C P A B T a_totals → post 1 (f_tables, 1, a_costs, a_xs, a_ys, a_pairs, a_totals)) : wpY_canAgree post (f_tables, f_known, a_costs, a_xs, a_ys, a_pairs, a_totals) (nI a) (nI b) := by
  unfold wpY_canAgree
  refine wn_yiv0 (br_f wn_n10 (wn_yiv0 (br_f wn_n10 (wn_yleast g R hok e (fun tt htt => ⟨730, ?_⟩))) hb)) ha
  exact wn_y26 ha hb htt (fun z => h0 z tt htt) (fun q hq z => h1 q hq z tt htt) 729 0 730 (by omega) (by omega) (fun q hq => by omega)
end
theorem i_vc_canAgree {k : Nat} {u : SX} {v : SY} (I : i_Rel k u v) (hk : k + 4 ≤ 2048) (v1 : Int32) (v2 : Int32) : wpX_canAgree (fun r u' => wpY_canAgree (fun r' v' => r' = r ∧ i_Rel (k + 4) u' v') v v1 v2) u v1 v2 := by
  refine wn_el (Q := fun u v => wpX_canAgree (fun r u' => wpY_canAgree (fun r' v' => r' = r ∧ i_Rel (k + 4) u' v') v v1 v2) u v1 v2) I ?_
  intro T C P A B f_tables f_ready f_floor f_found f_best f_known a_cost a_overX a_overY a_pairCost a_one a_two a_fixed a_taken a_sofar a_nextValue a_bestValues a_totals g R RY
  unfold wpX_canAgree
  dsimp only
  by_cases h1 : v1 < 0
  · refine wn_xbv1 (br_f wn_n10 ?_) h1
    unfold wpY_canAgree
    exact wn_yiv1 (br_t rfl ⟨rfl, wn_mk g R RY⟩) h1
  obtain ⟨a, ha, rfl⟩ := nI_of h1
  by_cases ha6 : 6 ≤ a
  · refine wn_xbv2 (br_f wn_n10 ?_) ha6 ha
    unfold wpY_canAgree
    exact wn_yiv2 (br_t rfl ⟨rfl, wn_mk g R RY⟩) ha6 ha
  refine wn_xbv0 (br_t rfl ?_) (by omega)
  by_cases h2 : v2 < 0
  · refine wn_xbv1 (br_f wn_n10 ?_) h2
    unfold wpY_canAgree
    exact wn_yiv0 (br_f wn_n10 (wn_yiv1 (br_t rfl ⟨rfl, wn_mk g R RY⟩) h2)) (by omega)
  obtain ⟨b, hb, rfl⟩ := nI_of h2
  by_cases hb6 : 6 ≤ b
  · refine wn_xbv2 (br_f wn_n10 ?_) hb6 hb
    unfold wpY_canAgree
    exact wn_yiv0 (br_f wn_n10 (wn_yiv2 (br_t rfl ⟨rfl, wn_mk g R RY⟩) hb6 hb)) (by omega)
  refine wn_xbv0 (br_t rfl ?_) (by omega)
  refine wn_xfree (fun F hF => ?_)
  refine wn_xlc g R (wn_FS_free hF) (fun fl1 one1 two1 fo be ar tk sf nx bv p e hbv => ?_)
  by_cases h5 : be < 50000
  · refine br_f (wn_yt_n6 h5) ⟨4, ?_⟩
    rw [wn_yt_1 h5]
    refine wn_x36 (ok := wn_ok F) (by omega) (by omega) g (fun q _ => wn_ok_free hF q) e h5 ?_ ?_ 3 0 4 _ _ _ _ _ _ _ _ _ _ _ (by omega) (by omega) (Or.inr ⟨rfl, p⟩) (fun q _ _ _ => Nat.zero_le _)
    · intro hq r1 r2 r3 r4 s1 s2 s3 s4 s5 s6 s7 R'
      refine wn_yagree (ok := wn_ok F) (by omega) (by omega) g RY (fun q _ => wn_ok_free hF q) e (fun hno => ?_) (fun q hq1 hq2 tt htt => ⟨rfl, wn_mk g R' (Or.inr ⟨rfl, htt⟩)⟩)
      obtain ⟨q, hq1, hq2, hq3⟩ := hq
      exact absurd ⟨h5, hq2, hq3⟩ (hno q hq1)
    · intro hq r1 r2 r3 r4 s1 s2 s3 s4 s5 s6 s7 R'
      exact wn_yagree (ok := wn_ok F) (by omega) (by omega) g RY (fun q _ => wn_ok_free hF q) e (fun _ tt htt => ⟨rfl, wn_mk g R' (Or.inr ⟨rfl, htt⟩)⟩) (fun q hq1 hq2 => absurd hq2.2 (hq q hq1))
  · refine br_t (wn_yt_0' h5) ?_
    exact wn_yagree (ok := wn_ok F) (by omega) (by omega) g RY (fun q _ => wn_ok_free hF q) e (fun _ tt htt => ⟨rfl, wn_mk g (Or.inr ⟨rfl, p⟩) (Or.inr ⟨rfl, htt⟩)⟩) (fun q hq1 hq2 => absurd hq2.1 h5)
end
