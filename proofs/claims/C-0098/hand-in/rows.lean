section
/-! rows of the kit's rows to paste (pk_) -/
theorem pk_us {f : Nat → Int32} {k : Nat} {x : Int32} : upd f k x k = x := if_pos rfl
theorem pk_un {f : Nat → Int32} {k j : Nat} {x : Int32} (h : j ≠ k) : upd f k x j = f j := if_neg h
theorem pk_sub {a b : Nat} (h : b ≤ a) : nI a - nI b = nI (a - b) := by
  obtain ⟨c, rfl⟩ : ∃ c, a = c + b := ⟨a - b, by omega⟩
  rw [← nI_add, Int32.add_sub_cancel, Nat.add_sub_cancel]
theorem pk_m1 (n : Nat) : nI (n + 1) + (-1) = nI n := by
  rw [← nI_1, Int32.add_assoc, show (1 : Int32) + (-1) = 0 from rfl, Int32.add_zero]
theorem pk_mul (a b : Nat) : nI a * nI b = nI (a * b) := (Int32.ofNat_mul a b).symm
theorem pk_sub_toInt {a b : Nat} (ha : a < 2 ^ 30) (hb : b < 2 ^ 30) : (nI a - nI b).toInt = (a : Int) - b := by
  rw [Int32.toInt_sub, nI_toInt (by omega), nI_toInt (by omega)]
  exact Int.bmod_eq_of_le (by omega) (by omega)
theorem pk_sneg {a b : Nat} (hb : b < 2 ^ 30) (h : a < b) : nI a - nI b < 0 := by
  rw [Int32.lt_iff_toInt_lt, pk_sub_toInt (by omega) hb, show (0 : Int32).toInt = 0 from by decide]
  omega
theorem pk_ix (x : Int32) {n : Nat} (hn : n < 2 ^ 31) : x < 0 ∨ nI n ≤ x ∨ ∃ j : Nat, j < n ∧ x = nI j := by
  by_cases h : x < 0
  · exact Or.inl h
  · obtain ⟨j, hj, rfl⟩ := nI_of h
    by_cases h2 : j < n
    · exact Or.inr (Or.inr ⟨j, h2, rfl⟩)
    · exact Or.inr (Or.inl (nI_le (by omega) hj))
theorem pk_le {x y : Int32} {A B : Prop} (a b : Nat) (f : a ≤ b → A) (g : b < a → B) (hx : x = nI a := by rfl) (hy : y = nI b := by rfl) (ha : a < 2 ^ 31 := by omega) (hb : b < 2 ^ 31 := by omega) : (x ≤ y → A) ∧ (¬ x ≤ y → B) := by
  subst hx hy
  rw [nI_leI ha hb]
  exact ⟨f, fun z => g (by omega)⟩
theorem pk_lt {x y : Int32} {A B : Prop} (a b : Nat) (f : a < b → A) (g : b ≤ a → B) (hx : x = nI a := by rfl) (hy : y = nI b := by rfl) (ha : a < 2 ^ 31 := by omega) (hb : b < 2 ^ 31 := by omega) : (x < y → A) ∧ (¬ x < y → B) := by
  subst hx hy
  rw [nI_ltI ha hb]
  exact ⟨f, fun z => g (by omega)⟩
theorem pk_eq {x y : Int32} {A B : Prop} (a b : Nat) (f : a = b → A) (g : a ≠ b → B) (hx : x = nI a := by rfl) (hy : y = nI b := by rfl) (ha : a < 2 ^ 31 := by omega) (hb : b < 2 ^ 31 := by omega) : (x = y → A) ∧ (¬ x = y → B) := by
  subst hx hy
  rw [nI_eq ha hb]
  exact ⟨f, g⟩
theorem pk_in {x : Int32} (n N : Nat) (h : n < N) (hx : x = nI n := by rfl) (hN : N < 2 ^ 31 := by omega) : vp_in x N := by
  subst hx
  exact vp_in_nI h hN
theorem pk_cl {x : Int32} (n : Nat) (hx : x = nI n := by rfl) (h : n < 2 ^ 31 := by omega) : x.toNatClampNeg = n := by
  subst hx
  exact nI_clamp h
theorem pk_vb (z : Int32) : vp_nar .byte z.toInt8.toInt32 = z.toInt8.toInt32 := by rw [vp_nar_byte]; simp
theorem pk_vs (z : Int32) : vp_nar .short z.toInt16.toInt32 = z.toInt16.toInt32 := by rw [vp_nar_short]; simp
end
section
/-! ===== lists of symbols: reading by index ===== -/
def cs_g (l : List Nat) (i : Nat) : Nat := l.getD i 0
theorem cs_g_app_l {l r : List Nat} {i : Nat} (h : i < l.length) : cs_g (l ++ r) i = cs_g l i := by
  unfold cs_g
  rw [List.getD_eq_getElem?_getD, List.getD_eq_getElem?_getD, List.getElem?_append_left h]
theorem cs_g_app_r {l r : List Nat} {i : Nat} : cs_g (l ++ r) (l.length + i) = cs_g r i := by
  unfold cs_g
  rw [List.getD_eq_getElem?_getD, List.getD_eq_getElem?_getD, List.getElem?_append_right (by omega), Nat.add_sub_cancel_left]
theorem cs_g_take {l : List Nat} {n i : Nat} (h : i < n) : cs_g (l.take n) i = cs_g l i := by
  unfold cs_g
  rw [List.getD_eq_getElem?_getD, List.getD_eq_getElem?_getD, List.getElem?_take_of_lt h]
theorem cs_g_drop {l : List Nat} {n i : Nat} : cs_g (l.drop n) i = cs_g l (n + i) := by
  unfold cs_g
  rw [List.getD_eq_getElem?_getD, List.getD_eq_getElem?_getD, List.getElem?_drop]
theorem cs_g_get {l : List Nat} {i : Nat} (h : i < l.length) : l[i]'h = cs_g l i := by
  unfold cs_g
  rw [List.getD_eq_getElem?_getD, List.getElem?_eq_getElem h]
  rfl
theorem cs_ext {l r : List Nat} (hl : l.length = r.length) (h : ∀ i, i < l.length → cs_g l i = cs_g r i) : l = r := by
  apply List.ext_getElem hl
  intro i h1 h2
  rw [cs_g_get h1, cs_g_get h2]
  exact h i h1
theorem cs_take_s {l : List Nat} {i : Nat} (h : i < l.length) : l.take (i + 1) = l.take i ++ [cs_g l i] := by
  rw [List.take_succ_eq_append_getElem h, cs_g_get h]
theorem cs_take_len {l : List Nat} {n : Nat} (h : n ≤ l.length) : (l.take n).length = n := by
  rw [List.length_take]; omega
theorem cs_suf_iff {l x : List Nat} (h : l.length ≤ x.length) : l <:+ x ↔ ∀ k, k < l.length → cs_g x (x.length - l.length + k) = cs_g l k := by
  constructor
  · intro hs k hk
    have e := List.suffix_iff_eq_drop.mp hs
    have e2 := congrArg (fun z => cs_g z k) e
    rw [cs_g_drop] at e2
    exact e2.symm
  · intro hk
    apply List.suffix_iff_eq_drop.mpr
    apply cs_ext
    · rw [List.length_drop]; omega
    · intro i hi
      rw [cs_g_drop, hk i hi]
/-! ===== the longest beginning of p that is an ending of x ===== -/
def cs_mx (p x : List Nat) : Nat → Nat
  | 0 => 0
  | n + 1 => if p.take (n + 1) <:+ x then n + 1 else cs_mx p x n
theorem cs_mx_le (p x : List Nat) : ∀ n, cs_mx p x n ≤ n := by
  intro n
  induction n with
  | zero => exact Nat.le_refl _
  | succ n ih =>
    unfold cs_mx
    split
    · exact Nat.le_refl _
    · omega
theorem cs_mx_suf (p x : List Nat) : ∀ n, p.take (cs_mx p x n) <:+ x := by
  intro n
  induction n with
  | zero => exact List.nil_suffix
  | succ n ih =>
    unfold cs_mx
    split
    · assumption
    · exact ih
theorem cs_mx_ge {p x : List Nat} {k : Nat} : ∀ n, k ≤ n → p.take k <:+ x → k ≤ cs_mx p x n := by
  intro n
  induction n with
  | zero => intro h _; exact h
  | succ n ih =>
    intro h hs
    unfold cs_mx
    split
    · exact h
    · rename_i hn
      by_cases e : k = n + 1
      · exact absurd (e ▸ hs) hn
      · exact ih (by omega) hs
theorem cs_mx_ext {p x y : List Nat} : ∀ n, (∀ k, k ≤ n → (p.take k <:+ x ↔ p.take k <:+ y)) → cs_mx p x n = cs_mx p y n := by
  intro n
  induction n with
  | zero => intro _; rfl
  | succ n ih =>
    intro h
    unfold cs_mx
    have h1 := h (n + 1) (Nat.le_refl _)
    have h2 := ih (fun k hk => h k (by omega))
    by_cases c : p.take (n + 1) <:+ x
    · rw [if_pos c, if_pos (h1.mp c)]
    · rw [if_neg c, if_neg (fun z => c (h1.mpr z)), h2]
def cs_dl (p x : List Nat) : Nat := cs_mx p x p.length
theorem cs_dl_le (p x : List Nat) : cs_dl p x ≤ p.length := cs_mx_le p x _
theorem cs_dl_suf (p x : List Nat) : p.take (cs_dl p x) <:+ x := cs_mx_suf p x _
theorem cs_dl_ge {p x : List Nat} {k : Nat} (h : k ≤ p.length) (hs : p.take k <:+ x) : k ≤ cs_dl p x := cs_mx_ge _ h hs
theorem cs_dl_len (p x : List Nat) : cs_dl p x ≤ x.length := by
  have h := (cs_dl_suf p x).length_le
  rw [cs_take_len (cs_dl_le p x)] at h
  exact h
theorem cs_dl_nil (p : List Nat) : cs_dl p [] = 0 := by
  have h := cs_dl_len p []
  exact Nat.le_zero.mp h
theorem cs_dl_full {p x : List Nat} : cs_dl p x = p.length ↔ p <:+ x := by
  constructor
  · intro h
    have h2 := cs_dl_suf p x
    rw [h, List.take_length] at h2
    exact h2
  · intro h
    have h2 : p.length ≤ cs_dl p x := cs_dl_ge (Nat.le_refl _) (by rw [List.take_length]; exact h)
    have h3 := cs_dl_le p x
    omega
theorem cs_suf_snoc {p x : List Nat} {k a : Nat} (hk : k < p.length) : p.take (k + 1) <:+ x ++ [a] ↔ (cs_g p k = a ∧ p.take k <:+ x) := by
  rw [cs_take_s hk, List.suffix_append_inj_of_length_eq (by rfl)]
  constructor
  · intro h
    exact ⟨List.head_eq_of_cons_eq h.2, h.1⟩
  · intro h
    exact ⟨h.2, by rw [h.1]⟩
/-- the automaton's step -/
def cs_d (p : List Nat) (s a : Nat) : Nat := cs_dl p (p.take s ++ [a])
theorem cs_d_le (p : List Nat) (s a : Nat) : cs_d p s a ≤ p.length := cs_dl_le _ _
theorem cs_dl_snoc (p x : List Nat) (a : Nat) : cs_dl p (x ++ [a]) = cs_d p (cs_dl p x) a := by
  unfold cs_d
  apply cs_mx_ext
  intro k hk
  cases k with
  | zero => exact ⟨fun _ => List.nil_suffix, fun _ => List.nil_suffix⟩
  | succ k =>
    rw [cs_suf_snoc (by omega), cs_suf_snoc (by omega)]
    constructor
    · intro h
      refine ⟨h.1, List.suffix_of_suffix_length_le h.2 (cs_dl_suf p x) ?_⟩
      have h2 := cs_dl_ge (p := p) (k := k) (by omega) h.2
      rw [cs_take_len (by omega), cs_take_len (cs_dl_le p x)]
      exact h2
    · intro h
      exact ⟨h.1, h.2.trans (cs_dl_suf p x)⟩
theorem cs_d_copy {p : List Nat} {s a : Nat} (h1 : 1 ≤ s) (hs : s ≤ p.length) (ha : s = p.length ∨ cs_g p s ≠ a) : cs_d p s a = cs_d p (cs_dl p ((p.take s).drop 1)) a := by
  rw [← cs_dl_snoc]
  unfold cs_d
  apply cs_mx_ext
  intro k hk
  cases k with
  | zero => exact ⟨fun _ => List.nil_suffix, fun _ => List.nil_suffix⟩
  | succ k =>
    rw [cs_suf_snoc (by omega), cs_suf_snoc (by omega)]
    constructor
    · intro h
      have hl := h.2.length_le
      rw [cs_take_len (by omega), cs_take_len hs] at hl
      have hne : k ≠ s := by
        intro e
        rcases ha with z | z
        · omega
        · exact z (e ▸ h.1)
      refine ⟨h.1, List.suffix_of_suffix_length_le h.2 (List.drop_suffix 1 _) ?_⟩
      rw [List.length_drop, cs_take_len (by omega), cs_take_len hs]
      omega
    · intro h
      exact ⟨h.1, h.2.trans (List.drop_suffix 1 _)⟩
theorem cs_d_hit {p : List Nat} {s : Nat} (hs : s < p.length) : cs_d p s (cs_g p s) = s + 1 := by
  unfold cs_d
  rw [← cs_take_s hs]
  have h1 := cs_dl_len p (p.take (s + 1))
  rw [cs_take_len (by omega)] at h1
  have h2 : s + 1 ≤ cs_dl p (p.take (s + 1)) := cs_dl_ge (by omega) (List.suffix_refl _)
  omega
theorem cs_d_zero {p : List Nat} {a : Nat} (hp : 0 < p.length) (ha : cs_g p 0 ≠ a) : cs_d p 0 a = 0 := by
  unfold cs_d
  have h1 := cs_dl_len p (p.take 0 ++ [a])
  have h2 := cs_dl_suf p (p.take 0 ++ [a])
  have h3 : (p.take 0 ++ [a]).length = 1 := rfl
  rw [h3] at h1
  rcases Nat.lt_or_ge (cs_dl p (p.take 0 ++ [a])) 1 with h | h
  · omega
  · have e : cs_dl p (p.take 0 ++ [a]) = 0 + 1 := by omega
    rw [e, cs_suf_snoc hp] at h2
    exact absurd h2.1 ha
theorem cs_back_s {p : List Nat} {s : Nat} (h1 : 1 ≤ s) (hs : s < p.length) : cs_dl p ((p.take (s + 1)).drop 1) = cs_d p (cs_dl p ((p.take s).drop 1)) (cs_g p s) := by
  rw [← cs_dl_snoc, cs_take_s hs, List.drop_append_of_le_length (by rw [cs_take_len (by omega)]; exact h1)]
theorem cs_back_01 {p : List Nat} {s : Nat} (h : s ≤ 1) : cs_dl p ((p.take s).drop 1) = 0 := by
  have e : (p.take s).drop 1 = [] := by
    apply List.eq_nil_of_length_eq_zero
    rw [List.length_drop, List.length_take]
    omega
  rw [e, cs_dl_nil]
theorem cs_back_lt {p : List Nat} {s : Nat} (h : 1 ≤ s) : cs_dl p ((p.take s).drop 1) < s := by
  have h1 := cs_dl_len p ((p.take s).drop 1)
  rw [List.length_drop, List.length_take] at h1
  omega
/-! ===== a word read in a state: the state after it, matches on the way, first and last end (0: none) ===== -/
def cs_rn (p : List Nat) : Nat → List Nat → Nat
  | s, [] => s
  | s, a :: x => cs_rn p (cs_d p s a) x
def cs_mt (p : List Nat) : Nat → List Nat → Nat
  | _, [] => 0
  | s, a :: x => (if cs_d p s a = p.length then 1 else 0) + cs_mt p (cs_d p s a) x
def cs_fe (p : List Nat) : Nat → List Nat → Nat
  | _, [] => 0
  | s, a :: x => if cs_d p s a = p.length then 1 else if cs_fe p (cs_d p s a) x = 0 then 0 else cs_fe p (cs_d p s a) x + 1
def cs_le (p : List Nat) : Nat → List Nat → Nat
  | _, [] => 0
  | s, a :: x => if cs_le p (cs_d p s a) x = 0 then (if cs_d p s a = p.length then 1 else 0) else cs_le p (cs_d p s a) x + 1
theorem cs_rn_app (p : List Nat) : ∀ (x y : List Nat) (s : Nat), cs_rn p s (x ++ y) = cs_rn p (cs_rn p s x) y := by
  intro x
  induction x with
  | nil => intro y s; rfl
  | cons a x ih => intro y s; exact ih y (cs_d p s a)
theorem cs_mt_app (p : List Nat) : ∀ (x y : List Nat) (s : Nat), cs_mt p s (x ++ y) = cs_mt p s x + cs_mt p (cs_rn p s x) y := by
  intro x
  induction x with
  | nil => intro y s; exact (Nat.zero_add _).symm
  | cons a x ih =>
    intro y s
    have h := ih y (cs_d p s a)
    show (if cs_d p s a = p.length then 1 else 0) + cs_mt p (cs_d p s a) (x ++ y) = (if cs_d p s a = p.length then 1 else 0) + cs_mt p (cs_d p s a) x + cs_mt p (cs_rn p (cs_d p s a) x) y
    rw [h]
    omega
theorem cs_fe_app (p : List Nat) : ∀ (x y : List Nat) (s : Nat), cs_fe p s (x ++ y) = if cs_fe p s x = 0 then (if cs_fe p (cs_rn p s x) y = 0 then 0 else x.length + cs_fe p (cs_rn p s x) y) else cs_fe p s x := by
  intro x
  induction x with
  | nil =>
    intro y s
    show cs_fe p s y = if (0 : Nat) = 0 then (if cs_fe p s y = 0 then 0 else 0 + cs_fe p s y) else 0
    rw [if_pos rfl]
    split <;> omega
  | cons a x ih =>
    intro y s
    have h := ih y (cs_d p s a)
    show (if cs_d p s a = p.length then 1 else if cs_fe p (cs_d p s a) (x ++ y) = 0 then 0 else cs_fe p (cs_d p s a) (x ++ y) + 1) = if (if cs_d p s a = p.length then 1 else if cs_fe p (cs_d p s a) x = 0 then 0 else cs_fe p (cs_d p s a) x + 1) = 0 then (if cs_fe p (cs_rn p (cs_d p s a) x) y = 0 then 0 else (x.length + 1) + cs_fe p (cs_rn p (cs_d p s a) x) y) else (if cs_d p s a = p.length then 1 else if cs_fe p (cs_d p s a) x = 0 then 0 else cs_fe p (cs_d p s a) x + 1)
    rw [h]
    generalize cs_fe p (cs_d p s a) x = u
    generalize cs_fe p (cs_rn p (cs_d p s a) x) y = v
    generalize x.length = l
    by_cases c : cs_d p s a = p.length
    · simp [c]
    · by_cases hu : u = 0
      · by_cases hv : v = 0
        · simp [c, hu, hv]
        · simp [c, hu, hv]; omega
      · simp [c, hu]
theorem cs_le_app (p : List Nat) : ∀ (x y : List Nat) (s : Nat), cs_le p s (x ++ y) = if cs_le p (cs_rn p s x) y = 0 then cs_le p s x else x.length + cs_le p (cs_rn p s x) y := by
  intro x
  induction x with
  | nil =>
    intro y s
    show cs_le p s y = if cs_le p s y = 0 then 0 else 0 + cs_le p s y
    split <;> omega
  | cons a x ih =>
    intro y s
    have h := ih y (cs_d p s a)
    show (if cs_le p (cs_d p s a) (x ++ y) = 0 then (if cs_d p s a = p.length then 1 else 0) else cs_le p (cs_d p s a) (x ++ y) + 1) = if cs_le p (cs_rn p (cs_d p s a) x) y = 0 then (if cs_le p (cs_d p s a) x = 0 then (if cs_d p s a = p.length then 1 else 0) else cs_le p (cs_d p s a) x + 1) else (x.length + 1) + cs_le p (cs_rn p (cs_d p s a) x) y
    rw [h]
    generalize cs_le p (cs_d p s a) x = u
    generalize cs_le p (cs_rn p (cs_d p s a) x) y = v
    generalize x.length = l
    by_cases hv : v = 0
    · simp [hv]
    · simp [hv]; omega
theorem cs_mt_fe (p : List Nat) : ∀ (x : List Nat) (s : Nat), cs_mt p s x = 0 ↔ cs_fe p s x = 0 := by
  intro x
  induction x with
  | nil => intro s; exact Iff.rfl
  | cons a x ih =>
    intro s
    have h := ih (cs_d p s a)
    unfold cs_mt cs_fe
    by_cases c : cs_d p s a = p.length
    · simp [c]
    · simp only [if_neg c]
      rw [Nat.zero_add, h]
      split <;> omega
theorem cs_mt_le (p : List Nat) : ∀ (x : List Nat) (s : Nat), cs_mt p s x = 0 ↔ cs_le p s x = 0 := by
  intro x
  induction x with
  | nil => intro s; exact Iff.rfl
  | cons a x ih =>
    intro s
    have h := ih (cs_d p s a)
    unfold cs_mt cs_le
    by_cases c : cs_d p s a = p.length
    · simp only [if_pos c]
      split <;> omega
    · simp only [if_neg c]
      rw [Nat.zero_add, h]
      split <;> omega
theorem cs_mt_b (p : List Nat) : ∀ (x : List Nat) (s : Nat), cs_mt p s x ≤ x.length := by
  intro x
  induction x with
  | nil => intro s; exact Nat.le_refl _
  | cons a x ih =>
    intro s
    have h := ih (cs_d p s a)
    show (if cs_d p s a = p.length then 1 else 0) + cs_mt p (cs_d p s a) x ≤ x.length + 1
    split <;> omega
theorem cs_rn_le (p : List Nat) : ∀ (x : List Nat) (s : Nat), s ≤ p.length → cs_rn p s x ≤ p.length := by
  intro x
  induction x with
  | nil => intro s h; exact h
  | cons a x ih => intro s _; exact ih _ (cs_d_le p s a)
theorem cs_rn_dl (p : List Nat) : ∀ (y x : List Nat), cs_rn p (cs_dl p x) y = cs_dl p (x ++ y) := by
  intro y
  induction y with
  | nil => intro x; rw [List.append_nil]; rfl
  | cons a y ih =>
    intro x
    show cs_rn p (cs_d p (cs_dl p x) a) y = _
    rw [← cs_dl_snoc, ih, List.append_assoc]
    rfl
theorem cs_rn_0 (p x : List Nat) : cs_rn p 0 x = cs_dl p x := by
  have h := cs_rn_dl p x []
  rw [cs_dl_nil] at h
  exact h
/-! the first and the last end, by what they are -/
theorem cs_fe_spec (p : List Nat) : ∀ (x : List Nat) (s : Nat), cs_fe p s x ≠ 0 → cs_fe p s x ≤ x.length ∧ cs_rn p s (x.take (cs_fe p s x)) = p.length := by
  intro x
  induction x with
  | nil => intro s h; exact absurd rfl h
  | cons a x ih =>
    intro s h
    have h2 := ih (cs_d p s a)
    unfold cs_fe at h ⊢
    by_cases c : cs_d p s a = p.length
    · rw [if_pos c]
      exact ⟨Nat.succ_le_succ (Nat.zero_le _), by show cs_rn p s [a] = p.length; exact c⟩
    · rw [if_neg c] at h ⊢
      by_cases d : cs_fe p (cs_d p s a) x = 0
      · rw [if_pos d] at h; exact absurd rfl h
      · rw [if_neg d]
        have h3 := h2 d
        exact ⟨Nat.succ_le_succ h3.1, h3.2⟩
theorem cs_le_spec (p : List Nat) : ∀ (x : List Nat) (s : Nat), cs_le p s x ≠ 0 → cs_le p s x ≤ x.length ∧ cs_rn p s (x.take (cs_le p s x)) = p.length := by
  intro x
  induction x with
  | nil => intro s h; exact absurd rfl h
  | cons a x ih =>
    intro s h
    have h2 := ih (cs_d p s a)
    unfold cs_le at h ⊢
    by_cases d : cs_le p (cs_d p s a) x = 0
    · rw [if_pos d] at h ⊢
      by_cases c : cs_d p s a = p.length
      · rw [if_pos c]
        exact ⟨Nat.succ_le_succ (Nat.zero_le _), by show cs_rn p s [a] = p.length; exact c⟩
      · rw [if_neg c] at h; exact absurd rfl h
    · rw [if_neg d]
      have h3 := h2 d
      exact ⟨Nat.succ_le_succ h3.1, h3.2⟩
theorem cs_fe_b (p x : List Nat) (s : Nat) : cs_fe p s x ≤ x.length := by
  by_cases h : cs_fe p s x = 0
  · rw [h]; exact Nat.zero_le _
  · exact (cs_fe_spec p x s h).1
theorem cs_le_b (p x : List Nat) (s : Nat) : cs_le p s x ≤ x.length := by
  by_cases h : cs_le p s x = 0
  · rw [h]; exact Nat.zero_le _
  · exact (cs_le_spec p x s h).1
theorem cs_end_ge {p x : List Nat} {e : Nat} (h : cs_rn p 0 (x.take e) = p.length) : p.length ≤ e := by
  rw [cs_rn_0] at h
  have h1 := cs_dl_len p (x.take e)
  rw [List.length_take] at h1
  omega
theorem cs_fe_some (p : List Nat) : ∀ (x : List Nat) (s e : Nat), 1 ≤ e → e ≤ x.length → cs_rn p s (x.take e) = p.length → (∀ j, 1 ≤ j → j < e → cs_rn p s (x.take j) ≠ p.length) → cs_fe p s x = e := by
  intro x
  induction x with
  | nil => intro s e h1 h2; exact absurd h2 (by show ¬ e ≤ 0; omega)
  | cons a x ih =>
    intro s e h1 h2 h3 h4
    obtain ⟨f, rfl⟩ : ∃ f, e = f + 1 := ⟨e - 1, by omega⟩
    unfold cs_fe
    cases f with
    | zero =>
      have c : cs_d p s a = p.length := h3
      rw [if_pos c]
    | succ f =>
      have c : cs_d p s a ≠ p.length := h4 1 (by omega) (by omega)
      have i := ih (cs_d p s a) (f + 1) (by omega) (Nat.le_of_succ_le_succ h2) h3 (fun j j1 j2 => h4 (j + 1) (by omega) (by omega))
      rw [if_neg c, i, if_neg (by omega)]
theorem cs_fe_none (p : List Nat) : ∀ (x : List Nat) (s : Nat), (∀ j, 1 ≤ j → j ≤ x.length → cs_rn p s (x.take j) ≠ p.length) → cs_fe p s x = 0 := by
  intro x s h
  by_cases c : cs_fe p s x = 0
  · exact c
  · have h2 := cs_fe_spec p x s c
    exact absurd h2.2 (h _ (by omega) h2.1)
theorem cs_le_none (p : List Nat) : ∀ (x : List Nat) (s : Nat), (∀ j, 1 ≤ j → j ≤ x.length → cs_rn p s (x.take j) ≠ p.length) → cs_le p s x = 0 := by
  intro x s h
  by_cases c : cs_le p s x = 0
  · exact c
  · have h2 := cs_le_spec p x s c
    exact absurd h2.2 (h _ (by omega) h2.1)
theorem cs_le_some (p : List Nat) : ∀ (x : List Nat) (s e : Nat), 1 ≤ e → e ≤ x.length → cs_rn p s (x.take e) = p.length → (∀ j, e < j → j ≤ x.length → cs_rn p s (x.take j) ≠ p.length) → cs_le p s x = e := by
  intro x
  induction x with
  | nil => intro s e h1 h2; exact absurd h2 (by show ¬ e ≤ 0; omega)
  | cons a x ih =>
    intro s e h1 h2 h3 h4
    obtain ⟨f, rfl⟩ : ∃ f, e = f + 1 := ⟨e - 1, by omega⟩
    unfold cs_le
    cases f with
    | zero =>
      have c : cs_d p s a = p.length := h3
      have i := cs_le_none p x (cs_d p s a) (fun j j1 j2 => h4 (j + 1) (by omega) (Nat.succ_le_succ j2))
      rw [if_pos i, if_pos c]
    | succ f =>
      have i := ih (cs_d p s a) (f + 1) (by omega) (Nat.le_of_succ_le_succ h2) h3 (fun j j1 j2 => h4 (j + 1) (by omega) (Nat.succ_le_succ j2))
      rw [i, if_neg (by omega)]
end
section
/-! ===== one more symbol ===== -/
theorem cs_rn_snoc (p x : List Nat) (s c : Nat) : cs_rn p s (x ++ [c]) = cs_d p (cs_rn p s x) c := cs_rn_app p x [c] s
theorem cs_mt_hit {p x : List Nat} {s c : Nat} (h : cs_d p (cs_rn p s x) c = p.length) : cs_mt p s (x ++ [c]) = cs_mt p s x + 1 := by
  rw [cs_mt_app]
  show _ + ((if cs_d p (cs_rn p s x) c = p.length then 1 else 0) + 0) = _
  rw [if_pos h]
theorem cs_mt_miss {p x : List Nat} {s c : Nat} (h : cs_d p (cs_rn p s x) c ≠ p.length) : cs_mt p s (x ++ [c]) = cs_mt p s x := by
  rw [cs_mt_app]
  show _ + ((if cs_d p (cs_rn p s x) c = p.length then 1 else 0) + 0) = _
  rw [if_neg h]
  rfl
theorem cs_fe_one {p : List Nat} {t c : Nat} : cs_fe p t [c] = if cs_d p t c = p.length then 1 else 0 := by
  show (if cs_d p t c = p.length then 1 else if (0 : Nat) = 0 then 0 else 0 + 1) = _
  rw [if_pos rfl]
theorem cs_le_one {p : List Nat} {t c : Nat} : cs_le p t [c] = if cs_d p t c = p.length then 1 else 0 := by
  show (if (0 : Nat) = 0 then (if cs_d p t c = p.length then 1 else 0) else 0 + 1) = _
  rw [if_pos rfl]
theorem cs_fe_hit {p x : List Nat} {s c : Nat} (h : cs_d p (cs_rn p s x) c = p.length) : cs_fe p s (x ++ [c]) = if cs_fe p s x = 0 then x.length + 1 else cs_fe p s x := by
  rw [cs_fe_app, cs_fe_one, if_pos h, if_neg (c := 1 = 0) (by decide)]
theorem cs_fe_miss {p x : List Nat} {s c : Nat} (h : cs_d p (cs_rn p s x) c ≠ p.length) : cs_fe p s (x ++ [c]) = cs_fe p s x := by
  rw [cs_fe_app, cs_fe_one, if_neg h, if_pos rfl]
  split <;> omega
theorem cs_le_hit {p x : List Nat} {s c : Nat} (h : cs_d p (cs_rn p s x) c = p.length) : cs_le p s (x ++ [c]) = x.length + 1 := by
  rw [cs_le_app, cs_le_one, if_pos h, if_neg (by decide)]
theorem cs_le_miss {p x : List Nat} {s c : Nat} (h : cs_d p (cs_rn p s x) c ≠ p.length) : cs_le p s (x ++ [c]) = cs_le p s x := by
  rw [cs_le_app, cs_le_one, if_neg h, if_pos rfl]
/-! ===== occurrences by place ===== -/
def cs_ok (p x : List Nat) (q : Nat) : Prop := 0 < p.length ∧ q + p.length ≤ x.length ∧ p <:+ x.take (q + p.length)
theorem cs_at_iff {p x : List Nat} {q : Nat} (h : q + p.length ≤ x.length) : p <:+ x.take (q + p.length) ↔ ∀ k, k < p.length → cs_g x (q + k) = cs_g p k := by
  rw [cs_suf_iff (by rw [cs_take_len h]; omega), cs_take_len h]
  constructor
  · intro H k hk
    have H2 := H k hk
    rw [show q + p.length - p.length + k = q + k by omega, cs_g_take (by omega)] at H2
    exact H2
  · intro H k hk
    rw [show q + p.length - p.length + k = q + k by omega, cs_g_take (by omega)]
    exact H k hk
theorem cs_mt_take {p x : List Nat} {e : Nat} (he : e < x.length) (c : p <:+ x.take (e + 1)) : cs_mt p 0 (x.take (e + 1)) = cs_mt p 0 (x.take e) + 1 := by
  have h : cs_rn p 0 (x.take (e + 1)) = p.length := by rw [cs_rn_0]; exact cs_dl_full.mpr c
  rw [cs_take_s he] at h ⊢
  rw [cs_rn_snoc] at h
  exact cs_mt_hit h
theorem cs_mt_take' {p x : List Nat} {e : Nat} (c : ¬ p <:+ x.take (e + 1)) : cs_mt p 0 (x.take (e + 1)) = cs_mt p 0 (x.take e) := by
  rcases Nat.lt_or_ge e x.length with he | he
  · have h : ¬ cs_rn p 0 (x.take (e + 1)) = p.length := by rw [cs_rn_0]; exact fun z => c (cs_dl_full.mp z)
    rw [cs_take_s he] at h ⊢
    rw [cs_rn_snoc] at h
    exact cs_mt_miss h
  · rw [List.take_of_length_le he, List.take_of_length_le (by omega)]
theorem cs_mt_short (p x : List Nat) : ∀ e, e < p.length → cs_mt p 0 (x.take e) = 0 := by
  intro e
  induction e with
  | zero => intro _; rfl
  | succ e ih =>
    intro h
    rw [cs_mt_take', ih (by omega)]
    intro z
    have h2 := z.length_le
    rw [List.length_take] at h2
    omega
def cs_bt (p y : List Nat) : Nat := if p.length = 0 then 0 else cs_mt p 0 y
def cs_cn (p y : List Nat) (i : Nat) : Nat := if p.length = 0 then 0 else cs_mt p 0 (y.take (i + p.length - 1))
theorem cs_bt_b (p y : List Nat) : cs_bt p y ≤ y.length := by
  unfold cs_bt
  split
  · omega
  · exact cs_mt_b p y 0
theorem cs_cn_0 (p y : List Nat) : cs_cn p y 0 = 0 := by
  unfold cs_cn
  by_cases h : p.length = 0
  · rw [if_pos h]
  · rw [if_neg h, cs_mt_short _ _ _ (by omega)]
theorem cs_cn_b (p y : List Nat) (i : Nat) : cs_cn p y i ≤ y.length := by
  unfold cs_cn
  split
  · omega
  · have h1 := cs_mt_b p (y.take (i + p.length - 1)) 0
    rw [List.length_take] at h1
    omega
theorem cs_cn_ok {p y : List Nat} {i : Nat} (h : cs_ok p y i) : cs_cn p y (i + 1) = cs_cn p y i + 1 := by
  obtain ⟨h0, h1, h2⟩ := h
  unfold cs_cn
  rw [if_neg (by omega), if_neg (by omega), show i + 1 + p.length - 1 = i + p.length - 1 + 1 by omega]
  refine cs_mt_take (by omega) ?_
  rw [show i + p.length - 1 + 1 = i + p.length by omega]
  exact h2
theorem cs_cn_no {p y : List Nat} {i : Nat} (hi : i + p.length ≤ y.length) (h : ¬ cs_ok p y i) : cs_cn p y (i + 1) = cs_cn p y i := by
  unfold cs_cn
  by_cases h0 : p.length = 0
  · rw [if_pos h0, if_pos h0]
  · rw [if_neg h0, if_neg h0, show i + 1 + p.length - 1 = i + p.length - 1 + 1 by omega]
    refine cs_mt_take' ?_
    rw [show i + p.length - 1 + 1 = i + p.length by omega]
    exact fun z => h ⟨by omega, hi, z⟩
theorem cs_cn_end {p y : List Nat} {i : Nat} (h : y.length < i + p.length) (h2 : i = 0 ∨ i + p.length ≤ y.length + 1) : cs_cn p y i = cs_bt p y := by
  unfold cs_cn cs_bt
  by_cases h0 : p.length = 0
  · rw [if_pos h0, if_pos h0]
  · rw [if_neg h0, if_neg h0]
    rcases h2 with e | e
    · have a1 := cs_mt_short p y (i + p.length - 1) (by omega)
      have a2 := cs_mt_short p y y.length (by omega)
      rw [List.take_length] at a2
      rw [a1, a2]
    · rw [List.take_of_length_le (by omega)]
theorem cs_ok_seg {p x : List Nat} {a b q : Nat} (hb : b ≤ x.length) (ha : a ≤ q) (hq : q + p.length ≤ b) : cs_ok p x q ↔ cs_ok p ((x.take b).drop a) (q - a) := by
  have hl : ((x.take b).drop a).length = b - a := by rw [List.length_drop, cs_take_len hb]
  have e : (p <:+ x.take (q + p.length)) ↔ (p <:+ ((x.take b).drop a).take (q - a + p.length)) := by
    rw [cs_at_iff (by omega), cs_at_iff (by omega)]
    constructor
    · intro H k hk
      rw [cs_g_drop, cs_g_take (by omega), show a + (q - a + k) = q + k by omega]
      exact H k hk
    · intro H k hk
      have H2 := H k hk
      rw [cs_g_drop, cs_g_take (by omega), show a + (q - a + k) = q + k by omega] at H2
      exact H2
  unfold cs_ok
  constructor
  · intro ⟨h0, _, h2⟩
    exact ⟨h0, by omega, e.mp h2⟩
  · intro ⟨h0, _, h2⟩
    exact ⟨h0, by omega, e.mpr h2⟩
theorem cs_ok_rn {p x : List Nat} {q : Nat} (h : cs_ok p x q) : cs_rn p 0 (x.take (q + p.length)) = p.length := by
  rw [cs_rn_0]
  exact cs_dl_full.mpr h.2.2
theorem cs_rn_ok {p x : List Nat} {e : Nat} (h0 : 0 < p.length) (he : e ≤ x.length) (h : cs_rn p 0 (x.take e) = p.length) : p.length ≤ e ∧ cs_ok p x (e - p.length) := by
  have h1 := cs_end_ge h
  refine ⟨h1, h0, by omega, ?_⟩
  rw [show e - p.length + p.length = e by omega]
  rw [cs_rn_0] at h
  exact cs_dl_full.mp h
/-! the place of the first and the last occurrence -/
theorem cs_first_at {p x : List Nat} {q : Nat} (h : cs_ok p x q) (hn : ∀ j, j < q → ¬ cs_ok p x j) : cs_fe p 0 x = q + p.length := by
  have h0 := h.1
  refine cs_fe_some p x 0 _ (by omega) h.2.1 (cs_ok_rn h) ?_
  intro j j1 j2 z
  have hx := h.2.1
  have h3 := cs_rn_ok h0 (by omega) z
  exact hn _ (by omega) h3.2
theorem cs_first_no {p x : List Nat} (h0 : 0 < p.length) (hn : ∀ j, ¬ cs_ok p x j) : cs_fe p 0 x = 0 := by
  refine cs_fe_none p x 0 ?_
  intro j j1 j2 z
  exact hn _ (cs_rn_ok h0 j2 z).2
theorem cs_last_at {p x : List Nat} {q : Nat} (h : cs_ok p x q) (hn : ∀ j, q < j → ¬ cs_ok p x j) : cs_le p 0 x = q + p.length := by
  have h0 := h.1
  refine cs_le_some p x 0 _ (by omega) h.2.1 (cs_ok_rn h) ?_
  intro j j1 j2 z
  have h3 := cs_rn_ok h0 (by omega) z
  exact hn _ (by omega) h3.2
theorem cs_last_no {p x : List Nat} (h0 : 0 < p.length) (hn : ∀ j, ¬ cs_ok p x j) : cs_le p 0 x = 0 := by
  refine cs_le_none p x 0 ?_
  intro j j1 j2 z
  exact hn _ (cs_rn_ok h0 j2 z).2
/-! ===== the text of a row of codes ===== -/
def cs_cat (W : Nat → List Nat) : List Nat → List Nat
  | [] => []
  | c :: T => W c ++ cs_cat W T
theorem cs_cat_app (W : Nat → List Nat) : ∀ S T : List Nat, cs_cat W (S ++ T) = cs_cat W S ++ cs_cat W T := by
  intro S
  induction S with
  | nil => intro T; rfl
  | cons c S ih =>
    intro T
    show W c ++ cs_cat W (S ++ T) = W c ++ cs_cat W S ++ cs_cat W T
    rw [ih, List.append_assoc]
theorem cs_cat_snoc (W : Nat → List Nat) (T : List Nat) (c : Nat) : cs_cat W (T ++ [c]) = cs_cat W T ++ W c := by
  rw [cs_cat_app]
  show _ ++ (W c ++ []) = _
  rw [List.append_nil]
theorem cs_cat_take {W : Nat → List Nat} {T : List Nat} {i : Nat} (h : i < T.length) : cs_cat W (T.take (i + 1)) = cs_cat W (T.take i) ++ W (cs_g T i) := by
  rw [cs_take_s h, cs_cat_snoc]
theorem cs_cat_split (W : Nat → List Nat) (T : List Nat) (i : Nat) : cs_cat W T = cs_cat W (T.take i) ++ cs_cat W (T.drop i) := by
  rw [← cs_cat_app, List.take_append_drop]
def cs_off (W : Nat → List Nat) (T : List Nat) (i : Nat) : Nat := (cs_cat W (T.take i)).length
theorem cs_off_0 (W : Nat → List Nat) (T : List Nat) : cs_off W T 0 = 0 := rfl
theorem cs_off_s {W : Nat → List Nat} {T : List Nat} {i : Nat} (h : i < T.length) : cs_off W T (i + 1) = cs_off W T i + (W (cs_g T i)).length := by
  unfold cs_off
  rw [cs_cat_take h, List.length_append]
theorem cs_off_all (W : Nat → List Nat) (T : List Nat) : cs_off W T T.length = (cs_cat W T).length := by
  unfold cs_off
  rw [List.take_length]
theorem cs_off_le (W : Nat → List Nat) (T : List Nat) (i : Nat) : cs_off W T i ≤ (cs_cat W T).length := by
  unfold cs_off
  rw [cs_cat_split W T i, List.length_append]
  omega
theorem cs_cat_pre (W : Nat → List Nat) (T : List Nat) (i : Nat) : (cs_cat W T).take (cs_off W T i) = cs_cat W (T.take i) := by
  unfold cs_off
  conv => lhs; rw [cs_cat_split W T i]
  rw [List.take_left]
theorem cs_cat_seg {W : Nat → List Nat} {T : List Nat} {i : Nat} (h : i < T.length) : ((cs_cat W T).take (cs_off W T (i + 1))).drop (cs_off W T i) = W (cs_g T i) := by
  rw [cs_cat_pre, cs_cat_take h]
  unfold cs_off
  rw [List.drop_left]
theorem cs_g_cat {W : Nat → List Nat} {T : List Nat} {i r : Nat} (h : i < T.length) (hr : r < (W (cs_g T i)).length) : cs_g (cs_cat W T) (cs_off W T i + r) = cs_g (W (cs_g T i)) r := by
  have e := cs_cat_seg (W := W) h
  have e2 := congrArg (fun z => cs_g z r) e
  rw [cs_g_drop, cs_g_take (by rw [cs_off_s h]; omega)] at e2
  exact e2
theorem cs_cat_ext {W V : Nat → List Nat} : ∀ T : List Nat, (∀ i, i < T.length → W (cs_g T i) = V (cs_g T i)) → cs_cat W T = cs_cat V T := by
  intro T
  induction T with
  | nil => intro _; rfl
  | cons c T ih =>
    intro h
    have h0 : W c = V c := h 0 (Nat.succ_pos _)
    show W c ++ cs_cat W T = V c ++ cs_cat V T
    rw [h0, ih (fun i hi => h (i + 1) (Nat.succ_lt_succ hi))]
theorem cs_cat_len {W : Nat → List Nat} : ∀ T : List Nat, (∀ i, i < T.length → 0 < (W (cs_g T i)).length) → T.length ≤ (cs_cat W T).length := by
  intro T
  induction T with
  | nil => intro _; exact Nat.le_refl _
  | cons c T ih =>
    intro h
    have h0 : 0 < (W c).length := h 0 (Nat.succ_pos _)
    have h1 := ih (fun i hi => h (i + 1) (Nat.succ_lt_succ hi))
    show T.length + 1 ≤ (W c ++ cs_cat W T).length
    rw [List.length_append]
    omega
/-! matches inside the words -/
def cs_in (p : List Nat) (W : Nat → List Nat) : List Nat → Nat
  | [] => 0
  | c :: T => cs_bt p (W c) + cs_in p W T
theorem cs_in_snoc (p : List Nat) (W : Nat → List Nat) : ∀ (T : List Nat) (c : Nat), cs_in p W (T ++ [c]) = cs_in p W T + cs_bt p (W c) := by
  intro T
  induction T with
  | nil => intro c; exact Nat.add_comm _ _
  | cons a T ih =>
    intro c
    show cs_bt p (W a) + cs_in p W (T ++ [c]) = cs_bt p (W a) + cs_in p W T + cs_bt p (W c)
    rw [ih]
    omega
theorem cs_in_take {p : List Nat} {W : Nat → List Nat} {T : List Nat} {i : Nat} (h : i < T.length) : cs_in p W (T.take (i + 1)) = cs_in p W (T.take i) + cs_bt p (W (cs_g T i)) := by
  rw [cs_take_s h, cs_in_snoc]
theorem cs_in_b (p : List Nat) (W : Nat → List Nat) : ∀ T : List Nat, cs_in p W T ≤ (cs_cat W T).length := by
  intro T
  induction T with
  | nil => exact Nat.le_refl _
  | cons c T ih =>
    have h := cs_bt_b p (W c)
    show cs_bt p (W c) + cs_in p W T ≤ (W c ++ cs_cat W T).length
    rw [List.length_append]
    omega
theorem cs_in_0 {p : List Nat} (W : Nat → List Nat) (h : p.length = 0) : ∀ T : List Nat, cs_in p W T = 0 := by
  intro T
  induction T with
  | nil => rfl
  | cons c T ih =>
    show cs_bt p (W c) + cs_in p W T = 0
    unfold cs_bt
    rw [if_pos h, ih]
theorem cs_in_ext {p : List Nat} {W V : Nat → List Nat} : ∀ T : List Nat, (∀ i, i < T.length → W (cs_g T i) = V (cs_g T i)) → cs_in p W T = cs_in p V T := by
  intro T
  induction T with
  | nil => intro _; rfl
  | cons c T ih =>
    intro h
    have h0 : W c = V c := h 0 (Nat.succ_pos _)
    show cs_bt p (W c) + cs_in p W T = cs_bt p (V c) + cs_in p V T
    rw [h0, ih (fun i hi => h (i + 1) (Nat.succ_lt_succ hi))]
end
section
/-! ===== numbers ===== -/
theorem cs_b8 {n : Nat} (h : n < 128) : (nI n).toInt8.toInt32 = nI n := lg_i2b_small (by rw [nI_toInt (by omega)]; omega) (by rw [nI_toInt (by omega)]; omega)
theorem cs_b16 {n : Nat} (h : n < 32768) : (nI n).toInt16.toInt32 = nI n := lg_i2s_small (by rw [nI_toInt (by omega)]; omega) (by rw [nI_toInt (by omega)]; omega)
theorem cs_vb {n : Nat} (h : n < 128) : vp_nar .byte (nI n) = nI n := by rw [vp_nar_byte, cs_b8 h]
theorem cs_vbb {n : Nat} (h : n < 128) : vp_nar .byte (nI n).toInt8.toInt32 = nI n := by rw [pk_vb, cs_b8 h]
theorem cs_vss {n : Nat} (h : n < 32768) : vp_nar .short (nI n).toInt16.toInt32 = nI n := by rw [pk_vs, cs_b16 h]
theorem cs_rd {a : Nat → Int32} {i : Nat} {v : Int32} (h : a i = v) (hi : i < 2147483648) : a (nI i).toNatClampNeg = v := by rw [nI_clamp hi]; exact h
theorem cs_m7 (a : Nat) : nI a * 7 = nI (a * 7) := pk_mul a 7
theorem cs_m4 (a : Nat) : nI a * 4 = nI (a * 4) := pk_mul a 4
theorem cs_m7a (a b : Nat) : nI a * 7 + nI b = nI (a * 7 + b) := by rw [cs_m7, nI_add]
theorem cs_m4a (a b : Nat) : nI a * 4 + nI b = nI (a * 4 + b) := by rw [cs_m4, nI_add]
theorem cs_upd {a : Nat → Int32} {i : Nat} {x y : Int32} (hi : i < 2147483648) (h : x = y) : upd a (nI i).toNatClampNeg x = upd a i y := by rw [nI_clamp hi, h]
/-! ===== the relation ===== -/
def cs_WF (W : Nat → List Nat) (T P : List Nat) (wc : Nat) : Prop :=
  (4 ≤ wc ∧ wc ≤ 60) ∧ (∀ w, w < wc → 0 < (W w).length ∧ (W w).length ≤ 250 ∧ ∀ k, k < (W w).length → cs_g (W w) k < 4) ∧ (∀ w, w < 4 → W w = [w]) ∧ (∀ i, i < T.length → cs_g T i < wc) ∧ (cs_cat W T).length ≤ 250 ∧ P.length ≤ 6 ∧ (∀ i, i < P.length → cs_g P i < 4)
def cs_DX (W : Nat → List Nat) (wc : Nat) (aSh aLa aFi aLe : Nat → Int32) : Prop :=
  ∀ w, w < wc → aLe w = nI (W w).length ∧ aFi w = nI (cs_g (W w) 0) ∧ ∃ (x : List Nat) (c : Nat), W w = x ++ [c] ∧ c < 4 ∧ aLa w = nI c ∧ ((x = [] ∧ aSh w = -1) ∨ ∃ q, q < w ∧ aSh w = nI q ∧ W q = x)
def cs_Rows (p : List Nat) (st : Nat → Int32) (s : Nat) : Prop := ∀ r a, r < s → a < 4 → st (r * 4 + a) = nI (cs_d p r a)
def cs_Cell (p : List Nat) (W : Nat → List Nat) (af me fe la : Nat → Int32) (w s : Nat) : Prop :=
  af (w * 7 + s) = nI (cs_rn p s (W w)) ∧ me (w * 7 + s) = nI (cs_mt p s (W w)) ∧ fe (w * 7 + s) = nI (cs_fe p s (W w)) ∧ la (w * 7 + s) = nI (cs_le p s (W w))
/-- the cells of all words below w, and of w for the states below s, are right -/
def cs_Tb (p : List Nat) (W : Nat → List Nat) (af me fe la : Nat → Int32) (w s : Nat) : Prop :=
  ∀ w' s', s' ≤ p.length → (w' < w ∨ (w' = w ∧ s' < s)) → cs_Cell p W af me fe la w' s'
def cs_pl (p : List Nat) (e : Nat) : Int32 := if e = 0 then -1 else nI (e - p.length)
def cs_Kn (W : Nat → List Nat) (T P : List Nat) (fE fM fF fP fI : Int32) : Prop :=
  (P.length = 0 ∧ fE = 0 ∧ fM = 0 ∧ fF = -1 ∧ fP = -1 ∧ fI = 0) ∨
  (0 < P.length ∧ fE = nI (cs_rn P 0 (cs_cat W T)) ∧ fM = nI (cs_mt P 0 (cs_cat W T)) ∧ fF = cs_pl P (cs_fe P 0 (cs_cat W T)) ∧ fP = cs_pl P (cs_le P 0 (cs_cat W T)) ∧ fI = nI (cs_in P W T))
def cs_TbOk (W : Nat → List Nat) (P : List Nat) (wc : Nat) (fB : Int32) (aSt aAf aMe aFe aLE : Nat → Int32) : Prop :=
  ∃ tb, fB = nI tb ∧ tb ≤ wc ∧ (tb ≠ 0 → 4 ≤ tb ∧ cs_Rows P aSt (P.length + 1) ∧ cs_Tb P W aAf aMe aFe aLE tb 0)
def cs_X (W : Nat → List Nat) (T P : List Nat) (wc : Nat) (fB fK fE fM fF fP fI : Int32) (aSh aLa aFi aLe aTa aSy aSt aAf aMe aFe aLE : Nat → Int32) : Prop :=
  cs_DX W wc aSh aLa aFi aLe ∧ (∀ i, i < T.length → aTa i = nI (cs_g T i)) ∧ (∀ i, i < P.length → aSy i = nI (cs_g P i)) ∧
  cs_TbOk W P wc fB aSt aAf aMe aFe aLE ∧ (fK = 0 ∨ (fK = 1 ∧ cs_Kn W T P fE fM fF fP fI))
def cs_DY (W : Nat → List Nat) (tx : List Nat) (wc : Nat) (bW bL : Nat → Int32) : Prop :=
  ∀ w, 4 ≤ w → w < wc → ∃ q, bW w = nI q ∧ bL w = nI (W w).length ∧ q + (W w).length ≤ tx.length ∧ ∀ k, k < (W w).length → cs_g tx (q + k) = cs_g (W w) k
def cs_Y (W : Nat → List Nat) (T P : List Nat) (wc : Nat) (bT bB bW bL bP : Nat → Int32) : Prop :=
  (∀ i, i < (cs_cat W T).length → bT i = nI (cs_g (cs_cat W T) i)) ∧ (∀ i, i ≤ T.length → bB i = nI (cs_off W T i)) ∧ cs_DY W (cs_cat W T) wc bW bL ∧ (∀ i, i < P.length → bP i = nI (cs_g P i))
/-- the relation: there are words, codes, a pattern, that both pictures show -/
def i_Rel (k : Nat) (u : SX) (v : SY) : Prop := match u with
  | (fW, fT, fL, fS, fB, fK, fE, fM, fF, fP, fI, aSh, aLa, aFi, aLe, aTa, aSy, aSt, aAf, aMe, aFe, aLE) => match v with
    | (gS, gC, gW, gP, bT, bB, bW, bL, bP) => ∃ (W : Nat → List Nat) (T P : List Nat) (wc : Nat), (fW = nI wc ∧ fT = nI T.length ∧ fL = nI (cs_cat W T).length ∧ fS = nI P.length) ∧ (gS = nI (cs_cat W T).length ∧ gC = nI T.length ∧ gW = nI wc ∧ gP = nI P.length) ∧
      cs_WF W T P wc ∧ cs_X W T P wc fB fK fE fM fF fP fI aSh aLa aFi aLe aTa aSy aSt aAf aMe aFe aLE ∧ cs_Y W T P wc bT bB bW bL bP
theorem i_up {k : Nat} {u : SX} {v : SY} (h : i_Rel k u v) : i_Rel (k + 3) u v := h
theorem cs_mk {k : Nat} {W : Nat → List Nat} {T P : List Nat} {wc : Nat} {fB fK fE fM fF fP fI : Int32} {aSh aLa aFi aLe aTa aSy aSt aAf aMe aFe aLE bT bB bW bL bP : Nat → Int32} (hF : cs_WF W T P wc) (hX : cs_X W T P wc fB fK fE fM fF fP fI aSh aLa aFi aLe aTa aSy aSt aAf aMe aFe aLE) (hY : cs_Y W T P wc bT bB bW bL bP) : i_Rel k (nI wc, nI T.length, nI (cs_cat W T).length, nI P.length, fB, fK, fE, fM, fF, fP, fI, aSh, aLa, aFi, aLe, aTa, aSy, aSt, aAf, aMe, aFe, aLE) (nI (cs_cat W T).length, nI T.length, nI wc, nI P.length, bT, bB, bW, bL, bP) :=
  ⟨W, T, P, wc, ⟨rfl, rfl, rfl, rfl⟩, ⟨rfl, rfl, rfl, rfl⟩, hF, hX, hY⟩
theorem cs_el {k : Nat} {u : SX} {v : SY} {Q : SX → SY → Prop} (I : i_Rel k u v) (h : ∀ (W : Nat → List Nat) (T P : List Nat) (wc : Nat) (fB fK fE fM fF fP fI : Int32) (aSh aLa aFi aLe aTa aSy aSt aAf aMe aFe aLE bT bB bW bL bP : Nat → Int32), cs_WF W T P wc → cs_X W T P wc fB fK fE fM fF fP fI aSh aLa aFi aLe aTa aSy aSt aAf aMe aFe aLE → cs_Y W T P wc bT bB bW bL bP → Q (nI wc, nI T.length, nI (cs_cat W T).length, nI P.length, fB, fK, fE, fM, fF, fP, fI, aSh, aLa, aFi, aLe, aTa, aSy, aSt, aAf, aMe, aFe, aLE) (nI (cs_cat W T).length, nI T.length, nI wc, nI P.length, bT, bB, bW, bL, bP)) : Q u v := by
  obtain ⟨fW, fT, fL, fS, fB, fK, fE, fM, fF, fP, fI, aSh, aLa, aFi, aLe, aTa, aSy, aSt, aAf, aMe, aFe, aLE⟩ := u
  obtain ⟨gS, gC, gW, gP, bT, bB, bW, bL, bP⟩ := v
  obtain ⟨W, T, P, wc, ⟨rfl, rfl, rfl, rfl⟩, ⟨rfl, rfl, rfl, rfl⟩, hF, hX, hY⟩ := I
  exact h W T P wc fB fK fE fM fF fP fI aSh aLa aFi aLe aTa aSy aSt aAf aMe aFe aLE bT bB bW bL bP hF hX hY
end
section
/-! ===== X: the machine ===== -/
theorem cs_rows_put {P : List Nat} {st : Nat → Int32} {s i : Nat} {v : Int32} (h : cs_Rows P st s) (hi : i < 4) : cs_Rows P (upd st (s * 4 + i) v) s := by
  intro r a hr ha
  rw [pk_un (by omega)]
  exact h r a hr ha
theorem cs_bm35 {P : List Nat} {s : Nat} {fW fT fL fB fK fE fM fF fP fI : Int32} {aSh aLa aFi aLe aTa aSy aAf aMe aFe aLE : Nat → Int32} {post : SX → Prop} {J : Int32 → Int32 → (Nat → Int32) → (Nat → Int32) → (Nat → Int32) → (Nat → Int32) → (Nat → Int32) → (Nat → Int32) → (Nat → Int32) → (Nat → Int32) → (Nat → Int32) → (Nat → Int32) → (Nat → Int32) → Prop}
    (h6 : P.length ≤ 6) (h0 : 0 < P.length) (hs : s ≤ P.length) (hSy : ∀ i, i < P.length → aSy i = nI (cs_g P i)) (hP : ∀ i, i < P.length → cs_g P i < 4)
    (hJ : ∀ (b : Nat) (st : Nat → Int32), cs_Rows P st (s + 1) → (s < P.length → b = cs_dl P ((P.take (s + 1)).drop 1)) → J (nI b) (nI (s + 1)) aSh aLa aFi aLe aTa aSy st aAf aMe aFe aLE) :
    ∀ d j, j + d = 4 → ∀ st : Nat → Int32, cs_Rows P st s → (∀ a, a < j → st (s * 4 + a) = nI (if s = 0 then 0 else cs_d P (cs_dl P ((P.take s).drop 1)) a)) → wX_buildMachine_35 post J (nI (cs_dl P ((P.take s).drop 1))) (nI s) fW fT fL (nI P.length) fB fK fE fM fF fP fI (d + 1) (nI j) aSh aLa aFi aLe aTa aSy st aAf aMe aFe aLE := by
  generalize hb : cs_dl P ((P.take s).drop 1) = b
  have hbs : b ≤ s := by
    rcases Nat.lt_or_ge s 1 with z | z
    · have := cs_back_01 (p := P) (s := s) (by omega)
      omega
    · have := cs_back_lt (p := P) z
      omega
  have hbl : 1 ≤ s → b < s := fun z => by
    have := cs_back_lt (p := P) z
    omega
  intro d
  induction d with
  | zero =>
    intro j hj st hR hrow
    have hj4 : j = 4 := by omega
    subst hj4
    refine br_t (nI_le (a := 4) (b := 4) (by omega) (by decide)) ?_
    by_cases hm : s = P.length
    · refine br_t (nI_le (by omega) (by omega)) (nm_r (nI_1 s) (hJ b st ?_ (fun z => absurd hm (by omega))))
      intro r a hr ha
      by_cases e : r = s
      · rw [e, hrow a ha, if_neg (by omega), cs_d_copy (by omega) hs (Or.inl hm), hb]
      · exact hR r a (by omega) ha
    · have hl : s < P.length := by omega
      have hc := hP s hl
      have hy := hSy s hl
      generalize hcc : cs_g P s = c at hc hy
      have e1 : nI b * 4 + aSy (nI s).toNatClampNeg = nI (b * 4 + c) := by rw [cs_rd hy (by omega), cs_m4a]
      have e2 : nI s * 4 + aSy (nI s).toNatClampNeg = nI (s * 4 + c) := by rw [cs_rd hy (by omega), cs_m4a]
      have hrows : cs_Rows P (upd st (s * 4 + c) (nI (s + 1))) (s + 1) := by
        intro r a hr ha
        by_cases e : r = s
        · by_cases ea : a = c
          · rw [e, ea, pk_us, ← hcc, cs_d_hit hl]
          · rw [e, pk_un (by omega), hrow a ha]
            by_cases z : s = 0
            · rw [if_pos z, z, cs_d_zero h0 (by rw [← z, hcc]; exact fun y => ea y.symm)]
            · rw [if_neg z, cs_d_copy (s := s) (by omega) hs (Or.inr (by rw [hcc]; exact fun y => ea y.symm)), hb]
        · rw [pk_un (by omega)]
          exact hR r a (by omega) ha
      refine br_f (nI_ge (by omega) (by omega)) (And.intro (vp_in_nI (by omega) (by decide)) ?_)
      rw [e1, e2]
      refine And.intro (vp_in_nI (by omega) (by decide)) ?_
      intro x3 ex3
      refine And.intro (vp_in_nI (by omega) (by decide)) (And.intro (vp_in_nI (by omega) (by decide)) (nm_r (e' := upd st (s * 4 + c) (nI (s + 1))) (cs_upd (by omega) (by rw [nI_1, cs_vbb (by omega)])) ?_))
      by_cases z : s = 0
      · refine br_t (by rw [z]; rfl) (nm_r (nI_1 s) ?_)
        refine hJ 0 _ hrows (fun _ => ?_)
        rw [cs_back_01 (by omega)]
      · have e3 : x3 = nI (cs_d P b c) := by
          rw [ex3, nI_clamp (by omega)]
          exact hR b c (hbl (by omega)) hc
        refine br_f (nI_ne0 (by omega) (by omega)) (nm_r (nI_1 s) ?_)
        rw [e3]
        refine hJ _ _ hrows (fun _ => ?_)
        rw [cs_back_s (by omega) hl, hb, hcc]
  | succ d ih =>
    intro j hj st hR hrow
    refine br_f (nI_ge (b := 4) (by omega) (by decide)) ?_
    have e1 : nI b * 4 + nI j = nI (b * 4 + j) := cs_m4a b j
    have e2 : nI s * 4 + nI j = nI (s * 4 + j) := cs_m4a s j
    rw [e1, e2]
    have step : ∀ v : Int32, v = nI (if s = 0 then 0 else cs_d P b j) → wX_buildMachine_35 post J (nI b) (nI s) fW fT fL (nI P.length) fB fK fE fM fF fP fI (d + 1) (nI (j + 1)) aSh aLa aFi aLe aTa aSy (upd st (s * 4 + j) v) aAf aMe aFe aLE := by
      intro v hv
      refine ih (j + 1) (by omega) _ (cs_rows_put hR (by omega)) ?_
      intro a ha
      by_cases e : a = j
      · rw [e, pk_us, hv]
      · rw [pk_un (by omega)]
        exact hrow a (by omega)
    by_cases z : s = 0
    · refine br_t (by rw [z]; rfl) (And.intro (vp_in_nI (by omega) (by decide)) (nm_r (e' := upd st (s * 4 + j) (nI 0)) (cs_upd (by omega) (cs_vb (n := 0) (by decide))) (nm_r (nI_1 j) ?_)))
      exact step _ (by rw [if_pos z])
    · refine br_f (nI_ne0 (by omega) (by omega)) (And.intro (vp_in_nI (by omega) (by decide)) (And.intro (vp_in_nI (by omega) (by decide)) (nm_r (e' := upd st (s * 4 + j) (nI (cs_d P b j))) (cs_upd (by omega) ?_) (nm_r (nI_1 j) ?_))))
      · have := cs_d_le P b j
        rw [nI_clamp (by omega), hR b j (hbl (by omega)) (by omega), cs_vb (by omega)]
      · exact step _ (by rw [if_neg z])
theorem cs_bm25 {P : List Nat} {fW fT fL fB fK fE fM fF fP fI : Int32} {aSh aLa aFi aLe aTa aSy aAf aMe aFe aLE : Nat → Int32} {post : SX → Prop}
    (h6 : P.length ≤ 6) (h0 : 0 < P.length) (hSy : ∀ i, i < P.length → aSy i = nI (cs_g P i)) (hP : ∀ i, i < P.length → cs_g P i < 4)
    (K : ∀ st : Nat → Int32, cs_Rows P st (P.length + 1) → post (fW, fT, fL, nI P.length, fB, fK, fE, fM, fF, fP, fI, aSh, aLa, aFi, aLe, aTa, aSy, st, aAf, aMe, aFe, aLE)) :
    ∀ d s, s + d = P.length + 1 → ∀ (b : Nat) (st : Nat → Int32), cs_Rows P st s → (s ≤ P.length → b = cs_dl P ((P.take s).drop 1)) → wX_buildMachine_25 post fW fT fL (nI P.length) fB fK fE fM fF fP fI (d + 1) (nI b) (nI s) aSh aLa aFi aLe aTa aSy st aAf aMe aFe aLE := by
  intro d
  induction d with
  | zero =>
    intro s hs b st hR _
    have e : s = P.length + 1 := by omega
    subst e
    exact br_t (nI_lt (by omega) (by omega)) (K st hR)
  | succ d ih =>
    intro s hs b st hR hb
    have e := hb (by omega)
    subst e
    refine br_f (nI_nlt (by omega) (by omega)) ⟨4 + 1, ?_⟩
    exact cs_bm35 h6 h0 (by omega) hSy hP (fun b' st' hR' hb' => ih (s + 1) (by omega) b' st' hR' (fun z => hb' (by omega))) 4 0 rfl st hR (fun a ha => absurd ha (by omega))
theorem cs_bm2 {P : List Nat} {fW fT fL fB fK fE fM fF fP fI : Int32} {aSh aLa aFi aLe aTa aSy aAf aMe aFe aLE : Nat → Int32} {post : SX → Prop}
    (h6 : P.length ≤ 6) (h0 : 0 < P.length) (hSy : ∀ i, i < P.length → aSy i = nI (cs_g P i)) (hP : ∀ i, i < P.length → cs_g P i < 4)
    (K : ∀ st : Nat → Int32, cs_Rows P st (P.length + 1) → post (fW, fT, fL, nI P.length, fB, fK, fE, fM, fF, fP, fI, aSh, aLa, aFi, aLe, aTa, aSy, st, aAf, aMe, aFe, aLE)) :
    ∀ d i, i + d = 28 → ∀ st : Nat → Int32, wX_buildMachine_2 post fW fT fL (nI P.length) fB fK fE fM fF fP fI (d + 1) (nI i) aSh aLa aFi aLe aTa aSy st aAf aMe aFe aLE := by
  intro d
  induction d with
  | zero =>
    intro i hi st
    have e : i = 28 := by omega
    subst e
    refine br_t (nI_le (a := 28) (b := 28) (by omega) (by decide)) ⟨P.length + 1 + 1, ?_⟩
    exact cs_bm25 h6 h0 hSy hP K (P.length + 1) 0 (by omega) 0 st (fun r a hr _ => absurd hr (by omega)) (fun _ => (cs_back_01 (by omega)).symm)
  | succ d ih =>
    intro i hi st
    refine br_f (nI_ge (b := 28) (by omega) (by decide)) (And.intro (vp_in_nI (by omega) (by decide)) ?_)
    intro a ea
    exact nm_r (nI_1 i) (ih (i + 1) (by omega) a)
theorem cs_bm {P : List Nat} {fW fT fL fB fK fE fM fF fP fI : Int32} {aSh aLa aFi aLe aTa aSy aSt aAf aMe aFe aLE : Nat → Int32} {post : SX → Prop}
    (h6 : P.length ≤ 6) (h0 : 0 < P.length) (hSy : ∀ i, i < P.length → aSy i = nI (cs_g P i)) (hP : ∀ i, i < P.length → cs_g P i < 4)
    (K : ∀ st : Nat → Int32, cs_Rows P st (P.length + 1) → post (fW, fT, fL, nI P.length, fB, fK, fE, fM, fF, fP, fI, aSh, aLa, aFi, aLe, aTa, aSy, st, aAf, aMe, aFe, aLE)) :
    wpX_buildMachine post (fW, fT, fL, nI P.length, fB, fK, fE, fM, fF, fP, fI, aSh, aLa, aFi, aLe, aTa, aSy, aSt, aAf, aMe, aFe, aLE) :=
  ⟨28 + 1, cs_bm2 h6 h0 hSy hP K 28 0 rfl aSt⟩
end
section
/-! ===== X: the tables ===== -/
theorem cs_Tb_put {P : List Nat} {W : Nat → List Nat} {af me fe la : Nat → Int32} {w s : Nat} (h6 : P.length ≤ 6) (hs : s ≤ P.length) (h : cs_Tb P W af me fe la w s) :
    cs_Tb P W (upd af (w * 7 + s) (nI (cs_rn P s (W w)))) (upd me (w * 7 + s) (nI (cs_mt P s (W w)))) (upd fe (w * 7 + s) (nI (cs_fe P s (W w)))) (upd la (w * 7 + s) (nI (cs_le P s (W w)))) w (s + 1) := by
  intro w' s' hs' hw
  by_cases e : w' = w ∧ s' = s
  · rw [e.1, e.2]
    exact ⟨pk_us, pk_us, pk_us, pk_us⟩
  · have hne : w' * 7 + s' ≠ w * 7 + s := by omega
    have hc := h w' s' hs' (by omega)
    unfold cs_Cell at hc ⊢
    rw [pk_un hne, pk_un hne, pk_un hne, pk_un hne]
    exact hc
theorem cs_Tb_next {P : List Nat} {W : Nat → List Nat} {af me fe la : Nat → Int32} {w : Nat} (h : cs_Tb P W af me fe la w (P.length + 1)) : cs_Tb P W af me fe la (w + 1) 0 := by
  intro w' s' hs' hw
  exact h w' s' hs' (by omega)
theorem cs_fc129 {i e n f l : Nat} {fW fT fL fS fB fK fE fM fF fP fI : Int32} {aSh aLa aFi aLe aTa aSy aSt aAf aMe aFe aLE : Nat → Int32} {post : SX → Prop} (hi : i < 420) (he : e < 128) (hn : n < 32768) (hf : f < 32768) (hl : l < 32768)
    (K : post (fW, fT, fL, fS, fB, fK, fE, fM, fF, fP, fI, aSh, aLa, aFi, aLe, aTa, aSy, aSt, upd aAf i (nI e), upd aMe i (nI n), upd aFe i (nI f), upd aLE i (nI l))) : wX_fillCell_129 post (nI i) (nI n) (nI f) (nI l) (nI e) fW fT fL fS fB fK fE fM fF fP fI aSh aLa aFi aLe aTa aSy aSt aAf aMe aFe aLE :=
  And.intro (vp_in_nI hi (by decide)) (nm_r (cs_upd (by omega) (cs_vbb he)) (And.intro (vp_in_nI hi (by decide)) (nm_r (cs_upd (by omega) (cs_vss hn)) (And.intro (vp_in_nI hi (by decide)) (nm_r (cs_upd (by omega) (cs_vss hf)) (And.intro (vp_in_nI hi (by decide)) (nm_r (cs_upd (by omega) (cs_vss hl)) K)))))))
theorem cs_fc77 {P x : List Nat} {W : Nat → List Nat} {w s c t n f l : Nat} {fW fT fL fB fK fE fM fF fP fI : Int32} {aSh aLa aFi aLe aTa aSy aSt aAf aMe aFe aLE : Nat → Int32} {post : SX → Prop}
    (h6 : P.length ≤ 6) (hs : s ≤ P.length) (hw : w < 60) (hW : W w = x ++ [c]) (hc : c < 4) (hla : aLa w = nI c) (hle : aLe w = nI (W w).length) (hwl : (W w).length ≤ 250) (hR : cs_Rows P aSt (P.length + 1))
    (ht : t = cs_rn P s x) (hn : n = cs_mt P s x) (hf : f = cs_fe P s x) (hl : l = cs_le P s x)
    (K : post (fW, fT, fL, nI P.length, fB, fK, fE, fM, fF, fP, fI, aSh, aLa, aFi, aLe, aTa, aSy, aSt, upd aAf (w * 7 + s) (nI (cs_rn P s (W w))), upd aMe (w * 7 + s) (nI (cs_mt P s (W w))), upd aFe (w * 7 + s) (nI (cs_fe P s (W w))), upd aLE (w * 7 + s) (nI (cs_le P s (W w))))) :
    wX_fillCell_77 post (nI w) (nI (w * 7 + s)) (nI t) (nI n) (nI f) (nI l) fW fT fL (nI P.length) fB fK fE fM fF fP fI aSh aLa aFi aLe aTa aSy aSt aAf aMe aFe aLE := by
  have htm : t ≤ P.length := by rw [ht]; exact cs_rn_le P x s hs
  have hxl : (W w).length = x.length + 1 := by rw [hW, List.length_append]; rfl
  have hnb : n ≤ x.length := by rw [hn]; exact cs_mt_b P x s
  have hfb : f ≤ x.length := by rw [hf]; exact cs_fe_b P x s
  have hlb : l ≤ x.length := by rw [hl]; exact cs_le_b P x s
  have hd := cs_d_le P t c
  have e1 : nI t * 4 + aLa (nI w).toNatClampNeg = nI (t * 4 + c) := by rw [cs_rd hla (by omega), cs_m4a]
  have er : cs_rn P s (W w) = cs_d P t c := by rw [hW, cs_rn_snoc, ht]
  have hR2 : aSt (nI (t * 4 + c)).toNatClampNeg = nI (cs_d P t c) := cs_rd (hR t c (by omega) hc) (by omega)
  refine And.intro (vp_in_nI hw (by decide)) ?_
  rw [e1]
  refine And.intro (vp_in_nI (by omega) (by decide)) (nm_r hR2 ?_)
  by_cases hm : cs_d P t c = P.length
  · have hm' : cs_d P (cs_rn P s x) c = P.length := by rw [← ht]; exact hm
    have em : cs_mt P s (W w) = n + 1 := by rw [hW, cs_mt_hit hm', hn]
    have el : cs_le P s (W w) = (W w).length := by rw [hxl, hW, cs_le_hit hm']
    have ef : cs_fe P s (W w) = if f = 0 then (W w).length else f := by rw [hxl, hW, cs_fe_hit hm', hf]
    rw [er, em, el, ef] at K
    refine br_t (by rw [hm]) (nm_r (nI_1 n) (And.intro (vp_in_nI hw (by decide)) (nm_r (cs_rd hle (by omega)) ?_)))
    by_cases hf0 : f = 0
    · rw [if_pos hf0] at K
      refine br_t (by rw [hf0]; rfl) ?_
      exact cs_fc129 (by omega) (by omega) (by omega) (by omega) (by omega) K
    · rw [if_neg hf0] at K
      refine br_f (nI_ne0 (by omega) (by omega)) ?_
      exact cs_fc129 (by omega) (by omega) (by omega) (by omega) (by omega) K
  · have hm' : cs_d P (cs_rn P s x) c ≠ P.length := by rw [← ht]; exact hm
    have em : cs_mt P s (W w) = n := by rw [hW, cs_mt_miss hm', hn]
    have el : cs_le P s (W w) = l := by rw [hW, cs_le_miss hm', hl]
    have ef : cs_fe P s (W w) = f := by rw [hW, cs_fe_miss hm', hf]
    rw [er, em, el, ef] at K
    refine br_f (fun z => hm ((nI_eq (by omega) (by omega)).mp z)) ?_
    exact cs_fc129 (by omega) (by omega) (by omega) (by omega) (by omega) K
theorem cs_fill {P : List Nat} {W : Nat → List Nat} {wc w s : Nat} {fW fT fL fB fK fE fM fF fP fI : Int32} {aSh aLa aFi aLe aTa aSy aSt aAf aMe aFe aLE : Nat → Int32} {post : SX → Prop}
    (h6 : P.length ≤ 6) (hs : s ≤ P.length) (hwc : wc ≤ 60) (hw : w < wc) (hwl : (W w).length ≤ 250) (hD : cs_DX W wc aSh aLa aFi aLe) (hR : cs_Rows P aSt (P.length + 1)) (hT : cs_Tb P W aAf aMe aFe aLE w s)
    (K : ∀ af me fe la : Nat → Int32, cs_Tb P W af me fe la w (s + 1) → post (fW, fT, fL, nI P.length, fB, fK, fE, fM, fF, fP, fI, aSh, aLa, aFi, aLe, aTa, aSy, aSt, af, me, fe, la)) :
    wpX_fillCell post (fW, fT, fL, nI P.length, fB, fK, fE, fM, fF, fP, fI, aSh, aLa, aFi, aLe, aTa, aSy, aSt, aAf, aMe, aFe, aLE) (nI w) (nI s) := by
  have K2 := K _ _ _ _ (cs_Tb_put h6 hs hT)
  obtain ⟨hle, _, x, c, hW, hc, hla, hsh⟩ := hD w hw
  unfold wpX_fillCell
  refine nm_r (cs_m7a w s) (And.intro (vp_in_nI (by omega) (by decide)) ?_)
  rcases hsh with ⟨hx, hsh⟩ | ⟨q, hq, hsh, hWq⟩
  · refine br_t (by rw [cs_rd hsh (by omega)]; decide) ?_
    exact cs_fc77 (x := x) (c := c) (t := s) (n := 0) (f := 0) (l := 0) h6 hs (by omega) hW hc hla hle hwl hR (by rw [hx]; rfl) (by rw [hx]; rfl) (by rw [hx]; rfl) (by rw [hx]; rfl) K2
  · obtain ⟨c1, c2, c3, c4⟩ := hT q s hs (Or.inl hq)
    refine br_f (by rw [cs_rd hsh (by omega)]; exact nI_pos (by omega)) (And.intro (vp_in_nI (by omega) (by decide)) (nm_r (e' := nI (q * 7 + s)) (by rw [cs_rd hsh (by omega), cs_m7a]) ?_))
    refine And.intro (vp_in_nI (by omega) (by decide)) (nm_r (cs_rd c1 (by omega)) (And.intro (vp_in_nI (by omega) (by decide)) (nm_r (cs_rd c2 (by omega)) (And.intro (vp_in_nI (by omega) (by decide)) (nm_r (cs_rd c3 (by omega)) (And.intro (vp_in_nI (by omega) (by decide)) (nm_r (cs_rd c4 (by omega)) ?_)))))))
    exact cs_fc77 (x := x) (c := c) h6 hs (by omega) hW hc hla hle hwl hR (by rw [hWq]) (by rw [hWq]) (by rw [hWq]) (by rw [hWq]) K2
theorem cs_ft26 {P : List Nat} {W : Nat → List Nat} {wc w : Nat} {fT fL fB fK fE fM fF fP fI : Int32} {aSh aLa aFi aLe aTa aSy aSt : Nat → Int32} {post : SX → Prop} {J : Int32 → Int32 → Int32 → Int32 → Int32 → Int32 → Int32 → Int32 → Int32 → Int32 → Int32 → Int32 → (Nat → Int32) → (Nat → Int32) → (Nat → Int32) → (Nat → Int32) → (Nat → Int32) → (Nat → Int32) → (Nat → Int32) → (Nat → Int32) → (Nat → Int32) → (Nat → Int32) → (Nat → Int32) → Prop}
    (h6 : P.length ≤ 6) (hwc : wc ≤ 60) (hw : w < wc) (hwl : (W w).length ≤ 250) (hD : cs_DX W wc aSh aLa aFi aLe) (hR : cs_Rows P aSt (P.length + 1))
    (hJ : ∀ aAf aMe aFe aLE : Nat → Int32, cs_Tb P W aAf aMe aFe aLE (w + 1) 0 → J (nI (w + 1)) (nI wc) fT fL (nI P.length) fB fK fE fM fF fP fI aSh aLa aFi aLe aTa aSy aSt aAf aMe aFe aLE) :
    ∀ d s, s + d = P.length + 1 → ∀ aAf aMe aFe aLE : Nat → Int32, cs_Tb P W aAf aMe aFe aLE w s → wX_fillTables_26 post J (nI w) (d + 1) (nI s) (nI wc) fT fL (nI P.length) fB fK fE fM fF fP fI aSh aLa aFi aLe aTa aSy aSt aAf aMe aFe aLE := by
  intro d
  induction d with
  | zero =>
    intro s hs aAf aMe aFe aLE hT
    have e : s = P.length + 1 := by omega
    subst e
    exact br_t (nI_lt (by omega) (by omega)) (nm_r (nI_1 w) (hJ _ _ _ _ (cs_Tb_next hT)))
  | succ d ih =>
    intro s hs aAf aMe aFe aLE hT
    refine br_f (nI_nlt (by omega) (by omega)) ?_
    refine cs_fill h6 (by omega) hwc hw hwl hD hR hT ?_
    intro af me fe la hT2
    exact nm_r (nI_1 s) (ih (s + 1) (by omega) af me fe la hT2)
theorem cs_ft16 {P : List Nat} {W : Nat → List Nat} {wc : Nat} {fT fL fB fK fE fM fF fP fI : Int32} {aSh aLa aFi aLe aTa aSy aSt : Nat → Int32} {post : SX → Prop}
    (h6 : P.length ≤ 6) (hwc : wc ≤ 60) (hwl : ∀ w, w < wc → (W w).length ≤ 250) (hD : cs_DX W wc aSh aLa aFi aLe) (hR : cs_Rows P aSt (P.length + 1))
    (K : ∀ aAf aMe aFe aLE : Nat → Int32, cs_Tb P W aAf aMe aFe aLE wc 0 → post (nI wc, fT, fL, nI P.length, nI wc, fK, fE, fM, fF, fP, fI, aSh, aLa, aFi, aLe, aTa, aSy, aSt, aAf, aMe, aFe, aLE)) :
    ∀ d w, w + d = wc → ∀ aAf aMe aFe aLE : Nat → Int32, cs_Tb P W aAf aMe aFe aLE w 0 → wX_fillTables_16 post (d + 1) (nI w) (nI wc) fT fL (nI P.length) fB fK fE fM fF fP fI aSh aLa aFi aLe aTa aSy aSt aAf aMe aFe aLE := by
  intro d
  induction d with
  | zero =>
    intro w hw aAf aMe aFe aLE hT
    have e : w = wc := by omega
    subst e
    exact br_t (nI_le (Nat.le_refl _) (by omega)) (K _ _ _ _ hT)
  | succ d ih =>
    intro w hw aAf aMe aFe aLE hT
    refine br_f (nI_ge (by omega) (by omega)) ⟨P.length + 1 + 1, ?_⟩
    exact cs_ft26 h6 hwc (by omega) (hwl w (by omega)) hD hR (fun af me fe la h => ih (w + 1) (by omega) af me fe la h) (P.length + 1) 0 (by omega) _ _ _ _ hT
theorem cs_ft {P : List Nat} {W : Nat → List Nat} {wc : Nat} {fT fL fB fK fE fM fF fP fI : Int32} {aSh aLa aFi aLe aTa aSy aSt aAf aMe aFe aLE : Nat → Int32} {post : SX → Prop}
    (h6 : P.length ≤ 6) (h0 : 0 < P.length) (hwc : wc ≤ 60) (hwl : ∀ w, w < wc → (W w).length ≤ 250) (hD : cs_DX W wc aSh aLa aFi aLe) (hSy : ∀ i, i < P.length → aSy i = nI (cs_g P i)) (hP : ∀ i, i < P.length → cs_g P i < 4)
    (hB : cs_TbOk W P wc fB aSt aAf aMe aFe aLE)
    (K : ∀ aSt aAf aMe aFe aLE : Nat → Int32, cs_Rows P aSt (P.length + 1) → cs_Tb P W aAf aMe aFe aLE wc 0 → post (nI wc, fT, fL, nI P.length, nI wc, fK, fE, fM, fF, fP, fI, aSh, aLa, aFi, aLe, aTa, aSy, aSt, aAf, aMe, aFe, aLE)) :
    wpX_fillTables post (nI wc, fT, fL, nI P.length, fB, fK, fE, fM, fF, fP, fI, aSh, aLa, aFi, aLe, aTa, aSy, aSt, aAf, aMe, aFe, aLE) := by
  obtain ⟨tb, rfl, htb, hok⟩ := hB
  unfold wpX_fillTables
  by_cases z : tb = 0
  · subst z
    refine br_t rfl ?_
    refine cs_bm h6 h0 hSy hP ?_
    intro st hR
    exact ⟨wc + 1, cs_ft16 h6 hwc hwl hD hR (fun af me fe la h => K st af me fe la hR h) wc 0 (by omega) _ _ _ _ (fun w' s' _ hw => absurd hw (by omega))⟩
  · obtain ⟨_, hR, hT⟩ := hok z
    refine br_f (nI_ne0 (by omega) (by omega)) ?_
    exact ⟨wc - tb + 1, cs_ft16 h6 hwc hwl hD hR (fun af me fe la h => K aSt af me fe la hR h) (wc - tb) tb (by omega) _ _ _ _ hT⟩
end
section
/-! ===== X: running over the codes ===== -/
theorem cs_pl_pos {P : List Nat} {e : Nat} (h : e ≠ 0) (hb : e < 1000) : (0 : Int32) ≤ cs_pl P e := by
  unfold cs_pl
  rw [if_neg h]
  exact nI_pos' (by omega)
theorem cs_pl_neg {P : List Nat} : ¬ (0 : Int32) ≤ cs_pl P 0 := by
  unfold cs_pl
  rw [if_pos rfl]
  decide
theorem cs_pass {P x y : List Nat} {i t : Nat} {fW fT fL fB fK fE fI : Int32} {aSh aLa aFi aLe aTa aSy aSt aAf aMe aFe aLE : Nat → Int32} {post : SX → Prop}
    (h6 : P.length ≤ 6) (hi : i < 420) (hyx : (y ++ x).length ≤ 250) (ht : t = cs_rn P 0 y)
    (c1 : aAf i = nI (cs_rn P t x)) (c2 : aMe i = nI (cs_mt P t x)) (c3 : aFe i = nI (cs_fe P t x)) (c4 : aLE i = nI (cs_le P t x))
    (K : post (fW, fT, fL, nI P.length, fB, fK, nI (cs_rn P 0 (y ++ x)), nI (cs_mt P 0 (y ++ x)), cs_pl P (cs_fe P 0 (y ++ x)), cs_pl P (cs_le P 0 (y ++ x)), fI, aSh, aLa, aFi, aLe, aTa, aSy, aSt, aAf, aMe, aFe, aLE)) :
    wpX_pass post (fW, fT, fL, nI P.length, fB, fK, fE, nI (cs_mt P 0 y), cs_pl P (cs_fe P 0 y), cs_pl P (cs_le P 0 y), fI, aSh, aLa, aFi, aLe, aTa, aSy, aSt, aAf, aMe, aFe, aLE) (nI i) (nI y.length) := by
  have hyl : y.length + x.length ≤ 250 := by rw [List.length_append] at hyx; exact hyx
  have hmb := cs_mt_b P x t
  have hfb := cs_fe_b P x t
  have hlb := cs_le_b P x t
  have hyb := cs_fe_b P y 0
  have er : cs_rn P 0 (y ++ x) = cs_rn P t x := by rw [cs_rn_app, ht]
  have em : cs_mt P 0 (y ++ x) = cs_mt P 0 y + cs_mt P t x := by rw [cs_mt_app, ht]
  have ef : cs_fe P 0 (y ++ x) = if cs_fe P 0 y = 0 then (if cs_fe P t x = 0 then 0 else y.length + cs_fe P t x) else cs_fe P 0 y := by rw [cs_fe_app, ht]
  have el : cs_le P 0 (y ++ x) = if cs_le P t x = 0 then cs_le P 0 y else y.length + cs_le P t x := by rw [cs_le_app, ht]
  unfold wpX_pass
  refine And.intro (vp_in_nI hi (by decide)) ?_
  rw [nI_clamp (by omega)]
  by_cases hm : cs_mt P t x = 0
  · have hf := (cs_mt_fe P x t).mp hm
    have hl := (cs_mt_le P x t).mp hm
    rw [er, em, ef, el, hm, Nat.add_zero, if_pos hl, if_pos hf] at K
    have ef2 : (if cs_fe P 0 y = 0 then 0 else cs_fe P 0 y) = cs_fe P 0 y := by split <;> omega
    rw [ef2] at K
    refine br_t (by rw [c2, hm]; exact Int32.le_refl _) (And.intro (vp_in_nI hi (by decide)) (nm_r c1 ?_))
    exact K
  · have hf : cs_fe P t x ≠ 0 := fun z => hm ((cs_mt_fe P x t).mpr z)
    have hl : cs_le P t x ≠ 0 := fun z => hm ((cs_mt_le P x t).mpr z)
    have hlge : P.length ≤ y.length + cs_le P t x := by
      have h1 : cs_le P 0 (y ++ x) ≠ 0 := by rw [el, if_neg hl]; omega
      have h2 := cs_end_ge (cs_le_spec P (y ++ x) 0 h1).2
      rw [el, if_neg hl] at h2
      exact h2
    rw [er, em, ef, el, if_neg hl, if_neg hf] at K
    refine br_f (by rw [c2]; exact nI_nle (by omega) (by omega)) (And.intro (vp_in_nI hi (by decide)) (nm_r (e' := nI (cs_mt P 0 y + cs_mt P t x)) (by rw [c2, nI_add]) (And.intro (vp_in_nI hi (by decide)) (nm_r (e' := cs_pl P (y.length + cs_le P t x)) ?_ ?_))))
    · rw [c4, nI_add, pk_sub hlge]
      unfold cs_pl
      rw [if_neg (by omega)]
    · by_cases hy : cs_fe P 0 y = 0
      · rw [if_pos hy] at K
        have hfge : P.length ≤ y.length + cs_fe P t x := by
          have h1 : cs_fe P 0 (y ++ x) ≠ 0 := by rw [ef, if_pos hy, if_neg hf]; omega
          have h2 := cs_end_ge (cs_fe_spec P (y ++ x) 0 h1).2
          rw [ef, if_pos hy, if_neg hf] at h2
          exact h2
        refine br_f (by rw [hy]; exact cs_pl_neg) (And.intro (vp_in_nI hi (by decide)) ?_)
        have e5 : (nI y.length + aFe i) - nI P.length = cs_pl P (y.length + cs_fe P t x) := by
          rw [c3, nI_add, pk_sub hfge]
          unfold cs_pl
          rw [if_neg (by omega)]
        rw [e5]
        exact And.intro (vp_in_nI hi (by decide)) (nm_r (cs_rd c1 (by omega)) K)
      · rw [if_neg hy] at K
        refine br_t (cs_pl_pos hy (by omega)) ?_
        exact And.intro (vp_in_nI hi (by decide)) (nm_r (cs_rd c1 (by omega)) K)
theorem cs_sc54 {P T : List Nat} {W : Nat → List Nat} {wc : Nat} {fB fK : Int32} {aSh aLa aFi aLe aTa aSy aSt aAf aMe aFe aLE : Nat → Int32} {post : SX → Prop}
    (hF : cs_WF W T P wc) (h0 : 0 < P.length) (hD : cs_DX W wc aSh aLa aFi aLe) (hTa : ∀ i, i < T.length → aTa i = nI (cs_g T i)) (hT : cs_Tb P W aAf aMe aFe aLE wc 0)
    (K : post (nI wc, nI T.length, nI (cs_cat W T).length, nI P.length, fB, fK, nI (cs_rn P 0 (cs_cat W T)), nI (cs_mt P 0 (cs_cat W T)), cs_pl P (cs_fe P 0 (cs_cat W T)), cs_pl P (cs_le P 0 (cs_cat W T)), nI (cs_in P W T), aSh, aLa, aFi, aLe, aTa, aSy, aSt, aAf, aMe, aFe, aLE)) :
    ∀ d i, i + d = T.length → wX_scan_54 post (d + 1) (nI (cs_off W T i)) (nI i) (nI wc) (nI T.length) (nI (cs_cat W T).length) (nI P.length) fB fK (nI (cs_rn P 0 (cs_cat W (T.take i)))) (nI (cs_mt P 0 (cs_cat W (T.take i)))) (cs_pl P (cs_fe P 0 (cs_cat W (T.take i)))) (cs_pl P (cs_le P 0 (cs_cat W (T.take i)))) (nI (cs_in P W (T.take i))) aSh aLa aFi aLe aTa aSy aSt aAf aMe aFe aLE := by
  obtain ⟨⟨hw4, hw60⟩, hWl, hW4, hTw, htx, h6, hP4⟩ := hF
  have hTl : T.length ≤ 250 := Nat.le_trans (cs_cat_len T (fun i hi => (hWl _ (hTw i hi)).1)) htx
  intro d
  induction d with
  | zero =>
    intro i hi
    have e : i = T.length := by omega
    subst e
    rw [List.take_length]
    exact br_t (nI_le (Nat.le_refl _) (by omega)) K
  | succ d ih =>
    intro i hi
    have hit : i < T.length := by omega
    have hw := hTw i hit
    have ih2 := ih (i + 1) (by omega)
    have hoff := cs_off_s (W := W) hit
    have hoff2 := cs_off_le W T (i + 1)
    have hin := cs_in_b P W (T.take i)
    have hTa2 := hTa i hit
    have hcat := cs_cat_take (W := W) hit
    have hin2 := cs_in_take (p := P) (W := W) hit
    have hle : aLe (cs_g T i) = nI (W (cs_g T i)).length := (hD _ hw).1
    rw [hoff, hcat, hin2] at ih2
    generalize hgw : cs_g T i = w at hw hTa2 hle ih2 hoff
    generalize hy : cs_cat W (T.take i) = y at ih2
    have hyo : cs_off W T i = y.length := by unfold cs_off; rw [hy]
    have hrl := cs_rn_le P y 0 (Nat.zero_le _)
    obtain ⟨c1, c2, c3, c4⟩ := hT w (cs_rn P 0 y) hrl (Or.inl hw)
    have d2 : aMe (w * 7) = nI (cs_bt P (W w)) := by
      have h := (hT w 0 (Nat.zero_le _) (Or.inl hw)).2.1
      unfold cs_bt
      rw [if_neg (by omega)]
      exact h
    refine br_f (nI_ge (by omega) (by omega)) (And.intro (vp_in_nI (by omega) (by decide)) (nm_r (cs_rd hTa2 (by omega)) ?_))
    rw [cs_m7a, hyo]
    refine cs_pass (x := W w) (t := cs_rn P 0 y) h6 (by omega) (by rw [List.length_append]; omega) rfl c1 c2 c3 c4 ?_
    dsimp only
    rw [cs_m7]
    refine And.intro (vp_in_nI (by omega) (by decide)) (nm_r (e' := nI (cs_in P W (T.take i) + cs_bt P (W w))) (by rw [cs_rd d2 (by omega), nI_add]) (And.intro (vp_in_nI (by omega) (by decide)) (nm_r (e' := nI (cs_off W T i + (W w).length)) (by rw [cs_rd hle (by omega), nI_add, hyo]) (nm_r (nI_1 i) ?_))))
    exact ih2
theorem cs_xscan {P T : List Nat} {W : Nat → List Nat} {wc : Nat} {fB fK fE fM fF fP fI : Int32} {aSh aLa aFi aLe aTa aSy aSt aAf aMe aFe aLE : Nat → Int32} {post : SX → Prop}
    (hF : cs_WF W T P wc) (hX : cs_X W T P wc fB fK fE fM fF fP fI aSh aLa aFi aLe aTa aSy aSt aAf aMe aFe aLE)
    (K : ∀ (fB fE fM fF fP fI : Int32) (aSt aAf aMe aFe aLE : Nat → Int32), cs_X W T P wc fB 1 fE fM fF fP fI aSh aLa aFi aLe aTa aSy aSt aAf aMe aFe aLE → cs_Kn W T P fE fM fF fP fI → post (nI wc, nI T.length, nI (cs_cat W T).length, nI P.length, fB, 1, fE, fM, fF, fP, fI, aSh, aLa, aFi, aLe, aTa, aSy, aSt, aAf, aMe, aFe, aLE)) :
    wpX_scan post (nI wc, nI T.length, nI (cs_cat W T).length, nI P.length, fB, fK, fE, fM, fF, fP, fI, aSh, aLa, aFi, aLe, aTa, aSy, aSt, aAf, aMe, aFe, aLE) := by
  obtain ⟨hD, hTa, hSy, hB, hK⟩ := hX
  unfold wpX_scan
  rcases hK with hK | ⟨hK, hKn⟩
  · refine br_t hK ?_
    by_cases h0 : P.length = 0
    · refine br_t (by rw [h0]; rfl) ?_
      have hKn : cs_Kn W T P 0 0 (-1) (-1) 0 := Or.inl ⟨h0, rfl, rfl, rfl, rfl, rfl⟩
      exact K _ _ _ _ _ _ _ _ _ _ _ ⟨hD, hTa, hSy, hB, Or.inr ⟨rfl, hKn⟩⟩ hKn
    · have hF2 := hF
      obtain ⟨⟨hw4, hw60⟩, hWl, hW4, hTw, htx, h6, hP4⟩ := hF2
      refine br_f (nI_ne0 (by omega) (by omega)) ?_
      refine cs_ft h6 (by omega) hw60 (fun w hw => (hWl w hw).2.1) hD hSy hP4 hB ?_
      intro st af me fe la hR hT
      have hKn : cs_Kn W T P (nI (cs_rn P 0 (cs_cat W T))) (nI (cs_mt P 0 (cs_cat W T))) (cs_pl P (cs_fe P 0 (cs_cat W T))) (cs_pl P (cs_le P 0 (cs_cat W T))) (nI (cs_in P W T)) := Or.inr ⟨by omega, rfl, rfl, rfl, rfl, rfl⟩
      have K2 := K _ _ _ _ _ _ _ _ _ _ _ ⟨hD, hTa, hSy, ⟨wc, rfl, Nat.le_refl _, fun _ => ⟨hw4, hR, hT⟩⟩, Or.inr ⟨rfl, hKn⟩⟩ hKn
      exact ⟨T.length + 1, cs_sc54 hF (by omega) hD hTa hT K2 T.length 0 (by omega)⟩
  · refine br_f (by rw [hK]; decide) ?_
    subst hK
    exact K _ _ _ _ _ _ _ _ _ _ _ ⟨hD, hTa, hSy, hB, Or.inr ⟨rfl, hKn⟩⟩ hKn
/-! ===== X: reading symbols ===== -/
theorem cs_si12 {W : Nat → List Nat} {wc k : Nat} {fW fT fL fS fB fK fE fM fF fP fI : Int32} {aSh aLa aFi aLe aTa aSy aSt aAf aMe aFe aLE : Nat → Int32} {post : Int32 → Prop} (hwc : wc ≤ 60) (hk : k < 250) (hD : cs_DX W wc aSh aLa aFi aLe) :
    ∀ d q, q < wc → (W q).length = k + 1 + d → d < 250 → post (nI (cs_g (W q) k)) → wX_symbolIn_12 post (nI k) fW fT fL fS fB fK fE fM fF fP fI aSh aLa aFi aLe aTa aSy aSt aAf aMe aFe aLE (d + 1) (nI q) (nI (k + d)) := by
  intro d
  induction d with
  | zero =>
    intro q hq hl _ hp
    obtain ⟨_, _, x, c, e, hc, hla, _⟩ := hD q hq
    have hx : x.length = k := by
      rw [e, List.length_append] at hl
      have : [c].length = 1 := rfl
      omega
    have e2 : cs_g (W q) k = c := by
      rw [e]
      have := cs_g_app_r (l := x) (r := [c]) (i := 0)
      rw [Nat.add_zero, hx] at this
      rw [this]
      rfl
    refine br_t (nI_le (by omega) (by omega)) (And.intro (vp_in_nI (by omega) (by decide)) ?_)
    rw [nI_clamp (by omega), hla, ← e2]
    exact hp
  | succ d ih =>
    intro q hq hl hd hp
    obtain ⟨_, _, x, c, e, hc, _, hs⟩ := hD q hq
    have hx : x.length = k + 1 + d := by
      rw [e, List.length_append] at hl
      have : [c].length = 1 := rfl
      omega
    rcases hs with ⟨hx0, _⟩ | ⟨q', hq', hsh, hWq⟩
    · rw [hx0] at hx
      exact absurd hx (by show ¬ 0 = k + 1 + d; omega)
    · refine br_f (nI_ge (by omega) (by omega)) (And.intro (vp_in_nI (by omega) (by decide)) (nm_r (cs_rd hsh (by omega)) (nm_r (pk_m1 (k + d)) ?_)))
      refine ih q' (by omega) (by rw [hWq]; exact hx) (by omega) ?_
      rw [hWq]
      rw [e, cs_g_app_l (by omega)] at hp
      exact hp
theorem cs_si {W : Nat → List Nat} {wc w k : Nat} {fW fT fL fS fB fK fE fM fF fP fI : Int32} {aSh aLa aFi aLe aTa aSy aSt aAf aMe aFe aLE : Nat → Int32} {post : Int32 → Prop} (hwc : wc ≤ 60) (hD : cs_DX W wc aSh aLa aFi aLe) (hw : w < wc) (hl : (W w).length ≤ 250) (hk : k < (W w).length)
    (K : post (nI (cs_g (W w) k))) : wpX_symbolIn post (fW, fT, fL, fS, fB, fK, fE, fM, fF, fP, fI, aSh, aLa, aFi, aLe, aTa, aSy, aSt, aAf, aMe, aFe, aLE) (nI w) (nI k) := by
  obtain ⟨d, hd⟩ : ∃ d, (W w).length = k + 1 + d := ⟨(W w).length - (k + 1), by omega⟩
  unfold wpX_symbolIn
  refine And.intro (vp_in_nI (by omega) (by decide)) (nm_r (e' := nI (k + d)) ?_ ⟨d + 1, cs_si12 hwc (by omega) hD d w hw hd (by omega) K⟩)
  rw [cs_rd (hD w hw).1 (by omega), hd, show k + 1 + d = k + d + 1 by omega, nI_pred]
theorem cs_sy18 {P T : List Nat} {W : Nat → List Nat} {wc k : Nat} {fB fK fE fM fF fP fI : Int32} {aSh aLa aFi aLe aTa aSy aSt aAf aMe aFe aLE : Nat → Int32} {post : Int32 → Prop}
    (hF : cs_WF W T P wc) (hD : cs_DX W wc aSh aLa aFi aLe) (hTa : ∀ i, i < T.length → aTa i = nI (cs_g T i)) (hk : k < (cs_cat W T).length)
    (K : post (nI (cs_g (cs_cat W T) k))) :
    ∀ d i r, i + d + 1 = T.length → cs_off W T i + r = k → wX_symbol_18 post (nI wc) (nI T.length) (nI (cs_cat W T).length) (nI P.length) fB fK fE fM fF fP fI aSh aLa aFi aLe aTa aSy aSt aAf aMe aFe aLE (d + 1) (nI r) (nI i) := by
  obtain ⟨⟨hw4, hw60⟩, hWl, hW4, hTw, htx, h6, hP4⟩ := hF
  have hTl : T.length ≤ 250 := Nat.le_trans (cs_cat_len T (fun i hi => (hWl _ (hTw i hi)).1)) htx
  have fin : ∀ i r, i < T.length → cs_off W T i + r = k → r < (W (cs_g T i)).length → wX_symbol_63 post (nI r) (nI i) (nI wc) (nI T.length) (nI (cs_cat W T).length) (nI P.length) fB fK fE fM fF fP fI aSh aLa aFi aLe aTa aSy aSt aAf aMe aFe aLE := by
    intro i r hi hr hlt
    have hw := hTw i hi
    have e := cs_g_cat (W := W) hi hlt
    rw [hr] at e
    rw [e] at K
    refine And.intro (vp_in_nI (by omega) (by decide)) ?_
    rw [cs_rd (hTa i hi) (by omega)]
    exact cs_si hw60 hD hw (hWl _ hw).2.1 hlt K
  have et : nI T.length - 1 = nI (T.length - 1) ∨ T.length = 0 := by
    by_cases z : T.length = 0
    · exact Or.inr z
    · exact Or.inl (pk_sub (a := T.length) (b := 1) (by omega))
  intro d
  induction d with
  | zero =>
    intro i r hi hr
    have hit : i < T.length := by omega
    have hoff := cs_off_s (W := W) hit
    have hall := cs_off_all W T
    rw [show T.length = i + 1 by omega, hoff] at hall
    rcases et with et | et
    · refine br_t (by rw [et]; exact nI_le (by omega) (by omega)) (fin i r hit hr ?_)
      omega
    · omega
  | succ d ih =>
    intro i r hi hr
    have hit : i < T.length := by omega
    have hw := hTw i hit
    have hl := (hWl _ hw).2.1
    have hoff := cs_off_s (W := W) hit
    have e1 : aTa (nI i).toNatClampNeg = nI (cs_g T i) := cs_rd (hTa i hit) (by omega)
    have e2 : aLe (nI (cs_g T i)).toNatClampNeg = nI (W (cs_g T i)).length := cs_rd (hD _ hw).1 (by omega)
    rcases et with et | et
    · refine br_f (by rw [et]; exact nI_ge (by omega) (by omega)) (And.intro (vp_in_nI (by omega) (by decide)) ?_)
      rw [e1, e2]
      refine And.intro (vp_in_nI (by omega) (by decide)) ?_
      by_cases hlt : r < (W (cs_g T i)).length
      · exact br_t (nI_lt hlt (by omega)) (fin i r hit hr hlt)
      · refine br_f (nI_nlt (by omega) (by omega)) (And.intro (vp_in_nI (by omega) (by decide)) (And.intro (vp_in_nI (by omega) (by decide)) (nm_r (pk_sub (by omega)) (nm_r (nI_1 i) ?_))))
        exact ih (i + 1) _ (by omega) (by omega)
    · omega
/-! ===== X: matches that end in a code's word ===== -/
theorem cs_en29 {P T : List Nat} {W : Nat → List Nat} {wc k : Nat} {fB fK fE fM fF fP fI : Int32} {aSh aLa aFi aLe aTa aSy aSt aAf aMe aFe aLE : Nat → Int32} {post : Int32 → SX → Prop}
    (hF : cs_WF W T P wc) (hTa : ∀ i, i < T.length → aTa i = nI (cs_g T i)) (hT : cs_Tb P W aAf aMe aFe aLE wc 0) (hk : k < T.length)
    (K : post (nI (cs_mt P (cs_rn P 0 (cs_cat W (T.take k))) (W (cs_g T k)))) (nI wc, nI T.length, nI (cs_cat W T).length, nI P.length, fB, fK, fE, fM, fF, fP, fI, aSh, aLa, aFi, aLe, aTa, aSy, aSt, aAf, aMe, aFe, aLE)) :
    ∀ d i, i + d = k → wX_endingIn_29 post (nI k) (nI wc) (nI T.length) (nI (cs_cat W T).length) (nI P.length) fB fK fE fM fF fP fI aSh aLa aFi aLe aTa aSy aSt aAf aMe aFe aLE (d + 1) (nI (cs_rn P 0 (cs_cat W (T.take i)))) (nI i) := by
  obtain ⟨⟨hw4, hw60⟩, hWl, hW4, hTw, htx, h6, hP4⟩ := hF
  have hTl : T.length ≤ 250 := Nat.le_trans (cs_cat_len T (fun i hi => (hWl _ (hTw i hi)).1)) htx
  intro d
  induction d with
  | zero =>
    intro i hi
    have e : i = k := by omega
    subst e
    have hw := hTw i hk
    have hrl := cs_rn_le P (cs_cat W (T.take i)) 0 (Nat.zero_le _)
    have e1 : aTa (nI i).toNatClampNeg * 7 + nI (cs_rn P 0 (cs_cat W (T.take i))) = nI (cs_g T i * 7 + cs_rn P 0 (cs_cat W (T.take i))) := by
      rw [cs_rd (hTa i hk) (by omega), cs_m7a]
    have c2 := (hT _ _ hrl (Or.inl hw)).2.1
    refine br_t (nI_le (Nat.le_refl _) (by omega)) (And.intro (vp_in_nI (by omega) (by decide)) ?_)
    rw [e1]
    refine And.intro (vp_in_nI (by omega) (by decide)) ?_
    rw [cs_rd c2 (by omega)]
    exact K
  | succ d ih =>
    intro i hi
    have hit : i < T.length := by omega
    have hw := hTw i hit
    have hrl := cs_rn_le P (cs_cat W (T.take i)) 0 (Nat.zero_le _)
    have e1 : aTa (nI i).toNatClampNeg * 7 + nI (cs_rn P 0 (cs_cat W (T.take i))) = nI (cs_g T i * 7 + cs_rn P 0 (cs_cat W (T.take i))) := by
      rw [cs_rd (hTa i hit) (by omega), cs_m7a]
    have c1 := (hT _ _ hrl (Or.inl hw)).1
    have ih2 := ih (i + 1) (by omega)
    rw [cs_cat_take hit, cs_rn_app] at ih2
    refine br_f (nI_ge (by omega) (by omega)) (And.intro (vp_in_nI (by omega) (by decide)) ?_)
    rw [e1]
    exact And.intro (vp_in_nI (by omega) (by decide)) (nm_r (cs_rd c1 (by omega)) (nm_r (nI_1 i) ih2))
end
section
/-! ===== Y: an occurrence at a place ===== -/
section
variable {W : Nat → List Nat} {T P : List Nat} {wc : Nat} {bT bB bW bL bP : Nat → Int32}
theorem cs_at0 {x1 : Int32} {k n : Nat} {post : Int32 → Prop} (h6 : P.length ≤ 6) (hk : k ≤ 7) (K : post 0) : wY_at_32 post x1 (nI (cs_cat W T).length) (nI T.length) (nI wc) (nI P.length) bT bB bW bL bP (n + 1) 0 (nI k) := by
  rcases Nat.lt_or_ge k P.length with z | z
  · exact br_f (nI_ge z (by omega)) (br_t rfl (And.intro narrow_b0 K))
  · exact br_t (nI_le z (by omega)) (And.intro narrow_b0 K)
theorem cs_at1 {q : Nat} {post : Int32 → Prop} (h6 : P.length ≤ 6) (htx : (cs_cat W T).length ≤ 250) (hq : q + P.length ≤ (cs_cat W T).length) (hT : ∀ i, i < (cs_cat W T).length → bT i = nI (cs_g (cs_cat W T) i)) (hP : ∀ i, i < P.length → bP i = nI (cs_g P i)) (hP4 : ∀ i, i < P.length → cs_g P i < 4) (hx4 : ∀ i, i < (cs_cat W T).length → cs_g (cs_cat W T) i < 4)
    (h1 : (∀ i, i < P.length → cs_g (cs_cat W T) (q + i) = cs_g P i) → post 1) (h0 : ¬ (∀ i, i < P.length → cs_g (cs_cat W T) (q + i) = cs_g P i) → post 0) :
    ∀ d k, k + d = P.length → (∀ i, i < k → cs_g (cs_cat W T) (q + i) = cs_g P i) → wY_at_32 post (nI q) (nI (cs_cat W T).length) (nI T.length) (nI wc) (nI P.length) bT bB bW bL bP (d + 2) 1 (nI k) := by
  intro d
  induction d with
  | zero =>
    intro k hk hi
    have e : k = P.length := by omega
    subst e
    exact br_t (nI_le (Nat.le_refl _) (by omega)) (And.intro narrow_b1 (h1 hi))
  | succ d ih =>
    intro k hk hi
    have a1 := hT (q + k) (by omega)
    have a2 := hP k (by omega)
    have b1 := hx4 (q + k) (by omega)
    have b2 := hP4 k (by omega)
    refine br_f (nI_ge (by omega) (by omega)) (br_f (by decide) ?_)
    rw [nI_add, cs_rd a1 (by omega), cs_rd a2 (by omega)]
    refine And.intro (vp_in_nI (by omega) (by decide)) (And.intro (vp_in_nI (by omega) (by decide)) ?_)
    by_cases e : cs_g (cs_cat W T) (q + k) = cs_g P k
    · refine br_t (by rw [e]) (nm_r (nI_1 k) ?_)
      refine ih (k + 1) (by omega) ?_
      intro i hi2
      by_cases z : i = k
      · rw [z]; exact e
      · exact hi i (by omega)
    · refine br_f (fun z => e ((nI_eq (by omega) (by omega)).mp z)) (nm_r (nI_1 k) ?_)
      exact cs_at0 h6 (by omega) (h0 (fun z => e (z k (by omega))))
theorem cs_yat {q : Nat} {post : Int32 → Prop} (hF : cs_WF W T P wc) (hx4 : ∀ i, i < (cs_cat W T).length → cs_g (cs_cat W T) i < 4) (hY : cs_Y W T P wc bT bB bW bL bP) (hq : q < 1000)
    (h1 : cs_ok P (cs_cat W T) q → post 1) (h0 : ¬ cs_ok P (cs_cat W T) q → post 0) : wpY_at post (nI (cs_cat W T).length, nI T.length, nI wc, nI P.length, bT, bB, bW, bL, bP) (nI q) := by
  obtain ⟨⟨hw4, hw60⟩, hWl, hW4, hTw, htx, h6, hP4⟩ := hF
  obtain ⟨hT, hB, hD, hP⟩ := hY
  unfold wpY_at
  by_cases hm : P.length = 0
  · have hn : ¬ cs_ok P (cs_cat W T) q := fun z => absurd z.1 (by omega)
    exact br_t (nI_le (b := 0) (by omega) (by decide)) ⟨0 + 1, cs_at0 (k := 0) h6 (by omega) (h0 hn)⟩
  · refine br_f (nI_nle (by omega) (by omega)) (br_f (nI_pos (by omega)) ?_)
    rw [nI_add]
    by_cases hl : q + P.length ≤ (cs_cat W T).length
    · have e := cs_at_iff (p := P) hl
      refine br_f (nI_nlt hl (by omega)) ⟨P.length + 2, ?_⟩
      exact cs_at1 h6 htx hl hT hP hP4 hx4 (fun z => h1 ⟨by omega, hl, e.mpr z⟩) (fun z => h0 (fun y => z (e.mp y.2.2))) P.length 0 (by omega) (fun i hi => absurd hi (by omega))
    · have hn : ¬ cs_ok P (cs_cat W T) q := fun z => hl z.2.1
      exact br_t (nI_lt (by omega) (by omega)) ⟨0 + 1, cs_at0 (k := 0) h6 (by omega) (h0 hn)⟩
/-! ===== Y: counting ===== -/
theorem cs_bt5 {a b : Nat} {post : Int32 → Prop} (hF : cs_WF W T P wc) (hx4 : ∀ i, i < (cs_cat W T).length → cs_g (cs_cat W T) i < 4) (hY : cs_Y W T P wc bT bB bW bL bP) (hab : a ≤ b) (hb : b ≤ (cs_cat W T).length)
    (K : post (nI (cs_bt P (((cs_cat W T).take b).drop a)))) :
    ∀ d q, a ≤ q → (q = a ∨ q + P.length ≤ b + 1) → b + 1 ≤ q + d → q ≤ 251 → wY_between_5 post (nI b) (nI (cs_cat W T).length) (nI T.length) (nI wc) (nI P.length) bT bB bW bL bP (d + 1) (nI (cs_cn P (((cs_cat W T).take b).drop a) (q - a))) (nI q) := by
  have hl : (((cs_cat W T).take b).drop a).length = b - a := by rw [List.length_drop, cs_take_len hb]
  have htx := hF.2.2.2.2.1
  have h6 := hF.2.2.2.2.2.1
  have fin : ∀ d q, a ≤ q → (q = a ∨ q + P.length ≤ b + 1) → b < q + P.length → q ≤ 251 → wY_between_5 post (nI b) (nI (cs_cat W T).length) (nI T.length) (nI wc) (nI P.length) bT bB bW bL bP (d + 1) (nI (cs_cn P (((cs_cat W T).take b).drop a) (q - a))) (nI q) := by
    intro d q ha hq hlt h251
    rw [cs_cn_end (by omega) (by omega)]
    refine br_t ?_ K
    rw [nI_add]
    exact nI_lt hlt (by omega)
  intro d
  induction d with
  | zero =>
    intro q ha hq hd h251
    exact fin 0 q ha hq (by omega) h251
  | succ d ih =>
    intro q ha hq hd h251
    by_cases hlt : b < q + P.length
    · exact fin (d + 1) q ha hq hlt h251
    · have ih2 := ih (q + 1) (by omega) (by omega) (by omega) (by omega)
      rw [show q + 1 - a = q - a + 1 by omega] at ih2
      have hseg := cs_ok_seg (p := P) (x := cs_cat W T) (a := a) (b := b) (q := q) hb ha (by omega)
      refine br_f (by rw [nI_add]; exact nI_nlt (by omega) (by omega)) ?_
      refine cs_yat hF hx4 hY (by omega) ?_ ?_
      · intro hok
        rw [cs_cn_ok (hseg.mp hok)] at ih2
        refine br_f (by decide) (nm_r (nI_1 _) (nm_r (nI_1 q) ih2))
      · intro hok
        rw [cs_cn_no (by omega) (fun z => hok (hseg.mpr z))] at ih2
        refine br_t rfl (nm_r (nI_add _ 0) (nm_r (nI_1 q) ih2))
theorem cs_ybt {a b : Nat} {post : Int32 → Prop} (hF : cs_WF W T P wc) (hx4 : ∀ i, i < (cs_cat W T).length → cs_g (cs_cat W T) i < 4) (hY : cs_Y W T P wc bT bB bW bL bP) (hab : a ≤ b) (hb : b ≤ (cs_cat W T).length)
    (K : post (nI (cs_bt P (((cs_cat W T).take b).drop a)))) : wpY_between post (nI (cs_cat W T).length, nI T.length, nI wc, nI P.length, bT, bB, bW, bL, bP) (nI a) (nI b) := by
  have htx := hF.2.2.2.2.1
  have h := cs_bt5 hF hx4 hY hab hb K (b + 1) a (Nat.le_refl _) (Or.inl rfl) (by omega) (by omega)
  rw [Nat.sub_self, cs_cn_0] at h
  exact ⟨b + 1 + 1, h⟩
/-! ===== Y: the first and the last ===== -/
theorem cs_yfirst {post : Int32 → Prop} (hF : cs_WF W T P wc) (hx4 : ∀ i, i < (cs_cat W T).length → cs_g (cs_cat W T) i < 4) (hY : cs_Y W T P wc bT bB bW bL bP)
    (h1 : ∀ q, cs_ok P (cs_cat W T) q → (∀ j, j < q → ¬ cs_ok P (cs_cat W T) j) → post (nI q)) (h0 : (∀ q, ¬ cs_ok P (cs_cat W T) q) → post (-1)) : wpY_first post (nI (cs_cat W T).length, nI T.length, nI wc, nI P.length, bT, bB, bW, bL, bP) := by
  have htx := hF.2.2.2.2.1
  have H : ∀ d q, q + d = (cs_cat W T).length → (∀ j, j < q → ¬ cs_ok P (cs_cat W T) j) → wY_first_2 post (nI (cs_cat W T).length) (nI T.length) (nI wc) (nI P.length) bT bB bW bL bP (d + 1) (nI q) := by
    intro d
    induction d with
    | zero =>
      intro q hq hn
      refine br_t (nI_le (by omega) (by omega)) (h0 ?_)
      intro j hj
      have h2 := hj.1
      have h3 := hj.2.1
      exact hn j (by omega) hj
    | succ d ih =>
      intro q hq hn
      refine br_f (nI_ge (by omega) (by omega)) ?_
      refine cs_yat hF hx4 hY (by omega) ?_ ?_
      · intro hok
        exact br_f (by decide) (h1 q hok hn)
      · intro hok
        refine br_t rfl (nm_r (nI_1 q) (ih (q + 1) (by omega) ?_))
        intro j hj
        by_cases z : j = q
        · rw [z]; exact hok
        · exact hn j (by omega)
  exact ⟨_, H (cs_cat W T).length 0 (by omega) (fun j hj => absurd hj (by omega))⟩
theorem cs_ylast {post : Int32 → Prop} (hF : cs_WF W T P wc) (hx4 : ∀ i, i < (cs_cat W T).length → cs_g (cs_cat W T) i < 4) (hY : cs_Y W T P wc bT bB bW bL bP)
    (h1 : ∀ q, cs_ok P (cs_cat W T) q → (∀ j, q < j → ¬ cs_ok P (cs_cat W T) j) → post (nI q)) (h0 : (∀ q, ¬ cs_ok P (cs_cat W T) q) → post (-1)) : wpY_last post (nI (cs_cat W T).length, nI T.length, nI wc, nI P.length, bT, bB, bW, bL, bP) := by
  have htx := hF.2.2.2.2.1
  have H : ∀ d, d ≤ (cs_cat W T).length → (∀ j, d ≤ j → ¬ cs_ok P (cs_cat W T) j) → wY_last_7 post (nI (cs_cat W T).length) (nI T.length) (nI wc) (nI P.length) bT bB bW bL bP (d + 1) (nI d - 1) := by
    intro d
    induction d with
    | zero =>
      intro _ hn
      exact br_t (by decide) (h0 (fun q => hn q (Nat.zero_le _)))
    | succ d ih =>
      intro hd hn
      rw [nI_pred]
      refine br_f (nI_pos (by omega)) ?_
      refine cs_yat hF hx4 hY (by omega) ?_ ?_
      · intro hok
        exact br_f (by decide) (h1 d hok (fun j hj => hn j (by omega)))
      · intro hok
        refine br_t rfl (nm_r (e' := nI d - 1) (Int32.sub_eq_add_neg _ _).symm (ih (by omega) ?_))
        intro j hj
        by_cases z : j = d
        · rw [z]; exact hok
        · exact hn j (by omega)
  refine nm_e ⟨_, H (cs_cat W T).length (Nat.le_refl _) ?_⟩
  intro j hj z
  have h2 := z.1
  have h3 := z.2.1
  omega
/-! ===== Y: the tail ===== -/
theorem cs_t250 {n k f : Nat} {post : Int32 → Prop} {J : Int32 → Prop} (hn : n < 1000) (hk : k < 1000) (K : J (nI n)) : wY_tail_25 post J (nI (n + 1)) (nI (cs_cat W T).length) (nI T.length) (nI wc) (nI P.length) bT bB bW bL bP (f + 1) 0 (nI k) := by
  rcases Nat.lt_or_ge k (n + 1) with z | z
  · exact br_f (nI_ge z (by omega)) (br_t rfl (br_t rfl (nm_r (pk_m1 n) K)))
  · exact br_t (nI_le z (by omega)) (br_t rfl (nm_r (pk_m1 n) K))
theorem cs_t251 {n : Nat} {post : Int32 → Prop} {J : Int32 → Prop} (h6 : P.length ≤ 6) (htx : (cs_cat W T).length ≤ 250) (hnm : n + 1 ≤ P.length) (hnx : n + 1 ≤ (cs_cat W T).length) (hT : ∀ i, i < (cs_cat W T).length → bT i = nI (cs_g (cs_cat W T) i)) (hP : ∀ i, i < P.length → bP i = nI (cs_g P i)) (hP4 : ∀ i, i < P.length → cs_g P i < 4) (hx4 : ∀ i, i < (cs_cat W T).length → cs_g (cs_cat W T) i < 4)
    (h1 : (∀ i, i < n + 1 → cs_g (cs_cat W T) ((cs_cat W T).length - (n + 1) + i) = cs_g P i) → post (nI (n + 1))) (h0 : ¬ (∀ i, i < n + 1 → cs_g (cs_cat W T) ((cs_cat W T).length - (n + 1) + i) = cs_g P i) → J (nI n)) :
    ∀ d k, k + d = n + 1 → (∀ i, i < k → cs_g (cs_cat W T) ((cs_cat W T).length - (n + 1) + i) = cs_g P i) → wY_tail_25 post J (nI (n + 1)) (nI (cs_cat W T).length) (nI T.length) (nI wc) (nI P.length) bT bB bW bL bP (d + 2) 1 (nI k) := by
  intro d
  induction d with
  | zero =>
    intro k hk hi
    have e : k = n + 1 := by omega
    subst e
    exact br_t (nI_le (Nat.le_refl _) (by omega)) (br_f (by decide) (h1 hi))
  | succ d ih =>
    intro k hk hi
    have a1 := hT ((cs_cat W T).length - (n + 1) + k) (by omega)
    have a2 := hP k (by omega)
    have b1 := hx4 ((cs_cat W T).length - (n + 1) + k) (by omega)
    have b2 := hP4 k (by omega)
    refine br_f (nI_ge (by omega) (by omega)) (br_f (by decide) ?_)
    rw [pk_sub hnx, nI_add, cs_rd a1 (by omega), cs_rd a2 (by omega)]
    refine And.intro (vp_in_nI (by omega) (by decide)) (And.intro (vp_in_nI (by omega) (by decide)) ?_)
    by_cases e : cs_g (cs_cat W T) ((cs_cat W T).length - (n + 1) + k) = cs_g P k
    · refine br_t (by rw [e]) (nm_r (nI_1 k) ?_)
      refine ih (k + 1) (by omega) ?_
      intro i hi2
      by_cases z : i = k
      · rw [z]; exact e
      · exact hi i (by omega)
    · refine br_f (fun z => e ((nI_eq (by omega) (by omega)).mp z)) (nm_r (nI_1 k) ?_)
      exact cs_t250 (by omega) (by omega) (h0 (fun z => e (z k (by omega))))
theorem cs_ytail {post : Int32 → Prop} (hF : cs_WF W T P wc) (hx4 : ∀ i, i < (cs_cat W T).length → cs_g (cs_cat W T) i < 4) (hY : cs_Y W T P wc bT bB bW bL bP)
    (K : post (nI (cs_dl P (cs_cat W T)))) : wpY_tail post (nI (cs_cat W T).length, nI T.length, nI wc, nI P.length, bT, bB, bW, bL, bP) := by
  obtain ⟨⟨hw4, hw60⟩, hWl, hW4, hTw, htx, h6, hP4⟩ := hF
  obtain ⟨hT, hB, hD, hP⟩ := hY
  have H : ∀ n, n ≤ P.length → post (nI (cs_mx P (cs_cat W T) n)) → wY_tail_5 post (nI (cs_cat W T).length) (nI T.length) (nI wc) (nI P.length) bT bB bW bL bP (n + 1) (nI n) := by
    intro n
    induction n with
    | zero =>
      intro _ K
      exact br_t (Int32.le_refl _) K
    | succ n ih =>
      intro hn K
      unfold cs_mx at K
      refine br_f (nI_nle (by omega) (by omega)) ?_
      have hlen : (P.take (n + 1)).length = n + 1 := cs_take_len hn
      by_cases hl : n + 1 ≤ (cs_cat W T).length
      · have e := cs_suf_iff (l := P.take (n + 1)) (x := cs_cat W T) (by omega)
        rw [hlen] at e
        refine br_f (nI_nlt hl (by omega)) ⟨n + 1 + 2, ?_⟩
        refine cs_t251 h6 htx hn hl hT hP hP4 hx4 ?_ ?_ (n + 1) 0 (by omega) (fun i hi => absurd hi (by omega))
        · intro z
          rw [if_pos (e.mpr (fun k hk => by rw [cs_g_take hk]; exact z k hk))] at K
          exact K
        · intro z
          rw [if_neg (fun y => z (fun k hk => by have y2 := e.mp y k hk; rw [cs_g_take hk] at y2; exact y2))] at K
          exact ih (by omega) K
      · rw [if_neg (fun y => by have y2 := y.length_le; omega)] at K
        refine br_t (nI_lt (by omega) (by omega)) ⟨0 + 1, ?_⟩
        exact cs_t250 (k := 0) (by omega) (by omega) (ih (by omega) K)
  exact ⟨P.length + 1, H P.length (Nat.le_refl _) K⟩
/-! ===== Y: inside the codes ===== -/
theorem cs_ywithin {post : Int32 → Prop} (hF : cs_WF W T P wc) (hx4 : ∀ i, i < (cs_cat W T).length → cs_g (cs_cat W T) i < 4) (hY : cs_Y W T P wc bT bB bW bL bP)
    (K : post (nI (cs_in P W T))) : wpY_within post (nI (cs_cat W T).length, nI T.length, nI wc, nI P.length, bT, bB, bW, bL, bP) := by
  have htx := hF.2.2.2.2.1
  have hTl : T.length ≤ 250 := Nat.le_trans (cs_cat_len T (fun i hi => (hF.2.1 _ (hF.2.2.2.1 i hi)).1)) htx
  have hB := hY.2.1
  have H : ∀ d i, i + d = T.length → wY_within_4 post (nI (cs_cat W T).length) (nI T.length) (nI wc) (nI P.length) bT bB bW bL bP (d + 1) (nI (cs_in P W (T.take i))) (nI i) := by
    intro d
    induction d with
    | zero =>
      intro i hi
      have e : i = T.length := by omega
      subst e
      rw [List.take_length]
      exact br_t (nI_le (Nat.le_refl _) (by omega)) K
    | succ d ih =>
      intro i hi
      have hit : i < T.length := by omega
      have ih2 := ih (i + 1) (by omega)
      have a1 := hB i (by omega)
      have a2 := hB (i + 1) (by omega)
      have o1 := cs_off_s (W := W) hit
      have o2 := cs_off_le W T (i + 1)
      rw [cs_in_take hit] at ih2
      refine br_f (nI_ge (by omega) (by omega)) (And.intro (vp_in_nI (by omega) (by decide)) ?_)
      rw [nI_1, cs_rd a1 (by omega), cs_rd a2 (by omega)]
      refine And.intro (vp_in_nI (by omega) (by decide)) ?_
      refine cs_ybt hF hx4 hY (by omega) o2 ?_
      rw [cs_cat_seg hit]
      exact nm_r (nI_add _ _) (nm_e ih2)
  exact ⟨_, H T.length 0 (by omega)⟩
end
end
section
/-! ===== one more code: the word it reads, the word it makes ===== -/
theorem cs_x4' {W : Nat → List Nat} : ∀ T : List Nat, (∀ i, i < T.length → ∀ k, k < (W (cs_g T i)).length → cs_g (W (cs_g T i)) k < 4) → ∀ i, i < (cs_cat W T).length → cs_g (cs_cat W T) i < 4 := by
  intro T
  induction T with
  | nil => intro _ i hi; exact absurd hi (Nat.not_lt_zero _)
  | cons c T ih =>
    intro h i hi
    have h0 : ∀ k, k < (W c).length → cs_g (W c) k < 4 := h 0 (Nat.succ_pos _)
    have hi2 : i < (W c ++ cs_cat W T).length := hi
    rw [List.length_append] at hi2
    show cs_g (W c ++ cs_cat W T) i < 4
    rcases Nat.lt_or_ge i (W c).length with z | z
    · rw [cs_g_app_l z]; exact h0 i z
    · obtain ⟨m, rfl⟩ : ∃ m, i = (W c).length + m := ⟨i - (W c).length, by omega⟩
      rw [cs_g_app_r]
      exact ih (fun i hi => h (i + 1) (Nat.succ_lt_succ hi)) m (by omega)
theorem cs_x4 {W : Nat → List Nat} {T P : List Nat} {wc : Nat} (hF : cs_WF W T P wc) : ∀ i, i < (cs_cat W T).length → cs_g (cs_cat W T) i < 4 :=
  cs_x4' T (fun i hi => (hF.2.1 _ (hF.2.2.2.1 i hi)).2.2)
theorem cs_Tl {W : Nat → List Nat} {T P : List Nat} {wc : Nat} (hF : cs_WF W T P wc) : T.length ≤ (cs_cat W T).length := cs_cat_len T (fun i hi => (hF.2.1 _ (hF.2.2.2.1 i hi)).1)
def cs_bb (T : List Nat) : Nat := cs_g T (T.length - 1)
def cs_V (W : Nat → List Nat) (T : List Nat) (wc j : Nat) : List Nat := if j < wc then W j else W (cs_bb T) ++ [cs_g (W (cs_bb T)) 0]
def cs_Nw (W : Nat → List Nat) (T : List Nat) (wc j : Nat) : Nat → List Nat := fun w => if w = wc then W (cs_bb T) ++ [cs_g (cs_V W T wc j) 0] else W w
def cs_nc (T : List Nat) (wc : Nat) : Nat := if T.length ≠ 0 ∧ wc < 60 then wc + 1 else wc
def cs_A0 (T : List Nat) (wc j : Nat) : Prop := (T.length = 0 → j < 4) ∧ j ≤ wc ∧ ¬ (j = wc ∧ wc = 60)
def cs_A (W : Nat → List Nat) (T : List Nat) (wc j : Nat) : Prop := cs_A0 T wc j ∧ (cs_cat W T).length + (cs_V W T wc j).length ≤ 250
section
variable {W : Nat → List Nat} {T P : List Nat} {wc j : Nat}
theorem cs_bb_lt (hF : cs_WF W T P wc) (h : T.length ≠ 0) : cs_bb T < wc := hF.2.2.2.1 _ (by omega)
theorem cs_V_lt (h : j < wc) : cs_V W T wc j = W j := if_pos h
theorem cs_V_eq : cs_V W T wc wc = W (cs_bb T) ++ [cs_g (W (cs_bb T)) 0] := if_neg (Nat.lt_irrefl _)
theorem cs_V_len_eq : (cs_V W T wc wc).length = (W (cs_bb T)).length + 1 := by rw [cs_V_eq, List.length_append]; rfl
theorem cs_A0_cases (hF : cs_WF W T P wc) (h : cs_A0 T wc j) : j < wc ∨ (j = wc ∧ T.length ≠ 0 ∧ wc < 60) := by
  obtain ⟨h1, h2, h3⟩ := h
  obtain ⟨⟨hw4, hw60⟩, _⟩ := hF
  by_cases z : j = wc
  · refine Or.inr ⟨z, fun y => ?_, by omega⟩
    have := h1 y
    omega
  · exact Or.inl (by omega)
theorem cs_V_pos (hF : cs_WF W T P wc) (h : cs_A0 T wc j) : 0 < (cs_V W T wc j).length := by
  rcases cs_A0_cases hF h with z | ⟨z, _, _⟩
  · rw [cs_V_lt z]; exact (hF.2.1 j z).1
  · rw [z, cs_V_len_eq]; omega
theorem cs_V_0 (hF : cs_WF W T P wc) (h : T.length ≠ 0) : cs_g (cs_V W T wc wc) 0 = cs_g (W (cs_bb T)) 0 := by
  rw [cs_V_eq, cs_g_app_l (hF.2.1 _ (cs_bb_lt hF h)).1]
theorem cs_V_04 (hF : cs_WF W T P wc) (h : cs_A0 T wc j) : cs_g (cs_V W T wc j) 0 < 4 := by
  rcases cs_A0_cases hF h with z | ⟨z, y, _⟩
  · rw [cs_V_lt z]; exact (hF.2.1 j z).2.2 0 (hF.2.1 j z).1
  · have hb := hF.2.1 _ (cs_bb_lt hF y)
    rw [z, cs_V_0 hF y]
    exact hb.2.2 0 hb.1
theorem cs_nw_old {w : Nat} (h : w < wc) : cs_Nw W T wc j w = W w := if_neg (by omega)
theorem cs_nw_new : cs_Nw W T wc j wc = W (cs_bb T) ++ [cs_g (cs_V W T wc j) 0] := if_pos rfl
theorem cs_nw_j (hF : cs_WF W T P wc) (h : cs_A0 T wc j) : cs_Nw W T wc j j = cs_V W T wc j := by
  rcases cs_A0_cases hF h with z | ⟨z, y, _⟩
  · rw [cs_nw_old z, cs_V_lt z]
  · subst z
    rw [cs_nw_new, cs_V_0 hF y, cs_V_eq]
theorem cs_nw_cat (hF : cs_WF W T P wc) : cs_cat (cs_Nw W T wc j) T = cs_cat W T := cs_cat_ext T (fun i hi => cs_nw_old (hF.2.2.2.1 i hi))
theorem cs_nw_cat2 (hF : cs_WF W T P wc) (h : cs_A0 T wc j) : cs_cat (cs_Nw W T wc j) (T ++ [j]) = cs_cat W T ++ cs_V W T wc j := by
  rw [cs_cat_snoc, cs_nw_cat hF, cs_nw_j hF h]
theorem cs_nc_new (h : T.length ≠ 0) (h2 : wc < 60) : cs_nc T wc = wc + 1 := if_pos ⟨h, h2⟩
theorem cs_nc_old (h : T.length = 0 ∨ 60 ≤ wc) : cs_nc T wc = wc := if_neg (by omega)
theorem cs_nc_cases : (cs_nc T wc = wc ∧ (T.length = 0 ∨ 60 ≤ wc)) ∨ (cs_nc T wc = wc + 1 ∧ T.length ≠ 0 ∧ wc < 60) := by
  by_cases h : T.length ≠ 0 ∧ wc < 60
  · exact Or.inr ⟨cs_nc_new h.1 h.2, h⟩
  · exact Or.inl ⟨cs_nc_old (by omega), by omega⟩
/-- the last code's word ends the text -/
theorem cs_lastw (h : T.length ≠ 0) : cs_off W T (T.length - 1) + (W (cs_bb T)).length = (cs_cat W T).length := by
  have h1 := cs_off_s (W := W) (T := T) (i := T.length - 1) (by omega)
  rw [show T.length - 1 + 1 = T.length by omega, cs_off_all] at h1
  exact h1.symm
theorem cs_nw_WF (hF : cs_WF W T P wc) (h : cs_A W T wc j) : cs_WF (cs_Nw W T wc j) (T ++ [j]) P (cs_nc T wc) := by
  obtain ⟨h0, hl⟩ := h
  have hc := cs_nc_cases (T := T) (wc := wc)
  have hj := cs_A0_cases hF h0
  have hvp := cs_V_pos hF h0
  have hv4 := cs_V_04 hF h0
  have hcat := cs_nw_cat2 hF h0
  have hF2 := hF
  obtain ⟨⟨hw4, hw60⟩, hWl, hW4, hTw, htx, h6, hP4⟩ := hF2
  refine ⟨⟨by omega, by omega⟩, ?_, ?_, ?_, ?_, h6, hP4⟩
  · intro w hw
    by_cases e : w < wc
    · rw [cs_nw_old e]; exact hWl w e
    · have e2 : w = wc := by omega
      have hT0 : T.length ≠ 0 := by omega
      have hb := hWl _ (cs_bb_lt hF hT0)
      have hlast := cs_lastw (W := W) hT0
      rw [e2, cs_nw_new]
      have hlen : (W (cs_bb T) ++ [cs_g (cs_V W T wc j) 0]).length = (W (cs_bb T)).length + 1 := by rw [List.length_append]; rfl
      refine ⟨by omega, by omega, ?_⟩
      intro k hk
      rcases Nat.lt_or_ge k (W (cs_bb T)).length with z | z
      · rw [cs_g_app_l z]; exact hb.2.2 k z
      · have e3 : k = (W (cs_bb T)).length + 0 := by omega
        rw [e3, cs_g_app_r]
        exact hv4
  · intro w hw
    rw [cs_nw_old (by omega)]
    exact hW4 w hw
  · intro i hi
    rw [List.length_append] at hi
    have hi2 : i < T.length + 1 := hi
    rcases Nat.lt_or_ge i T.length with z | z
    · rw [cs_g_app_l z]
      have := hTw i z
      omega
    · have e3 : i = T.length + 0 := by omega
      rw [e3, cs_g_app_r]
      show j < cs_nc T wc
      omega
  · rw [hcat, List.length_append]
    exact hl
/-! ===== X: is the code allowed ===== -/
theorem cs_xa96 {n : Nat} {fB fK fE fM fF fP fI : Int32} {aSh aLa aFi aLe aTa aSy aSt aAf aMe aFe aLE : Nat → Int32} {post : Int32 → Prop} (htx : (cs_cat W T).length ≤ 250) (hn : n ≤ 251) (h1 : (cs_cat W T).length + n ≤ 250 → post 1) (h0 : ¬ (cs_cat W T).length + n ≤ 250 → post 0) : wX_allowed_96 post (nI n) (nI wc) (nI T.length) (nI (cs_cat W T).length) (nI P.length) fB fK fE fM fF fP fI aSh aLa aFi aLe aTa aSy aSt aAf aMe aFe aLE := by
  unfold wX_allowed_96
  rw [nI_add]
  by_cases z : (cs_cat W T).length + n ≤ 250
  · exact br_f (nI_nlt (a := 250) z (by decide)) (h1 z)
  · exact br_t (nI_lt (a := 250) (by omega) (by omega)) (h0 z)
theorem cs_xa61 {fB fK fE fM fF fP fI : Int32} {aSh aLa aFi aLe aTa aSy aSt aAf aMe aFe aLE : Nat → Int32} {post : Int32 → Prop} (hF : cs_WF W T P wc) (hD : cs_DX W wc aSh aLa aFi aLe) (hTa : ∀ i, i < T.length → aTa i = nI (cs_g T i)) (hT0 : T.length ≠ 0) (h : cs_A0 T wc j)
    (h1 : cs_A W T wc j → post 1) (h0 : ¬ cs_A W T wc j → post 0) : wX_allowed_61 post (nI j) (nI wc) (nI T.length) (nI (cs_cat W T).length) (nI P.length) fB fK fE fM fF fP fI aSh aLa aFi aLe aTa aSy aSt aAf aMe aFe aLE := by
  have hTl := cs_Tl hF
  have hb := cs_bb_lt hF hT0
  have hj := cs_A0_cases hF h
  have hF2 := hF
  obtain ⟨⟨hw4, hw60⟩, hWl, hW4, hTw, htx, h6, hP4⟩ := hF2
  by_cases z : j = wc
  · subst z
    have hV := cs_V_len_eq (W := W) (T := T) (wc := j)
    have hbl := (hWl _ hb).2.1
    have et : nI T.length - 1 = nI (T.length - 1) := pk_sub (a := T.length) (b := 1) (by omega)
    have e1 : aTa (nI (T.length - 1)).toNatClampNeg = nI (cs_bb T) := cs_rd (hTa (T.length - 1) (by omega)) (by omega)
    refine br_t rfl ?_
    rw [et, e1, cs_rd (hD _ hb).1 (by omega), nI_1]
    refine And.intro (vp_in_nI (by omega) (by decide)) (And.intro (vp_in_nI (by omega) (by decide)) ?_)
    exact cs_xa96 htx (by omega) (fun y => h1 ⟨h, by omega⟩) (fun y => h0 (fun z => y (by have := z.2; omega)))
  · have hlt : j < wc := by omega
    have hV := cs_V_lt (W := W) (T := T) hlt
    have hjl := (hWl _ hlt).2.1
    refine br_f (fun y => z ((nI_eq (by omega) (by omega)).mp y)) (And.intro (vp_in_nI (by omega) (by decide)) ?_)
    rw [cs_rd (hD _ hlt).1 (by omega)]
    refine cs_xa96 htx (by omega) (fun y => h1 ⟨h, by rw [hV]; exact y⟩) (fun y => h0 (fun z => y (by have := z.2; rw [hV] at this; exact this)))
theorem cs_xallow {fB fK fE fM fF fP fI : Int32} {aSh aLa aFi aLe aTa aSy aSt aAf aMe aFe aLE : Nat → Int32} {post : Int32 → Prop} (hF : cs_WF W T P wc) (hD : cs_DX W wc aSh aLa aFi aLe) (hTa : ∀ i, i < T.length → aTa i = nI (cs_g T i)) (hj : j < 2147483648)
    (h1 : cs_A W T wc j → post 1) (h0 : ¬ cs_A W T wc j → post 0) : wpX_allowed post (nI wc, nI T.length, nI (cs_cat W T).length, nI P.length, fB, fK, fE, fM, fF, fP, fI, aSh, aLa, aFi, aLe, aTa, aSy, aSt, aAf, aMe, aFe, aLE) (nI j) := by
  have hTl := cs_Tl hF
  have hF2 := hF
  obtain ⟨⟨hw4, hw60⟩, hWl, hW4, hTw, htx, h6, hP4⟩ := hF2
  unfold wpX_allowed
  refine br_f (nI_pos (by omega)) ?_
  by_cases h250 : T.length < 250
  · refine br_t (nI_lt (b := 250) h250 (by decide)) ?_
    by_cases hT0 : T.length = 0
    · refine br_t (by rw [hT0]; rfl) ?_
      by_cases hj4 : j < 4
      · refine br_f (nI_ge (b := 4) hj4 (by decide)) (h1 ⟨⟨fun _ => hj4, by omega, by omega⟩, ?_⟩)
        have e : T = [] := List.eq_nil_of_length_eq_zero hT0
        rw [cs_V_lt (by omega), e]
        have := (hWl j (by omega)).2.1
        show 0 + (W j).length ≤ 250
        omega
      · exact br_t (nI_le (a := 4) (by omega) hj) (h0 (fun z => hj4 (z.1.1 hT0)))
    · refine br_f (nI_ne0 (by omega) (by omega)) ?_
      by_cases hjw : wc < j
      · exact br_t (nI_lt hjw hj) (h0 (fun z => by have := z.1.2.1; omega))
      · refine br_f (nI_nlt (by omega) (by omega)) ?_
        by_cases hje : j = wc
        · refine br_t (by rw [hje]) ?_
          by_cases h60 : wc = 60
          · exact br_t (by rw [h60]; rfl) (h0 (fun z => z.1.2.2 ⟨hje, h60⟩))
          · refine br_f (fun z => h60 ((nI_eq (b := 60) (by omega) (by decide)).mp z)) ?_
            exact cs_xa61 hF hD hTa hT0 ⟨fun y => absurd y hT0, by omega, fun y => h60 y.2⟩ h1 h0
        · refine br_f (fun z => hje ((nI_eq (by omega) (by omega)).mp z)) ?_
          exact cs_xa61 hF hD hTa hT0 ⟨fun y => absurd y hT0, by omega, fun y => hje y.1⟩ h1 h0
  · refine br_f (nI_nlt (b := 250) (by omega) (by omega)) (h0 (fun z => ?_))
    have h2 := cs_V_pos hF z.1
    have h3 := z.2
    omega
end
end
section
/-! ===== X: feed ===== -/
theorem cs_DX_ext {W V : Nat → List Nat} {wc : Nat} {aSh aLa aFi aLe : Nat → Int32} (h : ∀ w, w < wc → V w = W w) (hD : cs_DX W wc aSh aLa aFi aLe) : cs_DX V wc aSh aLa aFi aLe := by
  intro w hw
  obtain ⟨h1, h2, x, c, h3, h4, h5, h6⟩ := hD w hw
  rw [h w hw]
  refine ⟨h1, h2, x, c, h3, h4, h5, ?_⟩
  rcases h6 with z | ⟨q, z1, z2, z3⟩
  · exact Or.inl z
  · exact Or.inr ⟨q, z1, z2, by rw [h q (by omega)]; exact z3⟩
theorem cs_DX_put {W V : Nat → List Nat} {wc b c : Nat} {aSh aLa aFi aLe : Nat → Int32} (h : ∀ w, w < wc → V w = W w) (hn : V wc = W b ++ [c]) (hb : b < wc) (hc : c < 4) (hp : 0 < (W b).length) (hD : cs_DX W wc aSh aLa aFi aLe) :
    cs_DX V (wc + 1) (upd aSh wc (nI b)) (upd aLa wc (nI c)) (upd aFi wc (nI (cs_g (W b) 0))) (upd aLe wc (nI ((W b).length + 1))) := by
  intro w hw
  by_cases e : w = wc
  · subst e
    rw [pk_us, pk_us, pk_us, pk_us, hn, cs_g_app_l hp, List.length_append]
    exact ⟨rfl, rfl, W b, c, rfl, hc, rfl, Or.inr ⟨b, hb, rfl, h b hb⟩⟩
  · rw [pk_un e, pk_un e, pk_un e, pk_un e]
    exact cs_DX_ext h hD w (by omega)
theorem cs_Cell_ext {P : List Nat} {W V : Nat → List Nat} {af me fe la : Nat → Int32} {w s : Nat} (h : V w = W w) (hc : cs_Cell P W af me fe la w s) : cs_Cell P V af me fe la w s := by
  unfold cs_Cell
  rw [h]
  exact hc
theorem cs_TbOk_ext {P : List Nat} {W V : Nat → List Nat} {wc wd : Nat} {fB : Int32} {aSt aAf aMe aFe aLE : Nat → Int32} (h : ∀ w, w < wc → V w = W w) (hl : wc ≤ wd) (hB : cs_TbOk W P wc fB aSt aAf aMe aFe aLE) : cs_TbOk V P wd fB aSt aAf aMe aFe aLE := by
  obtain ⟨tb, e, htb, hok⟩ := hB
  refine ⟨tb, e, by omega, fun z => ?_⟩
  obtain ⟨a1, a2, a3⟩ := hok z
  refine ⟨a1, a2, ?_⟩
  intro w' s' hs' hw
  exact cs_Cell_ext (h w' (by omega)) (a3 w' s' hs' hw)
section
variable {W : Nat → List Nat} {T P : List Nat} {wc j : Nat}
theorem cs_addw {b c f l : Nat} {fT fL fS fB fK fE fM fF fP fI : Int32} {aSh aLa aFi aLe aTa aSy aSt aAf aMe aFe aLE : Nat → Int32} {post : SX → Prop} (hwc : wc < 60) (hb : b < 60) (hc : c < 4) (hf : aFi b = nI f) (hf4 : f < 4) (hl : aLe b = nI l) (hlb : l ≤ 250)
    (K : post (nI (wc + 1), fT, fL, fS, fB, fK, fE, fM, fF, fP, fI, upd aSh wc (nI b), upd aLa wc (nI c), upd aFi wc (nI f), upd aLe wc (nI (l + 1)), aTa, aSy, aSt, aAf, aMe, aFe, aLE)) : wpX_addWord post (nI wc, fT, fL, fS, fB, fK, fE, fM, fF, fP, fI, aSh, aLa, aFi, aLe, aTa, aSy, aSt, aAf, aMe, aFe, aLE) (nI b) (nI c) := by
  unfold wpX_addWord
  refine And.intro (vp_in_nI hwc (by decide)) (nm_r (cs_upd (by omega) (cs_vbb (by omega))) (And.intro (vp_in_nI hwc (by decide)) (nm_r (cs_upd (by omega) (cs_vbb (by omega))) (And.intro (vp_in_nI hb (by decide)) (And.intro (vp_in_nI hwc (by decide)) (nm_r (e' := upd aFi wc (nI f)) (cs_upd (by omega) (by rw [cs_rd hf (by omega), cs_vb (by omega)])) (And.intro (vp_in_nI hb (by decide)) (And.intro (vp_in_nI hwc (by decide)) (nm_r (e' := upd aLe wc (nI (l + 1))) (cs_upd (by omega) (by rw [cs_rd hl (by omega), nI_1, cs_vss (by omega)])) (nm_r (nI_1 wc) ?_))))))))))
  exact K
theorem cs_xf76 {n L l : Nat} {fW fS fB fK fE fM fF fP fI : Int32} {aSh aLa aFi aLe aTa aSy aSt aAf aMe aFe aLE : Nat → Int32} {post : Int32 → SX → Prop} (hj : j < 60) (hn : n < 250) (hle : aLe j = nI l)
    (K : post (nI l) (fW, nI (n + 1), nI (L + l), fS, fB, 0, fE, fM, fF, fP, fI, aSh, aLa, aFi, aLe, upd aTa n (nI j), aSy, aSt, aAf, aMe, aFe, aLE)) : wX_feed_76 post (nI j) fW (nI n) (nI L) fS fB fK fE fM fF fP fI aSh aLa aFi aLe aTa aSy aSt aAf aMe aFe aLE := by
  refine And.intro (vp_in_nI hn (by decide)) (nm_r (cs_upd (by omega) (cs_vbb (by omega))) (nm_r (nI_1 n) (And.intro (vp_in_nI hj (by decide)) (nm_r (e' := nI (L + l)) (by rw [cs_rd hle (by omega), nI_add]) (And.intro (vp_in_nI hj (by decide)) ?_)))))
  rw [cs_rd hle (by omega)]
  exact K
theorem cs_Ta_put {a : Nat → Int32} (h : ∀ i, i < T.length → a i = nI (cs_g T i)) : ∀ i, i < (T ++ [j]).length → upd a T.length (nI j) i = nI (cs_g (T ++ [j]) i) := by
  intro i hi
  rw [List.length_append] at hi
  have hi2 : i < T.length + 1 := hi
  by_cases e : i = T.length
  · have e2 := cs_g_app_r (l := T) (r := [j]) (i := 0)
    rw [Nat.add_zero] at e2
    rw [e, pk_us, e2]
    rfl
  · rw [pk_un e, cs_g_app_l (by omega)]
    exact h i (by omega)
theorem cs_xfeed {fB fK fE fM fF fP fI : Int32} {aSh aLa aFi aLe aTa aSy aSt aAf aMe aFe aLE : Nat → Int32} {post : Int32 → SX → Prop} (hF : cs_WF W T P wc) (hX : cs_X W T P wc fB fK fE fM fF fP fI aSh aLa aFi aLe aTa aSy aSt aAf aMe aFe aLE) (hj : j < 2147483648)
    (K0 : ¬ cs_A W T wc j → post (-1) (nI wc, nI T.length, nI (cs_cat W T).length, nI P.length, fB, fK, fE, fM, fF, fP, fI, aSh, aLa, aFi, aLe, aTa, aSy, aSt, aAf, aMe, aFe, aLE))
    (K1 : cs_A W T wc j → ∀ aSh aLa aFi aLe aTa : Nat → Int32, cs_X (cs_Nw W T wc j) (T ++ [j]) P (cs_nc T wc) fB 0 fE fM fF fP fI aSh aLa aFi aLe aTa aSy aSt aAf aMe aFe aLE → post (nI (cs_V W T wc j).length) (nI (cs_nc T wc), nI (T ++ [j]).length, nI (cs_cat (cs_Nw W T wc j) (T ++ [j])).length, nI P.length, fB, 0, fE, fM, fF, fP, fI, aSh, aLa, aFi, aLe, aTa, aSy, aSt, aAf, aMe, aFe, aLE)) :
    wpX_feed post (nI wc, nI T.length, nI (cs_cat W T).length, nI P.length, fB, fK, fE, fM, fF, fP, fI, aSh, aLa, aFi, aLe, aTa, aSy, aSt, aAf, aMe, aFe, aLE) (nI j) := by
  obtain ⟨hD, hTa, hSy, hB, hK⟩ := hX
  unfold wpX_feed
  refine cs_xallow hF hD hTa hj ?_ ?_
  · intro hA
    have hTl := cs_Tl hF
    have hvp := cs_V_pos hF hA.1
    have hv4 := cs_V_04 hF hA.1
    have hal := hA.2
    have hjc := cs_A0_cases hF hA.1
    have hcl : (cs_cat (cs_Nw W T wc j) (T ++ [j])).length = (cs_cat W T).length + (cs_V W T wc j).length := by rw [cs_nw_cat2 hF hA.1, List.length_append]
    have hTl2 : (T ++ [j]).length = T.length + 1 := by rw [List.length_append]; rfl
    have K := K1 hA
    rw [hcl, hTl2] at K
    have hTa2 := cs_Ta_put (j := j) hTa
    have hF2 := hF
    obtain ⟨⟨hw4, hw60⟩, hWl, hW4, hTw, htx, h6, hP4⟩ := hF2
    refine br_f (by decide) ?_
    -- no new word
    have old : (T.length = 0 ∨ 60 ≤ wc) → wX_feed_76 post (nI j) (nI wc) (nI T.length) (nI (cs_cat W T).length) (nI P.length) fB fK fE fM fF fP fI aSh aLa aFi aLe aTa aSy aSt aAf aMe aFe aLE := by
      intro ho
      have hjl : j < wc := by omega
      rw [cs_nc_old ho] at K
      refine cs_xf76 (l := (cs_V W T wc j).length) (by omega) (by omega) (by rw [cs_V_lt hjl]; exact (hD j hjl).1) ?_
      exact K _ _ _ _ _ ⟨cs_DX_ext (fun w hw => cs_nw_old hw) hD, hTa2, hSy, cs_TbOk_ext (fun w hw => cs_nw_old hw) (Nat.le_refl _) hB, Or.inl rfl⟩
    by_cases hT0 : T.length = 0
    · refine br_t (nI_le (b := 0) (by omega) (by decide)) (br_t (by decide) (old (Or.inl hT0)))
    · have hb := cs_bb_lt hF hT0
      have et : nI T.length - 1 = nI (T.length - 1) := pk_sub (a := T.length) (b := 1) (by omega)
      have e1 : aTa (nI (T.length - 1)).toNatClampNeg = nI (cs_bb T) := cs_rd (hTa (T.length - 1) (by omega)) (by omega)
      refine br_f (nI_nle (by omega) (by omega)) ?_
      rw [et, e1]
      refine And.intro (vp_in_nI (by omega) (by decide)) (br_f (nI_pos (by omega)) ?_)
      by_cases h60 : 60 ≤ wc
      · exact br_t (nI_le (a := 60) h60 (by omega)) (old (Or.inr h60))
      · rw [cs_nc_new hT0 (by omega)] at K
        have hbw := hWl _ hb
        have hbd := hD _ hb
        have hDn := cs_DX_put (V := cs_Nw W T wc j) (fun w hw => cs_nw_old hw) cs_nw_new hb hv4 hbw.1 hD
        have hlast := cs_lastw (W := W) hT0
        have new : wX_feed_69 post (nI j) (nI (cs_bb T)) (nI (cs_g (cs_V W T wc j) 0)) (nI wc) (nI T.length) (nI (cs_cat W T).length) (nI P.length) fB fK fE fM fF fP fI aSh aLa aFi aLe aTa aSy aSt aAf aMe aFe aLE := by
          refine cs_addw (by omega) (by omega) hv4 hbd.2.1 (hbw.2.2 0 hbw.1) hbd.1 hbw.2.1 ?_
          refine cs_xf76 (l := (cs_V W T wc j).length) (by omega) (by omega) ?_ ?_
          · rw [← cs_nw_j hF hA.1]
            exact (hDn j (by omega)).1
          · exact K _ _ _ _ _ ⟨hDn, hTa2, hSy, cs_TbOk_ext (fun w hw => cs_nw_old hw) (by omega) hB, Or.inl rfl⟩
        refine br_f (nI_ge (b := 60) (by omega) (by decide)) ?_
        by_cases hje : j = wc
        · refine br_t (by rw [hje]) (And.intro (vp_in_nI (by omega) (by decide)) ?_)
          rw [cs_rd hbd.2.1 (by omega), ← cs_V_0 hF hT0, ← hje]
          rw [hje] at new ⊢
          exact new
        · have hjl : j < wc := by omega
          refine br_f (fun z => hje ((nI_eq (by omega) (by omega)).mp z)) (And.intro (vp_in_nI (by omega) (by decide)) ?_)
          have hfj := (hD j hjl).2.1
          rw [← cs_V_lt (W := W) (T := T) hjl] at hfj
          rw [cs_rd hfj (by omega)]
          exact new
  · intro hA
    exact br_t rfl (K0 hA)
end
end
section
/-! ===== Y: feed ===== -/
section
variable {W : Nat → List Nat} {T P : List Nat} {wc j : Nat}
theorem cs_txt_put {t : Nat → Int32} {z : List Nat} {n : Nat} (h : ∀ i, i < n → t i = nI (cs_g z i)) : ∀ i, i < n + 1 → upd t n (nI (cs_g z n)) i = nI (cs_g z i) := by
  intro i hi
  by_cases e : i = n
  · rw [e, pk_us]
  · rw [pk_un e]
    exact h i (by omega)
theorem cs_off_nw (hF : cs_WF W T P wc) {i : Nat} (hi : i ≤ T.length) : cs_off (cs_Nw W T wc j) (T ++ [j]) i = cs_off W T i := by
  unfold cs_off
  rw [List.take_append_of_le_length hi]
  refine congrArg List.length (cs_cat_ext _ ?_)
  intro k hk
  rw [List.length_take] at hk
  rw [cs_g_take (by omega)]
  exact cs_nw_old (hF.2.2.2.1 k (by omega))
theorem cs_DY_old {tx V : List Nat} {bW bL : Nat → Int32} (hD : cs_DY W tx wc bW bL) : cs_DY (cs_Nw W T wc j) (tx ++ V) wc bW bL := by
  intro w h4 hw
  obtain ⟨q, h1, h2, h3, h5⟩ := hD w h4 hw
  rw [cs_nw_old hw]
  refine ⟨q, h1, h2, by rw [List.length_append]; omega, ?_⟩
  intro k hk
  rw [cs_g_app_l (by omega)]
  exact h5 k hk
theorem cs_DY_new {bW bL : Nat → Int32} (hF : cs_WF W T P wc) (h : cs_A0 T wc j) (hT0 : T.length ≠ 0) (hD : cs_DY W (cs_cat W T) wc bW bL) :
    cs_DY (cs_Nw W T wc j) (cs_cat W T ++ cs_V W T wc j) (wc + 1) (upd bW wc (nI (cs_off W T (T.length - 1)))) (upd bL wc (nI ((cs_cat W T).length - cs_off W T (T.length - 1) + 1))) := by
  have hlast := cs_lastw (W := W) hT0
  have hvp := cs_V_pos hF h
  intro w h4 hw
  by_cases e : w = wc
  · subst e
    have hlen : (W (cs_bb T) ++ [cs_g (cs_V W T w j) 0]).length = (W (cs_bb T)).length + 1 := by rw [List.length_append]; rfl
    rw [pk_us, pk_us, cs_nw_new, hlen]
    refine ⟨_, rfl, congrArg nI (by omega), by rw [List.length_append]; omega, ?_⟩
    intro k hk
    rcases Nat.lt_or_ge k (W (cs_bb T)).length with z | z
    · rw [cs_g_app_l (l := cs_cat W T) (by omega), cs_g_app_l z]
      exact cs_g_cat (W := W) (T := T) (i := T.length - 1) (by omega) z
    · have e3 : k = (W (cs_bb T)).length + 0 := by omega
      have e4 : cs_off W T (T.length - 1) + k = (cs_cat W T).length + 0 := by omega
      rw [e4, cs_g_app_r, e3, cs_g_app_r]
      rfl
  · rw [pk_un e, pk_un e]
    exact cs_DY_old hD w h4 (by omega)
theorem cs_yf222 {L n l : Nat} {gW gP : Int32} {bT bB bW bL bP : Nat → Int32} {post : Int32 → SY → Prop} (hn : n < 250)
    (K : post (nI l) (nI (L + l), nI (n + 1), gW, gP, bT, upd (upd bB n (nI L)) (n + 1) (nI (L + l)), bW, bL, bP)) : wY_feed_222 post (nI l) (nI L) (nI (L + l)) (nI n) gW gP bT bB bW bL bP := by
  refine And.intro (vp_in_nI (by omega) (by decide)) (nm_r (cs_upd (by omega) rfl) (nm_r (nI_1 n) (And.intro (vp_in_nI (by omega) (by decide)) (nm_r (cs_upd (by omega) rfl) K))))
theorem cs_B_put {b : Nat → Int32} (hF : cs_WF W T P wc) (h : cs_A0 T wc j) (hB : ∀ i, i ≤ T.length → b i = nI (cs_off W T i)) :
    ∀ i, i ≤ (T ++ [j]).length → upd (upd b T.length (nI (cs_cat W T).length)) (T.length + 1) (nI ((cs_cat W T).length + (cs_V W T wc j).length)) i = nI (cs_off (cs_Nw W T wc j) (T ++ [j]) i) := by
  intro i hi
  have hl : (T ++ [j]).length = T.length + 1 := by rw [List.length_append]; rfl
  rw [hl] at hi
  by_cases e : i = T.length + 1
  · rw [e, pk_us, ← hl, cs_off_all, cs_nw_cat2 hF h, List.length_append]
  · rw [pk_un e, cs_off_nw hF (by omega)]
    by_cases e2 : i = T.length
    · rw [e2, pk_us, cs_off_all]
    · rw [pk_un e2]
      exact hB i (by omega)
theorem cs_ysym {k : Nat} {bB bW bL bP : Nat → Int32} {post : Int32 → Prop} {t : Nat → Int32} (hF : cs_WF W T P wc) (hD : cs_DY W (cs_cat W T) wc bW bL) (hj : j < wc) (hk : k < (W j).length) (ht : ∀ i, i < (cs_cat W T).length → t i = nI (cs_g (cs_cat W T) i))
    (K : post (nI (cs_g (W j) k))) : wpY_symbolOf post (nI (cs_cat W T).length, nI T.length, nI wc, nI P.length, t, bB, bW, bL, bP) (nI j) (nI k) := by
  obtain ⟨⟨hw4, hw60⟩, hWl, hW4, hTw, htx, h6, hP4⟩ := hF
  unfold wpY_symbolOf
  by_cases h4 : 4 ≤ j
  · obtain ⟨q, h1, h2, h3, h5⟩ := hD j h4 hj
    have e := ht (q + k) (by omega)
    rw [h5 k hk] at e
    refine br_t (nI_le (a := 4) h4 (by omega)) (And.intro (vp_in_nI (by omega) (by decide)) ?_)
    rw [cs_rd h1 (by omega), nI_add, cs_rd e (by omega)]
    exact And.intro (vp_in_nI (by omega) (by decide)) K
  · have e := hW4 j (by omega)
    have hk0 : k = 0 := by
      rw [e] at hk
      have : [j].length = 1 := rfl
      omega
    rw [e, hk0] at K
    exact br_f (nI_ge (b := 4) (by omega) (by decide)) K
theorem cs_ylen {bT bB bW bL bP : Nat → Int32} {post : Int32 → Prop} (hF : cs_WF W T P wc) (hD : cs_DY W (cs_cat W T) wc bW bL) (hj : j < wc)
    (K : post (nI (W j).length)) : wpY_lengthOf post (nI (cs_cat W T).length, nI T.length, nI wc, nI P.length, bT, bB, bW, bL, bP) (nI j) := by
  obtain ⟨⟨hw4, hw60⟩, hWl, hW4, hTw, htx, h6, hP4⟩ := hF
  unfold wpY_lengthOf
  by_cases h4 : 4 ≤ j
  · obtain ⟨q, h1, h2, h3, h5⟩ := hD j h4 hj
    refine br_t (nI_le (a := 4) h4 (by omega)) (And.intro (vp_in_nI (by omega) (by decide)) ?_)
    rw [cs_rd h2 (by omega)]
    exact K
  · rw [hW4 j (by omega)] at K
    exact br_f (nI_ge (b := 4) (by omega) (by decide)) K
theorem cs_yf114 {bT bB bW bL bP : Nat → Int32} {post : Int32 → SY → Prop} (hF : cs_WF W T P wc) (hY : cs_Y W T P wc bT bB bW bL bP) (hA : cs_A W T wc j)
    (K1 : ∀ bT bB bW bL : Nat → Int32, cs_Y (cs_Nw W T wc j) (T ++ [j]) P (cs_nc T wc) bT bB bW bL bP → post (nI (cs_V W T wc j).length) (nI (cs_cat (cs_Nw W T wc j) (T ++ [j])).length, nI (T ++ [j]).length, nI (cs_nc T wc), nI P.length, bT, bB, bW, bL, bP)) :
    ∀ d k, k + d = (cs_V W T wc j).length → ∀ t : Nat → Int32, (∀ i, i < (cs_cat W T).length + k → t i = nI (cs_g (cs_cat W T ++ cs_V W T wc j) i)) → wY_feed_114 post (nI j) (nI (cs_off W T (T.length - 1))) (nI (cs_V W T wc j).length) (nI (cs_cat W T).length) (nI (cs_cat W T).length) (nI T.length) (nI wc) (nI P.length) (d + 1) (nI k) t bB bW bL bP := by
  obtain ⟨hT, hB, hD, hP⟩ := hY
  have hTl := cs_Tl hF
  have hvp := cs_V_pos hF hA.1
  have hal := hA.2
  have hjc := cs_A0_cases hF hA.1
  have hcat := cs_nw_cat2 hF hA.1
  have hcl : (cs_cat (cs_Nw W T wc j) (T ++ [j])).length = (cs_cat W T).length + (cs_V W T wc j).length := by rw [hcat, List.length_append]
  have hTl2 : (T ++ [j]).length = T.length + 1 := by rw [List.length_append]; rfl
  have hB2 := cs_B_put hF hA.1 hB
  have hF2 := hF
  obtain ⟨⟨hw4, hw60⟩, hWl, hW4, hTw, htx, h6, hP4⟩ := hF2
  intro d
  induction d with
  | zero =>
    intro k hk t ht
    have e : k = (cs_V W T wc j).length := by omega
    subst e
    have hT2 : ∀ i, i < (cs_cat (cs_Nw W T wc j) (T ++ [j])).length → t i = nI (cs_g (cs_cat (cs_Nw W T wc j) (T ++ [j])) i) := by
      intro i hi
      rw [hcl] at hi
      rw [hcat]
      exact ht i hi
    refine br_t (nI_le (Nat.le_refl _) (by omega)) (nm_r (nI_add _ _) ?_)
    have old : (T.length = 0 ∨ 60 ≤ wc) → wY_feed_222 post (nI (cs_V W T wc j).length) (nI (cs_cat W T).length) (nI ((cs_cat W T).length + (cs_V W T wc j).length)) (nI T.length) (nI wc) (nI P.length) t bB bW bL bP := by
      intro ho
      refine cs_yf222 (by omega) ?_
      have K := K1 t _ bW bL ⟨hT2, hB2, by rw [hcat, cs_nc_old ho]; exact cs_DY_old hD, hP⟩
      rw [hcl, hTl2, cs_nc_old ho] at K
      exact K
    by_cases hT0 : T.length = 0
    · exact br_t (nI_le (b := 0) (by omega) (by decide)) (old (Or.inl hT0))
    · refine br_f (nI_nle (by omega) (by omega)) ?_
      by_cases h60 : 60 ≤ wc
      · exact br_t (nI_le (a := 60) h60 (by omega)) (old (Or.inr h60))
      · have hlast := cs_lastw (W := W) hT0
        refine br_f (nI_ge (b := 60) (by omega) (by decide)) (And.intro (vp_in_nI (by omega) (by decide)) (nm_r (cs_upd (by omega) rfl) (And.intro (vp_in_nI (by omega) (by decide)) (nm_r (e' := upd bL wc (nI ((cs_cat W T).length - cs_off W T (T.length - 1) + 1))) (cs_upd (by omega) (by rw [pk_sub (by omega), nI_1])) (nm_r (nI_1 wc) ?_)))))
        refine cs_yf222 (by omega) ?_
        have K := K1 t _ _ _ ⟨hT2, hB2, by rw [hcat, cs_nc_new hT0 (by omega)]; exact cs_DY_new hF hA.1 hT0 hD, hP⟩
        rw [hcl, hTl2, cs_nc_new hT0 (by omega)] at K
        exact K
  | succ d ih =>
    intro k hk t ht
    have eg : cs_g (cs_cat W T ++ cs_V W T wc j) ((cs_cat W T).length + k) = cs_g (cs_V W T wc j) k := cs_g_app_r
    have ih2 := ih (k + 1) (by omega) _ (cs_txt_put (n := (cs_cat W T).length + k) ht)
    rw [eg] at ih2
    refine br_f (nI_ge (by omega) (by omega)) ?_
    rcases hjc with hjl | ⟨hje, hT0, h60⟩
    · refine br_f (nI_ge hjl (by omega)) ?_
      refine cs_ysym (P := P) hF hD hjl (by rw [← cs_V_lt (W := W) (T := T) hjl]; omega) (fun i hi => ?_) ?_
      · have := ht i (by omega)
        rw [cs_g_app_l hi] at this
        exact this
      · rw [nI_add, ← cs_V_lt (W := W) (T := T) hjl]
        exact And.intro (vp_in_nI (by omega) (by decide)) (nm_r (cs_upd (by omega) rfl) (nm_r (nI_1 k) ih2))
    · subst hje
      have hlast := cs_lastw (W := W) hT0
      have hbw := hWl _ (cs_bb_lt hF hT0)
      have hvl := cs_V_len_eq (W := W) (T := T) (wc := j)
      have e1 : t (cs_off W T (T.length - 1) + k) = nI (cs_g (cs_V W T j j) k) := by
        rw [ht _ (by omega)]
        rcases Nat.lt_or_ge k (W (cs_bb T)).length with z | z
        · rw [cs_g_app_l (by omega), cs_V_eq, cs_g_app_l z]
          exact congrArg nI (cs_g_cat (W := W) (T := T) (i := T.length - 1) (by omega) z)
        · have e3 : k = (W (cs_bb T)).length + 0 := by omega
          have e4 : cs_off W T (T.length - 1) + k = (cs_cat W T).length + 0 := by omega
          rw [e4, cs_g_app_r, cs_V_0 hF hT0, cs_V_eq, e3, cs_g_app_r]
          rfl
      refine br_t (nI_le (Nat.le_refl _) (by omega)) ?_
      rw [nI_add, nI_add, cs_rd e1 (by omega)]
      exact And.intro (vp_in_nI (by omega) (by decide)) (And.intro (vp_in_nI (by omega) (by decide)) (nm_r (cs_upd (by omega) rfl) (nm_r (nI_1 k) ih2)))
theorem cs_yf43 {bT bB bW bL bP : Nat → Int32} {post : Int32 → SY → Prop} (hF : cs_WF W T P wc) (hY : cs_Y W T P wc bT bB bW bL bP) (h : cs_A0 T wc j)
    (K0 : ¬ cs_A W T wc j → post (-1) (nI (cs_cat W T).length, nI T.length, nI wc, nI P.length, bT, bB, bW, bL, bP))
    (K1 : cs_A W T wc j → ∀ bT bB bW bL : Nat → Int32, cs_Y (cs_Nw W T wc j) (T ++ [j]) P (cs_nc T wc) bT bB bW bL bP → post (nI (cs_V W T wc j).length) (nI (cs_cat (cs_Nw W T wc j) (T ++ [j])).length, nI (T ++ [j]).length, nI (cs_nc T wc), nI P.length, bT, bB, bW, bL, bP)) :
    wY_feed_43 post (nI j) (nI (cs_cat W T).length) (nI T.length) (nI wc) (nI P.length) bT bB bW bL bP := by
  have hTl := cs_Tl hF
  have hjc := cs_A0_cases hF h
  have hF2 := hF
  obtain ⟨⟨hw4, hw60⟩, hWl, hW4, hTw, htx, h6, hP4⟩ := hF2
  have hB := hY.2.1
  have hD := hY.2.2.1
  have ho := cs_off_le W T (T.length - 1)
  have h90 : (cs_V W T wc j).length ≤ 251 → wY_feed_90 post (nI j) (nI (cs_off W T (T.length - 1))) (nI (cs_V W T wc j).length) (nI (cs_cat W T).length) (nI T.length) (nI wc) (nI P.length) bT bB bW bL bP := by
    intro hvl
    unfold wY_feed_90
    rw [nI_add]
    by_cases z : (cs_cat W T).length + (cs_V W T wc j).length ≤ 250
    · refine br_t (nI_le (b := 250) z (by decide)) ⟨(cs_V W T wc j).length + 1, ?_⟩
      refine cs_yf114 hF hY ⟨h, z⟩ (K1 ⟨h, z⟩) _ 0 (by omega) bT ?_
      intro i hi
      rw [cs_g_app_l (by omega)]
      exact hY.1 i (by omega)
    · exact br_f (nI_ge (a := 250) (by omega) (by omega)) (K0 (fun y => z y.2))
  have h65 : wY_feed_65 post (nI j) (nI (cs_off W T (T.length - 1))) (nI (cs_cat W T).length) (nI T.length) (nI wc) (nI P.length) bT bB bW bL bP := by
    rcases hjc with hjl | ⟨hje, hT0, h60⟩
    · have hjw := hWl j hjl
      rw [cs_V_lt hjl] at h90
      exact br_f (nI_ge hjl (by omega)) (cs_ylen hF hD hjl (h90 (by omega)))
    · subst hje
      have hlast := cs_lastw (W := W) hT0
      have hbw := hWl _ (cs_bb_lt hF hT0)
      have hvl := cs_V_len_eq (W := W) (T := T) (wc := j)
      refine br_t (nI_le (Nat.le_refl _) (by omega)) ?_
      rw [pk_sub ho, nI_1, show (cs_cat W T).length - cs_off W T (T.length - 1) + 1 = (cs_V W T j j).length by omega]
      exact h90 (by omega)
  by_cases hT0 : T.length = 0
  · refine br_t (nI_le (b := 0) (by omega) (by decide)) ?_
    rw [show T.length - 1 = 0 by omega, cs_off_0] at h65
    exact h65
  · refine br_f (nI_nle (by omega) (by omega)) ?_
    have et : nI T.length - 1 = nI (T.length - 1) := pk_sub (a := T.length) (b := 1) (by omega)
    rw [et, cs_rd (hB (T.length - 1) (by omega)) (by omega)]
    exact And.intro (vp_in_nI (by omega) (by decide)) h65
theorem cs_yfeed {bT bB bW bL bP : Nat → Int32} {post : Int32 → SY → Prop} (hF : cs_WF W T P wc) (hY : cs_Y W T P wc bT bB bW bL bP) (hj : j < 2147483648)
    (K0 : ¬ cs_A W T wc j → post (-1) (nI (cs_cat W T).length, nI T.length, nI wc, nI P.length, bT, bB, bW, bL, bP))
    (K1 : cs_A W T wc j → ∀ bT bB bW bL : Nat → Int32, cs_Y (cs_Nw W T wc j) (T ++ [j]) P (cs_nc T wc) bT bB bW bL bP → post (nI (cs_V W T wc j).length) (nI (cs_cat (cs_Nw W T wc j) (T ++ [j])).length, nI (T ++ [j]).length, nI (cs_nc T wc), nI P.length, bT, bB, bW, bL, bP)) :
    wpY_feed post (nI (cs_cat W T).length, nI T.length, nI wc, nI P.length, bT, bB, bW, bL, bP) (nI j) := by
  have hTl := cs_Tl hF
  have hF2 := hF
  obtain ⟨⟨hw4, hw60⟩, hWl, hW4, hTw, htx, h6, hP4⟩ := hF2
  have h16 : (T.length = 0 → j < 4) → wY_feed_16 post (nI j) (nI (cs_cat W T).length) (nI T.length) (nI wc) (nI P.length) bT bB bW bL bP := by
    intro h1
    by_cases hjw : wc < j
    · exact br_t (nI_lt hjw hj) (K0 (fun z => by have := z.1.2.1; omega))
    · refine br_f (nI_nlt (by omega) (by omega)) ?_
      by_cases hje : j = wc
      · refine br_t (by rw [hje]) ?_
        by_cases h60 : wc = 60
        · exact br_t (by rw [h60]; rfl) (K0 (fun z => z.1.2.2 ⟨hje, h60⟩))
        · refine br_f (fun z => h60 ((nI_eq (b := 60) (by omega) (by decide)).mp z)) ?_
          exact cs_yf43 hF hY ⟨h1, by omega, fun y => h60 y.2⟩ K0 K1
      · refine br_f (fun z => hje ((nI_eq (by omega) (by omega)).mp z)) ?_
        exact cs_yf43 hF hY ⟨h1, by omega, fun y => hje y.1⟩ K0 K1
  unfold wpY_feed
  refine br_f (nI_pos (by omega)) ?_
  by_cases hT0 : T.length = 0
  · refine br_t (by rw [hT0]; rfl) ?_
    by_cases hj4 : j < 4
    · exact br_f (nI_nlt (a := 3) (by omega) (by decide)) (h16 (fun _ => hj4))
    · exact br_t (nI_lt (a := 3) (by omega) hj) (K0 (fun z => hj4 (z.1.1 hT0)))
  · exact br_f (nI_ne0 (by omega) (by omega)) (h16 (fun y => absurd y hT0))
end
end
section
/-! ===== answers out of a known run ===== -/
section
variable {W : Nat → List Nat} {T P : List Nat} {wc : Nat} {fE fM fF fP fI : Int32}
theorem cs_Kn_M (h : cs_Kn W T P fE fM fF fP fI) : nI (cs_bt P (cs_cat W T)) = fM := by
  unfold cs_bt
  rcases h with ⟨h0, _, hM, _⟩ | ⟨h0, _, hM, _⟩
  · rw [if_pos h0, hM]; rfl
  · rw [if_neg (by omega), hM]
theorem cs_Kn_E (h : cs_Kn W T P fE fM fF fP fI) : nI (cs_dl P (cs_cat W T)) = fE := by
  rcases h with ⟨h0, hE, _⟩ | ⟨h0, hE, _⟩
  · have := cs_dl_le P (cs_cat W T)
    rw [show cs_dl P (cs_cat W T) = 0 by omega, hE]
    rfl
  · rw [hE, cs_rn_0]
theorem cs_Kn_I (h : cs_Kn W T P fE fM fF fP fI) : nI (cs_in P W T) = fI := by
  rcases h with ⟨h0, _, _, _, _, hI⟩ | ⟨h0, _, _, _, _, hI⟩
  · rw [cs_in_0 W h0, hI]; rfl
  · rw [hI]
theorem cs_Kn_F1 (h : cs_Kn W T P fE fM fF fP fI) {q : Nat} (hq : cs_ok P (cs_cat W T) q) (hn : ∀ j, j < q → ¬ cs_ok P (cs_cat W T) j) : nI q = fF := by
  have hp := hq.1
  rcases h with ⟨h0, _⟩ | ⟨h0, _, _, hF, _⟩
  · omega
  · rw [hF, cs_first_at hq hn]
    unfold cs_pl
    rw [if_neg (by omega), Nat.add_sub_cancel]
theorem cs_Kn_F0 (h : cs_Kn W T P fE fM fF fP fI) (hn : ∀ j, ¬ cs_ok P (cs_cat W T) j) : -1 = fF := by
  rcases h with ⟨h0, _, _, hF, _⟩ | ⟨h0, _, _, hF, _⟩
  · rw [hF]
  · rw [hF, cs_first_no h0 hn]
    rfl
theorem cs_Kn_P1 (h : cs_Kn W T P fE fM fF fP fI) {q : Nat} (hq : cs_ok P (cs_cat W T) q) (hn : ∀ j, q < j → ¬ cs_ok P (cs_cat W T) j) : nI q = fP := by
  have hp := hq.1
  rcases h with ⟨h0, _⟩ | ⟨h0, _, _, _, hF, _⟩
  · omega
  · rw [hF, cs_last_at hq hn]
    unfold cs_pl
    rw [if_neg (by omega), Nat.add_sub_cancel]
theorem cs_Kn_P0 (h : cs_Kn W T P fE fM fF fP fI) (hn : ∀ j, ¬ cs_ok P (cs_cat W T) j) : -1 = fP := by
  rcases h with ⟨h0, _, _, _, hF, _⟩ | ⟨h0, _, _, _, hF, _⟩
  · rw [hF]
  · rw [hF, cs_last_no h0 hn]
    rfl
end
/-! ===== the pattern loses its first symbol ===== -/
def cs_Sh (P : List Nat) (a : Nat → Int32) (k : Nat) : Prop := (∀ i, i + 1 < k → a i = nI (cs_g P (i + 1))) ∧ (∀ i, k ≤ i → i < P.length → a i = nI (cs_g P i))
theorem cs_Sh_put {P : List Nat} {a : Nat → Int32} {k : Nat} (h1 : 1 ≤ k) (hk : k < P.length) (h : cs_Sh P a k) : cs_Sh P (upd a (k - 1) (nI (cs_g P k))) (k + 1) := by
  refine ⟨?_, ?_⟩
  · intro i hi
    by_cases e : i = k - 1
    · rw [e, pk_us, show k - 1 + 1 = k by omega]
    · rw [pk_un e]
      exact h.1 i (by omega)
  · intro i hi hl
    rw [pk_un (by omega)]
    exact h.2 i (by omega) hl
theorem cs_Sh_end {P : List Nat} {a : Nat → Int32} (h : cs_Sh P a P.length) : ∀ i, i < (P.drop 1).length → a i = nI (cs_g (P.drop 1) i) := by
  intro i hi
  rw [List.length_drop] at hi
  rw [cs_g_drop, Nat.add_comm 1 i]
  exact h.1 i (by omega)
theorem cs_xsh18 {P : List Nat} {x1 : Int32} {fW fT fL fB fK fE fM fF fP fI : Int32} {aSh aLa aFi aLe aTa aSt aAf aMe aFe aLE : Nat → Int32} {post : Int32 → SX → Prop} (h6 : P.length ≤ 6) (h0 : 0 < P.length) (hP4 : ∀ i, i < P.length → cs_g P i < 4)
    (K : ∀ aSy : Nat → Int32, (∀ i, i < (P.drop 1).length → aSy i = nI (cs_g (P.drop 1) i)) → post x1 (fW, fT, fL, nI (P.drop 1).length, 0, 0, fE, fM, fF, fP, fI, aSh, aLa, aFi, aLe, aTa, aSy, aSt, aAf, aMe, aFe, aLE)) :
    ∀ d k, k + d = P.length → 1 ≤ k → ∀ aSy : Nat → Int32, cs_Sh P aSy k → wX_shorten_18 post x1 fW fT fL (nI P.length) fB fK fE fM fF fP fI (d + 1) (nI k) aSh aLa aFi aLe aTa aSy aSt aAf aMe aFe aLE := by
  intro d
  induction d with
  | zero =>
    intro k hk h1 aSy hS
    have e : k = P.length := by omega
    subst e
    have K2 := K aSy (cs_Sh_end hS)
    rw [List.length_drop] at K2
    exact br_t (nI_le (Nat.le_refl _) (by omega)) (nm_r (pk_sub (a := P.length) (b := 1) h0) K2)
  | succ d ih =>
    intro k hk h1 aSy hS
    have hkl : k < P.length := by omega
    have hk4 := hP4 k hkl
    have et : nI k - 1 = nI (k - 1) := pk_sub (a := k) (b := 1) h1
    refine br_f (nI_ge hkl (by omega)) (And.intro (vp_in_nI (by omega) (by decide)) ?_)
    rw [et, cs_rd (hS.2 k (Nat.le_refl _) hkl) (by omega)]
    exact And.intro (vp_in_nI (by omega) (by decide)) (nm_r (cs_upd (by omega) (cs_vb (by omega))) (nm_r (nI_1 k) (ih (k + 1) (by omega) (by omega) _ (cs_Sh_put h1 hkl hS))))
theorem cs_ysh18 {P : List Nat} {x1 : Int32} {gS gC gW : Int32} {bT bB bW bL : Nat → Int32} {post : Int32 → SY → Prop} (h6 : P.length ≤ 6) (h0 : 0 < P.length)
    (K : ∀ bP : Nat → Int32, (∀ i, i < (P.drop 1).length → bP i = nI (cs_g (P.drop 1) i)) → post x1 (gS, gC, gW, nI (P.drop 1).length, bT, bB, bW, bL, bP)) :
    ∀ d k, k + d = P.length → 1 ≤ k → ∀ bP : Nat → Int32, cs_Sh P bP k → wY_shorten_18 post x1 gS gC gW (nI P.length) (d + 1) (nI k) bT bB bW bL bP := by
  intro d
  induction d with
  | zero =>
    intro k hk h1 bP hS
    have e : k = P.length := by omega
    subst e
    have K2 := K bP (cs_Sh_end hS)
    rw [List.length_drop] at K2
    exact br_t (nI_le (Nat.le_refl _) (by omega)) (nm_r (pk_sub (a := P.length) (b := 1) h0) K2)
  | succ d ih =>
    intro k hk h1 bP hS
    have hkl : k < P.length := by omega
    have et : nI k - 1 = nI (k - 1) := pk_sub (a := k) (b := 1) h1
    refine br_f (nI_ge hkl (by omega)) (And.intro (vp_in_nI (by omega) (by decide)) ?_)
    rw [et, cs_rd (hS.2 k (Nat.le_refl _) hkl) (by omega)]
    exact And.intro (vp_in_nI (by omega) (by decide)) (nm_r (cs_upd (by omega) rfl) (nm_r (nI_1 k) (ih (k + 1) (by omega) (by omega) _ (cs_Sh_put h1 hkl hS))))
theorem cs_Sh_1 {P : List Nat} {a : Nat → Int32} (h : ∀ i, i < P.length → a i = nI (cs_g P i)) : cs_Sh P a 1 := ⟨fun i hi => absurd hi (by omega), fun i _ hl => h i hl⟩
/-! ===== the constructor ===== -/
theorem cs_init {post : SX → Prop} {aTa aSy aSt aAf aMe aFe aLE : Nat → Int32} {fW fT fL fS fB fK fE fM fF fP fI : Int32} (K : ∀ aSh aLa aFi aLe : Nat → Int32, cs_DX (fun w => [w]) 4 aSh aLa aFi aLe → post (fW, fT, fL, fS, fB, fK, fE, fM, fF, fP, fI, aSh, aLa, aFi, aLe, aTa, aSy, aSt, aAf, aMe, aFe, aLE)) :
    ∀ d i, i + d = 4 → ∀ aSh aLa aFi aLe : Nat → Int32, cs_DX (fun w => [w]) i aSh aLa aFi aLe → wX_init_104 post fW fT fL fS fB fK fE fM fF fP fI (d + 1) (nI i) aSh aLa aFi aLe aTa aSy aSt aAf aMe aFe aLE := by
  intro d
  induction d with
  | zero =>
    intro i hi aSh aLa aFi aLe hD
    have e : i = 4 := by omega
    subst e
    exact br_t (nI_le (a := 4) (b := 4) (by omega) (by decide)) (K _ _ _ _ hD)
  | succ d ih =>
    intro i hi aSh aLa aFi aLe hD
    refine br_f (nI_ge (b := 4) (by omega) (by decide)) ?_
    refine And.intro (vp_in_nI (by omega) (by decide)) (nm_r (cs_upd (y := -1) (by omega) (by rw [vp_nar_byte]; decide)) (And.intro (vp_in_nI (by omega) (by decide)) (nm_r (cs_upd (by omega) (cs_vbb (by omega))) (And.intro (vp_in_nI (by omega) (by decide)) (nm_r (cs_upd (by omega) (cs_vbb (by omega))) (And.intro (vp_in_nI (by omega) (by decide)) (nm_r (cs_upd (y := nI 1) (by omega) (by rw [vp_nar_short]; decide)) (nm_r (nI_1 i) ?_))))))))
    refine ih (i + 1) (by omega) _ _ _ _ ?_
    intro w hw
    by_cases e : w = i
    · rw [e, pk_us, pk_us, pk_us, pk_us]
      exact ⟨rfl, rfl, [], i, rfl, by omega, rfl, Or.inl ⟨rfl, rfl⟩⟩
    · rw [pk_un e, pk_un e, pk_un e, pk_un e]
      exact hD w (by omega)
end
section
theorem i_vc0 : wpX_init (fun u => wpY_init (fun v => i_Rel 0 u v)) := by
  refine ⟨4 + 1, cs_init ?_ 4 0 rfl _ _ _ _ (fun w hw => absurd hw (by omega))⟩
  intro aSh aLa aFi aLe hD
  refine cs_mk (k := 0) (W := fun w => [w]) (T := []) (P := []) (wc := 4) ?_ ?_ ?_
  · refine ⟨⟨by omega, by omega⟩, ?_, fun w _ => rfl, fun i hi => absurd hi (Nat.not_lt_zero _), Nat.zero_le _, Nat.zero_le _, fun i hi => absurd hi (Nat.not_lt_zero _)⟩
    intro w hw
    refine ⟨Nat.succ_pos _, by show 1 ≤ 250; omega, ?_⟩
    intro k hk
    have hk1 : k < 1 := hk
    have e : k = 0 := by omega
    rw [e]
    exact hw
  · exact ⟨hD, fun i hi => absurd hi (Nat.not_lt_zero _), fun i hi => absurd hi (Nat.not_lt_zero _), ⟨0, rfl, Nat.zero_le _, fun z => absurd rfl z⟩, Or.inl rfl⟩
  · exact ⟨fun i hi => absurd hi (Nat.not_lt_zero _), fun i hi => by rw [Nat.le_zero.mp hi]; rfl, fun w h4 hw => absurd hw (by omega), fun i hi => absurd hi (Nat.not_lt_zero _)⟩
theorem i_vc_feed {k : Nat} {u : SX} {v : SY} (I : i_Rel k u v) (hk : k + 3 ≤ 1536) (v1 : Int32) : wpX_feed (fun r u' => wpY_feed (fun r' v' => r' = r ∧ i_Rel (k + 3) u' v') v v1) u v1 := by
  refine cs_el (Q := fun u v => wpX_feed (fun r u' => wpY_feed (fun r' v' => r' = r ∧ i_Rel (k + 3) u' v') v v1) u v1) I ?_
  intro W T P wc fB fK fE fM fF fP fI aSh aLa aFi aLe aTa aSy aSt aAf aMe aFe aLE bT bB bW bL bP hF hX hY
  by_cases hneg : v1 < 0
  · unfold wpX_feed wpX_allowed
    refine br_t hneg (br_t rfl ?_)
    unfold wpY_feed
    exact br_t hneg ⟨rfl, cs_mk hF hX hY⟩
  · obtain ⟨j, hj, rfl⟩ := nI_of hneg
    refine cs_xfeed hF hX (by omega) ?_ ?_
    · intro hA
      exact cs_yfeed hF hY (by omega) (fun _ => ⟨rfl, cs_mk hF hX hY⟩) (fun z => absurd z hA)
    · intro hA sh la fi le ta hX2
      exact cs_yfeed hF hY (by omega) (fun z => absurd hA z) (fun _ t b w l hY2 => ⟨rfl, cs_mk (cs_nw_WF hF hA) hX2 hY2⟩)
theorem i_vc_restart {k : Nat} {u : SX} {v : SY} (I : i_Rel k u v) (hk : k + 3 ≤ 1536) : wpX_restart (fun u' => wpY_restart (fun v' => i_Rel (k + 3) u' v') v) u := by
  refine cs_el (Q := fun u v => wpX_restart (fun u' => wpY_restart (fun v' => i_Rel (k + 3) u' v') v) u) I ?_
  intro W T P wc fB fK fE fM fF fP fI aSh aLa aFi aLe aTa aSy aSt aAf aMe aFe aLE bT bB bW bL bP hF hX hY
  obtain ⟨hD, hTa, hSy, ⟨tb, rfl, htb, hok⟩, hK⟩ := hX
  obtain ⟨⟨hw4, hw60⟩, hWl, hW4, hTw, htx, h6, hP4⟩ := hF
  have hF2 : cs_WF W [] P 4 := ⟨⟨by omega, by omega⟩, fun w hw => hWl w (by omega), hW4, fun i hi => absurd hi (Nat.not_lt_zero _), Nat.zero_le _, h6, hP4⟩
  have hD2 : cs_DX W 4 aSh aLa aFi aLe := fun w hw => hD w (by omega)
  have hY2 : cs_Y W [] P 4 bT bB bW bL bP := by
    refine ⟨fun i hi => absurd hi (Nat.not_lt_zero _), ?_, fun w h4 hw => absurd hw (by omega), hY.2.2.2⟩
    intro i hi
    have e : i = 0 := Nat.le_zero.mp hi
    rw [e, hY.2.1 0 (Nat.zero_le _), cs_off_0, cs_off_0]
  unfold wpX_restart wpY_restart
  by_cases h4 : tb ≤ 4
  · refine br_t (nI_le (b := 4) h4 (by decide)) ?_
    exact cs_mk (T := []) (wc := 4) hF2 ⟨hD2, fun i hi => absurd hi (Nat.not_lt_zero _), hSy, ⟨tb, rfl, h4, hok⟩, Or.inl rfl⟩ hY2
  · refine br_f (nI_ge (a := 4) (by omega) (by omega)) ?_
    have hok2 := hok (by omega)
    exact cs_mk (T := []) (wc := 4) hF2 ⟨hD2, fun i hi => absurd hi (Nat.not_lt_zero _), hSy, ⟨4, rfl, Nat.le_refl _, fun _ => ⟨Nat.le_refl _, hok2.2.1, fun w' s' hs' hw => hok2.2.2 w' s' hs' (by omega)⟩⟩, Or.inl rfl⟩ hY2
theorem i_vc_extend {k : Nat} {u : SX} {v : SY} (I : i_Rel k u v) (hk : k + 3 ≤ 1536) (v1 : Int32) : wpX_extend (fun r u' => wpY_extend (fun r' v' => r' = r ∧ i_Rel (k + 3) u' v') v v1) u v1 := by
  refine cs_el (Q := fun u v => wpX_extend (fun r u' => wpY_extend (fun r' v' => r' = r ∧ i_Rel (k + 3) u' v') v v1) u v1) I ?_
  intro W T P wc fB fK fE fM fF fP fI aSh aLa aFi aLe aTa aSy aSt aAf aMe aFe aLE bT bB bW bL bP hF hX hY
  have H : ∀ {r : Int32}, r = r ∧ i_Rel (k + 3) (nI wc, nI T.length, nI (cs_cat W T).length, nI P.length, fB, fK, fE, fM, fF, fP, fI, aSh, aLa, aFi, aLe, aTa, aSy, aSt, aAf, aMe, aFe, aLE) (nI (cs_cat W T).length, nI T.length, nI wc, nI P.length, bT, bB, bW, bL, bP) := ⟨rfl, cs_mk hF hX hY⟩
  unfold wpX_extend wpY_extend
  by_cases hneg : v1 < 0
  · exact br_t hneg (br_t hneg H)
  · obtain ⟨j, hj, rfl⟩ := nI_of hneg
    by_cases h3 : 3 < j
    · have h3' : (3 : Int32) < nI j := nI_lt (a := 3) h3 hj
      exact br_f hneg (br_t h3' (br_f hneg (br_t h3' H)))
    · have h3' : ¬ (3 : Int32) < nI j := nI_nlt (a := 3) (by omega) (by decide)
      obtain ⟨hD, hTa, hSy, hB, hK⟩ := hX
      have hF2 := hF
      obtain ⟨⟨hw4, hw60⟩, hWl, hW4, hTw, htx, h6, hP4⟩ := hF2
      by_cases hs : P.length < 6
      · have hs' : nI P.length < 6 := nI_lt (b := 6) hs (by decide)
        have hl : (P ++ [j]).length = P.length + 1 := by rw [List.length_append]; rfl
        have hsy := cs_Ta_put (j := j) hSy
        have hbp := cs_Ta_put (j := j) hY.2.2.2
        have hFn : cs_WF W T (P ++ [j]) wc := by
          refine ⟨⟨hw4, hw60⟩, hWl, hW4, hTw, htx, by omega, ?_⟩
          intro i hi
          rcases Nat.lt_or_ge i P.length with z | z
          · rw [cs_g_app_l z]; exact hP4 i z
          · have e3 : i = P.length + 0 := by omega
            rw [e3, cs_g_app_r]
            show j < 4
            omega
        have M := cs_mk (k := k + 3) (fB := 0) (fK := 0) (fE := fE) (fM := fM) (fF := fF) (fP := fP) (fI := fI) (aSt := aSt) (aAf := aAf) (aMe := aMe) (aFe := aFe) (aLE := aLE) hFn ⟨hD, hTa, hsy, ⟨0, rfl, Nat.zero_le _, fun z => absurd rfl z⟩, Or.inl rfl⟩ ⟨hY.1, hY.2.1, hY.2.2.1, hbp⟩
        rw [hl] at M
        refine br_f hneg (br_f h3' (br_t hs' (And.intro (vp_in_nI hs (by decide)) (nm_r (cs_upd (by omega) (cs_vbb (by omega))) (nm_r (nI_1 _) ?_)))))
        show (nI j < 0 → _) ∧ (¬ nI j < 0 → _)
        exact br_f hneg (br_f h3' (br_t hs' (And.intro (vp_in_nI hs (by decide)) (nm_r (cs_upd (by omega) rfl) (nm_r (nI_1 _) ⟨rfl, M⟩)))))
      · have hs' : ¬ nI P.length < 6 := nI_nlt (b := 6) (by omega) (by omega)
        exact br_f hneg (br_f h3' (br_f hs' (br_f hneg (br_f h3' (br_f hs' H)))))
theorem i_vc_shorten {k : Nat} {u : SX} {v : SY} (I : i_Rel k u v) (hk : k + 3 ≤ 1536) : wpX_shorten (fun r u' => wpY_shorten (fun r' v' => r' = r ∧ i_Rel (k + 3) u' v') v) u := by
  refine cs_el (Q := fun u v => wpX_shorten (fun r u' => wpY_shorten (fun r' v' => r' = r ∧ i_Rel (k + 3) u' v') v) u) I ?_
  intro W T P wc fB fK fE fM fF fP fI aSh aLa aFi aLe aTa aSy aSt aAf aMe aFe aLE bT bB bW bL bP hF hX hY
  unfold wpX_shorten
  by_cases h0 : P.length = 0
  · have z : nI P.length = 0 := by rw [h0]; rfl
    refine br_t z ?_
    unfold wpY_shorten
    exact br_t z ⟨rfl, cs_mk hF hX hY⟩
  · have z : ¬ nI P.length = 0 := nI_ne0 (by omega) (by have := hF.2.2.2.2.2.1; omega)
    obtain ⟨hD, hTa, hSy, hB, hK⟩ := hX
    obtain ⟨⟨hw4, hw60⟩, hWl, hW4, hTw, htx, h6, hP4⟩ := hF
    have hl : (P.drop 1).length = P.length - 1 := List.length_drop
    have hFn : cs_WF W T (P.drop 1) wc := by
      refine ⟨⟨hw4, hw60⟩, hWl, hW4, hTw, htx, by omega, ?_⟩
      intro i hi
      rw [cs_g_drop]
      exact hP4 _ (by omega)
    refine br_f z (nm_r (hSy 0 (by omega)) ⟨P.length - 1 + 1, cs_xsh18 h6 (by omega) hP4 ?_ (P.length - 1) 1 (by omega) (by omega) aSy (cs_Sh_1 hSy)⟩)
    intro sy hsy
    unfold wpY_shorten
    refine br_f z (nm_r (hY.2.2.2 0 (by omega)) ⟨P.length - 1 + 1, cs_ysh18 h6 (by omega) ?_ (P.length - 1) 1 (by omega) (by omega) bP (cs_Sh_1 hY.2.2.2)⟩)
    intro bp hbp
    exact ⟨rfl, cs_mk hFn ⟨hD, hTa, hsy, ⟨0, rfl, Nat.zero_le _, fun z => absurd rfl z⟩, Or.inl rfl⟩ ⟨hY.1, hY.2.1, hY.2.2.1, hbp⟩⟩
theorem i_vc_pattern {k : Nat} {u : SX} {v : SY} (I : i_Rel k u v) (hk : k + 3 ≤ 1536) : wpX_pattern (fun r => wpY_pattern (fun r' => r' = r ∧ i_Rel (k + 3) u v) v) u := by
  refine cs_el (Q := fun u v => wpX_pattern (fun r => wpY_pattern (fun r' => r' = r ∧ i_Rel (k + 3) u v) v) u) I ?_
  intro W T P wc fB fK fE fM fF fP fI aSh aLa aFi aLe aTa aSy aSt aAf aMe aFe aLE bT bB bW bL bP hF hX hY
  exact And.intro rfl (cs_mk hF hX hY)
theorem i_vc_codes {k : Nat} {u : SX} {v : SY} (I : i_Rel k u v) (hk : k + 3 ≤ 1536) : wpX_codes (fun r => wpY_codes (fun r' => r' = r ∧ i_Rel (k + 3) u v) v) u := by
  refine cs_el (Q := fun u v => wpX_codes (fun r => wpY_codes (fun r' => r' = r ∧ i_Rel (k + 3) u v) v) u) I ?_
  intro W T P wc fB fK fE fM fF fP fI aSh aLa aFi aLe aTa aSy aSt aAf aMe aFe aLE bT bB bW bL bP hF hX hY
  exact And.intro rfl (cs_mk hF hX hY)
theorem i_vc_words {k : Nat} {u : SX} {v : SY} (I : i_Rel k u v) (hk : k + 3 ≤ 1536) : wpX_words (fun r => wpY_words (fun r' => r' = r ∧ i_Rel (k + 3) u v) v) u := by
  refine cs_el (Q := fun u v => wpX_words (fun r => wpY_words (fun r' => r' = r ∧ i_Rel (k + 3) u v) v) u) I ?_
  intro W T P wc fB fK fE fM fF fP fI aSh aLa aFi aLe aTa aSy aSt aAf aMe aFe aLE bT bB bW bL bP hF hX hY
  exact And.intro rfl (cs_mk hF hX hY)
theorem i_vc_wordLength {k : Nat} {u : SX} {v : SY} (I : i_Rel k u v) (hk : k + 3 ≤ 1536) (v1 : Int32) : wpX_wordLength (fun r => wpY_wordLength (fun r' => r' = r ∧ i_Rel (k + 3) u v) v v1) u v1 := by
  refine cs_el (Q := fun u v => wpX_wordLength (fun r => wpY_wordLength (fun r' => r' = r ∧ i_Rel (k + 3) u v) v v1) u v1) I ?_
  intro W T P wc fB fK fE fM fF fP fI aSh aLa aFi aLe aTa aSy aSt aAf aMe aFe aLE bT bB bW bL bP hF hX hY
  have H : ∀ {r : Int32}, r = r ∧ i_Rel (k + 3) (nI wc, nI T.length, nI (cs_cat W T).length, nI P.length, fB, fK, fE, fM, fF, fP, fI, aSh, aLa, aFi, aLe, aTa, aSy, aSt, aAf, aMe, aFe, aLE) (nI (cs_cat W T).length, nI T.length, nI wc, nI P.length, bT, bB, bW, bL, bP) := ⟨rfl, cs_mk hF hX hY⟩
  have hw60 := hF.1.2
  unfold wpX_wordLength wpX_isWord wpY_wordLength
  by_cases hneg : v1 < 0
  · exact br_t hneg (br_t rfl (br_t hneg H))
  · obtain ⟨j, hj, rfl⟩ := nI_of hneg
    by_cases hw : j < wc
    · refine br_f hneg (br_f (nI_ge hw (by omega)) (br_f (by decide) (And.intro (vp_in_nI (by omega) (by decide)) ?_)))
      refine br_f hneg (br_t (nI_lt hw (by omega)) ?_)
      refine cs_ylen hF hY.2.2.1 hw ?_
      refine And.intro ?_ (cs_mk hF hX hY)
      exact (cs_rd (hX.1 j hw).1 (by omega)).symm
    · exact br_f hneg (br_t (nI_le (by omega) hj) (br_t rfl (br_f hneg (br_f (nI_nlt (by omega) hj) H))))
theorem i_vc_wordSymbol {k : Nat} {u : SX} {v : SY} (I : i_Rel k u v) (hk : k + 3 ≤ 1536) (v1 : Int32) (v2 : Int32) : wpX_wordSymbol (fun r => wpY_wordSymbol (fun r' => r' = r ∧ i_Rel (k + 3) u v) v v1 v2) u v1 v2 := by
  refine cs_el (Q := fun u v => wpX_wordSymbol (fun r => wpY_wordSymbol (fun r' => r' = r ∧ i_Rel (k + 3) u v) v v1 v2) u v1 v2) I ?_
  intro W T P wc fB fK fE fM fF fP fI aSh aLa aFi aLe aTa aSy aSt aAf aMe aFe aLE bT bB bW bL bP hF hX hY
  have H : ∀ {r : Int32}, r = r ∧ i_Rel (k + 3) (nI wc, nI T.length, nI (cs_cat W T).length, nI P.length, fB, fK, fE, fM, fF, fP, fI, aSh, aLa, aFi, aLe, aTa, aSy, aSt, aAf, aMe, aFe, aLE) (nI (cs_cat W T).length, nI T.length, nI wc, nI P.length, bT, bB, bW, bL, bP) := ⟨rfl, cs_mk hF hX hY⟩
  have hw60 := hF.1.2
  unfold wpX_wordSymbol wpX_isWord wpY_wordSymbol
  by_cases hneg : v1 < 0
  · exact br_t hneg (br_t rfl (br_t hneg H))
  · obtain ⟨j, hj, rfl⟩ := nI_of hneg
    by_cases hw : j < wc
    · have hge : ¬ nI wc ≤ nI j := nI_ge hw (by omega)
      have hl := (hF.2.1 j hw).2.1
      refine br_f hneg (br_f hge (br_f (by decide) ?_))
      by_cases hn2 : v2 < 0
      · exact br_t hn2 (br_f hneg (br_f hge (br_t hn2 H)))
      · obtain ⟨m, hm, rfl⟩ := nI_of hn2
        refine br_f hn2 (And.intro (vp_in_nI (by omega) (by decide)) ?_)
        rw [cs_rd (hX.1 j hw).1 (by omega)]
        by_cases hml : m < (W j).length
        · refine br_t (nI_lt hml (by omega)) ?_
          refine cs_si hw60 hX.1 hw hl hml ?_
          refine br_f hneg (br_f hge (br_f hn2 ?_))
          refine cs_ylen hF hY.2.2.1 hw ?_
          refine br_t (nI_lt hml (by omega)) ?_
          exact cs_ysym hF hY.2.2.1 hw hml hY.1 H
        · refine br_f (nI_nlt (by omega) hm) ?_
          refine br_f hneg (br_f hge (br_f hn2 ?_))
          refine cs_ylen hF hY.2.2.1 hw ?_
          exact br_f (nI_nlt (by omega) hm) H
    · have hle : nI wc ≤ nI j := nI_le (by omega) hj
      exact br_f hneg (br_t hle (br_t rfl (br_f hneg (br_t hle H))))
theorem i_vc_length {k : Nat} {u : SX} {v : SY} (I : i_Rel k u v) (hk : k + 3 ≤ 1536) : wpX_length (fun r => wpY_length (fun r' => r' = r ∧ i_Rel (k + 3) u v) v) u := by
  refine cs_el (Q := fun u v => wpX_length (fun r => wpY_length (fun r' => r' = r ∧ i_Rel (k + 3) u v) v) u) I ?_
  intro W T P wc fB fK fE fM fF fP fI aSh aLa aFi aLe aTa aSy aSt aAf aMe aFe aLE bT bB bW bL bP hF hX hY
  exact And.intro rfl (cs_mk hF hX hY)
theorem i_vc_symbol {k : Nat} {u : SX} {v : SY} (I : i_Rel k u v) (hk : k + 3 ≤ 1536) (v1 : Int32) : wpX_symbol (fun r => wpY_symbol (fun r' => r' = r ∧ i_Rel (k + 3) u v) v v1) u v1 := by
  refine cs_el (Q := fun u v => wpX_symbol (fun r => wpY_symbol (fun r' => r' = r ∧ i_Rel (k + 3) u v) v v1) u v1) I ?_
  intro W T P wc fB fK fE fM fF fP fI aSh aLa aFi aLe aTa aSy aSt aAf aMe aFe aLE bT bB bW bL bP hF hX hY
  have H : ∀ {r : Int32}, r = r ∧ i_Rel (k + 3) (nI wc, nI T.length, nI (cs_cat W T).length, nI P.length, fB, fK, fE, fM, fF, fP, fI, aSh, aLa, aFi, aLe, aTa, aSy, aSt, aAf, aMe, aFe, aLE) (nI (cs_cat W T).length, nI T.length, nI wc, nI P.length, bT, bB, bW, bL, bP) := ⟨rfl, cs_mk hF hX hY⟩
  have htx := hF.2.2.2.2.1
  unfold wpX_symbol wpY_symbol
  by_cases hneg : v1 < 0
  · exact br_t hneg (br_t hneg H)
  · obtain ⟨j, hj, rfl⟩ := nI_of hneg
    by_cases hl : j < (cs_cat W T).length
    · have hlt : nI j < nI (cs_cat W T).length := nI_lt hl (by omega)
      have hT0 : T.length ≠ 0 := by
        intro z
        have e : T = [] := List.eq_nil_of_length_eq_zero z
        rw [e] at hl
        exact absurd hl (Nat.not_lt_zero _)
      refine br_f hneg (br_t hlt ⟨T.length - 1 + 1, cs_sy18 hF hX.1 hX.2.1 hl ?_ (T.length - 1) 0 j (by omega) (by rw [cs_off_0]; omega)⟩)
      refine br_f hneg (br_t hlt (And.intro (vp_in_nI (by omega) (by decide)) ?_))
      rw [cs_rd (hY.1 j hl) (by omega)]
      exact H
    · have hlt : ¬ nI j < nI (cs_cat W T).length := nI_nlt (by omega) hj
      exact br_f hneg (br_f hlt (br_f hneg (br_f hlt H)))
theorem i_vc_count {k : Nat} {u : SX} {v : SY} (I : i_Rel k u v) (hk : k + 3 ≤ 1536) : wpX_count (fun r u' => wpY_count (fun r' => r' = r ∧ i_Rel (k + 3) u' v) v) u := by
  refine cs_el (Q := fun u v => wpX_count (fun r u' => wpY_count (fun r' => r' = r ∧ i_Rel (k + 3) u' v) v) u) I ?_
  intro W T P wc fB fK fE fM fF fP fI aSh aLa aFi aLe aTa aSy aSt aAf aMe aFe aLE bT bB bW bL bP hF hX hY
  unfold wpX_count
  refine cs_xscan hF hX ?_
  intro fB fE fM fF fP fI st af me fe la hX2 hKn
  unfold wpY_count
  refine cs_ybt (a := 0) hF (cs_x4 hF) hY (Nat.zero_le _) (Nat.le_refl _) ?_
  rw [List.take_length, List.drop_zero]
  exact ⟨cs_Kn_M hKn, cs_mk hF hX2 hY⟩
theorem i_vc_first {k : Nat} {u : SX} {v : SY} (I : i_Rel k u v) (hk : k + 3 ≤ 1536) : wpX_first (fun r u' => wpY_first (fun r' => r' = r ∧ i_Rel (k + 3) u' v) v) u := by
  refine cs_el (Q := fun u v => wpX_first (fun r u' => wpY_first (fun r' => r' = r ∧ i_Rel (k + 3) u' v) v) u) I ?_
  intro W T P wc fB fK fE fM fF fP fI aSh aLa aFi aLe aTa aSy aSt aAf aMe aFe aLE bT bB bW bL bP hF hX hY
  unfold wpX_first
  refine cs_xscan hF hX ?_
  intro fB fE fM fF fP fI st af me fe la hX2 hKn
  refine cs_yfirst hF (cs_x4 hF) hY ?_ ?_
  · intro q h1 h2
    exact ⟨cs_Kn_F1 hKn h1 h2, cs_mk hF hX2 hY⟩
  · intro h
    exact ⟨cs_Kn_F0 hKn h, cs_mk hF hX2 hY⟩
theorem i_vc_last {k : Nat} {u : SX} {v : SY} (I : i_Rel k u v) (hk : k + 3 ≤ 1536) : wpX_last (fun r u' => wpY_last (fun r' => r' = r ∧ i_Rel (k + 3) u' v) v) u := by
  refine cs_el (Q := fun u v => wpX_last (fun r u' => wpY_last (fun r' => r' = r ∧ i_Rel (k + 3) u' v) v) u) I ?_
  intro W T P wc fB fK fE fM fF fP fI aSh aLa aFi aLe aTa aSy aSt aAf aMe aFe aLE bT bB bW bL bP hF hX hY
  unfold wpX_last
  refine cs_xscan hF hX ?_
  intro fB fE fM fF fP fI st af me fe la hX2 hKn
  refine cs_ylast hF (cs_x4 hF) hY ?_ ?_
  · intro q h1 h2
    exact ⟨cs_Kn_P1 hKn h1 h2, cs_mk hF hX2 hY⟩
  · intro h
    exact ⟨cs_Kn_P0 hKn h, cs_mk hF hX2 hY⟩
theorem i_vc_tail {k : Nat} {u : SX} {v : SY} (I : i_Rel k u v) (hk : k + 3 ≤ 1536) : wpX_tail (fun r u' => wpY_tail (fun r' => r' = r ∧ i_Rel (k + 3) u' v) v) u := by
  refine cs_el (Q := fun u v => wpX_tail (fun r u' => wpY_tail (fun r' => r' = r ∧ i_Rel (k + 3) u' v) v) u) I ?_
  intro W T P wc fB fK fE fM fF fP fI aSh aLa aFi aLe aTa aSy aSt aAf aMe aFe aLE bT bB bW bL bP hF hX hY
  unfold wpX_tail
  refine cs_xscan hF hX ?_
  intro fB fE fM fF fP fI st af me fe la hX2 hKn
  exact cs_ytail hF (cs_x4 hF) hY ⟨cs_Kn_E hKn, cs_mk hF hX2 hY⟩
theorem i_vc_within {k : Nat} {u : SX} {v : SY} (I : i_Rel k u v) (hk : k + 3 ≤ 1536) : wpX_within (fun r u' => wpY_within (fun r' => r' = r ∧ i_Rel (k + 3) u' v) v) u := by
  refine cs_el (Q := fun u v => wpX_within (fun r u' => wpY_within (fun r' => r' = r ∧ i_Rel (k + 3) u' v) v) u) I ?_
  intro W T P wc fB fK fE fM fF fP fI aSh aLa aFi aLe aTa aSy aSt aAf aMe aFe aLE bT bB bW bL bP hF hX hY
  unfold wpX_within
  refine cs_xscan hF hX ?_
  intro fB fE fM fF fP fI st af me fe la hX2 hKn
  exact cs_ywithin hF (cs_x4 hF) hY ⟨cs_Kn_I hKn, cs_mk hF hX2 hY⟩
theorem cs_yending {W : Nat → List Nat} {T P : List Nat} {wc j : Nat} {bT bB bW bL bP : Nat → Int32} {post : Int32 → Prop} (hF : cs_WF W T P wc) (hY : cs_Y W T P wc bT bB bW bL bP) (hj : j < T.length)
    (K : post (nI (cs_bt P (cs_cat W (T.take (j + 1)))) - nI (cs_bt P (cs_cat W (T.take j))))) : wpY_endingIn post (nI (cs_cat W T).length, nI T.length, nI wc, nI P.length, bT, bB, bW, bL, bP) (nI j) := by
  have hTl := cs_Tl hF
  have htx := hF.2.2.2.2.1
  have a1 := hY.2.1 j (by omega)
  have a2 := hY.2.1 (j + 1) (by omega)
  have o1 := cs_off_le W T j
  have o2 := cs_off_le W T (j + 1)
  unfold wpY_endingIn
  refine br_f (nI_pos (by omega)) (br_t (nI_lt hj (by omega)) ?_)
  rw [nI_1, cs_rd a1 (by omega), cs_rd a2 (by omega)]
  refine And.intro (vp_in_nI (by omega) (by decide)) ?_
  refine cs_ybt (a := 0) hF (cs_x4 hF) hY (Nat.zero_le _) o2 ?_
  refine And.intro (vp_in_nI (by omega) (by decide)) ?_
  refine cs_ybt (a := 0) hF (cs_x4 hF) hY (Nat.zero_le _) o1 ?_
  rw [List.drop_zero, List.drop_zero, cs_cat_pre, cs_cat_pre]
  exact K
theorem i_vc_endingIn {k : Nat} {u : SX} {v : SY} (I : i_Rel k u v) (hk : k + 3 ≤ 1536) (v1 : Int32) : wpX_endingIn (fun r u' => wpY_endingIn (fun r' => r' = r ∧ i_Rel (k + 3) u' v) v v1) u v1 := by
  refine cs_el (Q := fun u v => wpX_endingIn (fun r u' => wpY_endingIn (fun r' => r' = r ∧ i_Rel (k + 3) u' v) v v1) u v1) I ?_
  intro W T P wc fB fK fE fM fF fP fI aSh aLa aFi aLe aTa aSy aSt aAf aMe aFe aLE bT bB bW bL bP hF hX hY
  have H : ∀ {r : Int32}, r = r ∧ i_Rel (k + 3) (nI wc, nI T.length, nI (cs_cat W T).length, nI P.length, fB, fK, fE, fM, fF, fP, fI, aSh, aLa, aFi, aLe, aTa, aSy, aSt, aAf, aMe, aFe, aLE) (nI (cs_cat W T).length, nI T.length, nI wc, nI P.length, bT, bB, bW, bL, bP) := ⟨rfl, cs_mk hF hX hY⟩
  have hTl := cs_Tl hF
  have hF2 := hF
  obtain ⟨⟨hw4, hw60⟩, hWl, hW4, hTw, htx, h6, hP4⟩ := hF2
  unfold wpX_endingIn
  by_cases hneg : v1 < 0
  · refine br_t hneg ?_
    unfold wpY_endingIn
    exact br_t hneg H
  · obtain ⟨j, hj, rfl⟩ := nI_of hneg
    by_cases hjT : j < T.length
    · refine br_f hneg (br_f (nI_ge hjT (by omega)) ?_)
      by_cases h0 : P.length = 0
      · refine br_t (by rw [h0]; rfl) ?_
        refine cs_yending hF hY hjT ?_
        unfold cs_bt
        rw [if_pos h0, if_pos h0]
        exact ⟨rfl, cs_mk hF hX hY⟩
      · obtain ⟨hD, hTa, hSy, hB, hK⟩ := hX
        refine br_f (nI_ne0 (by omega) (by omega)) ?_
        refine cs_ft h6 (by omega) hw60 (fun w hw => (hWl w hw).2.1) hD hSy hP4 hB ?_
        intro st af me fe la hR hT
        have hX2 : cs_X W T P wc (nI wc) fK fE fM fF fP fI aSh aLa aFi aLe aTa aSy st af me fe la := ⟨hD, hTa, hSy, ⟨wc, rfl, Nat.le_refl _, fun _ => ⟨hw4, hR, hT⟩⟩, hK⟩
        refine ⟨j + 1, cs_en29 (aSh := aSh) (aLa := aLa) (aFi := aFi) (aLe := aLe) hF hTa hT hjT ?_ j 0 (by omega)⟩
        refine cs_yending hF hY hjT ?_
        refine And.intro ?_ (cs_mk hF hX2 hY)
        unfold cs_bt
        rw [if_neg h0, if_neg h0, cs_cat_take hjT, cs_mt_app, pk_sub (by omega), Nat.add_sub_cancel_left]
    · refine br_f hneg (br_t (nI_le (by omega) hj) ?_)
      unfold wpY_endingIn
      exact br_f hneg (br_f (nI_nlt (by omega) hj) H)
end
