section
theorem pk_us {f : Nat → Int32} {k : Nat} {x : Int32} : upd f k x k = x := if_pos rfl
theorem pk_un {f : Nat → Int32} {k j : Nat} {x : Int32} (h : j ≠ k) : upd f k x j = f j := if_neg h
theorem pk_mul (a b : Nat) : nI a * nI b = nI (a * b) := (Int32.ofNat_mul a b).symm
theorem pk_le {x y : Int32} {A B : Prop} (a b : Nat) (f : a ≤ b → A) (g : b < a → B) (hx : x = nI a := by rfl) (hy : y = nI b := by rfl) (ha : a < 2 ^ 31 := by omega) (hb : b < 2 ^ 31 := by omega) : (x ≤ y → A) ∧ (¬ x ≤ y → B) := by
  subst hx hy
  rw [nI_leI ha hb]
  exact ⟨f, fun z => g (by omega)⟩
theorem pk_lt {x y : Int32} {A B : Prop} (a b : Nat) (f : a < b → A) (g : b ≤ a → B) (hx : x = nI a := by rfl) (hy : y = nI b := by rfl) (ha : a < 2 ^ 31 := by omega) (hb : b < 2 ^ 31 := by omega) : (x < y → A) ∧ (¬ x < y → B) := by
  subst hx hy
  rw [nI_ltI ha hb]
  exact ⟨f, fun z => g (by omega)⟩
theorem pk_eq {x y : Int32} {A B : Prop} (a b : Nat) (f : a = b → A) (g : a ≠ b → B) (hx : x = nI a := by rfl) (hy : y = nI b := by rfl) (ha : a < 2 ^ 31 := by omega) (hb : b < 2 ^ 31 := by omega) : (x = y → A) ∧ (¬ x = y → B) := by
  subst hx hy
  rw [nI_eq ha hb]
  exact ⟨f, g⟩
theorem pk_least (P : Nat → Prop) (h : ∃ k, P k) : ∃ k, P k ∧ ∀ j, j < k → ¬ P j := by
  obtain ⟨k, hk⟩ := h
  induction k using Nat.strongRecOn with
  | ind k ih =>
    by_cases e : ∃ j, j < k ∧ P j
    · obtain ⟨j, hj, pj⟩ := e
      exact ih j hj pj
    · exact ⟨k, hk, fun j hj pj => e ⟨j, hj, pj⟩⟩
/-- 1 if p holds, 0 if not -/
noncomputable def fl_ic (p : Prop) : Nat := @ite Nat p (Classical.propDecidable p) 1 0
theorem fl_t {p : Prop} (h : p) : fl_ic p = 1 := by unfold fl_ic; exact if_pos h
theorem fl_f {p : Prop} (h : ¬ p) : fl_ic p = 0 := by unfold fl_ic; exact if_neg h
theorem fl_t1 {p : Prop} (h : p) (k : Nat) : fl_ic p * k = k := by rw [fl_t h, Nat.one_mul]
theorem fl_f0 {p : Prop} (h : ¬ p) (k : Nat) : fl_ic p * k = 0 := by rw [fl_f h, Nat.zero_mul]
theorem fl_iff {p q : Prop} (h : p ↔ q) : fl_ic p = fl_ic q := by rw [propext h]
theorem fl_ifk {p q : Prop} (h : p ↔ q) (k : Nat) : fl_ic p * k = fl_ic q * k := by rw [propext h]
theorem fl_le1 (p : Prop) : fl_ic p ≤ 1 := by
  by_cases h : p
  · rw [fl_t h]; exact Nat.le_refl 1
  · rw [fl_f h]; exact Nat.zero_le 1
theorem fl_pos {p : Prop} {k : Nat} (h : 0 < fl_ic p * k) : p := by
  by_cases e : p
  · exact e
  · rw [fl_f0 e] at h; exact absurd h (Nat.lt_irrefl 0)
/-- the sum of f i over i < n -/
def fl_sm (f : Nat → Nat) : Nat → Nat
  | 0 => 0
  | n + 1 => fl_sm f n + f n
theorem fl_smS (f : Nat → Nat) (n : Nat) : fl_sm f (n + 1) = fl_sm f n + f n := rfl
theorem fl_smc {f g : Nat → Nat} {n : Nat} (h : ∀ i, i < n → f i = g i) : fl_sm f n = fl_sm g n := by
  induction n with
  | zero => rfl
  | succ n ih => rw [fl_smS, fl_smS, ih (fun i hi => h i (Nat.lt_succ_of_lt hi)), h n (Nat.lt_succ_self n)]
theorem fl_smz {f : Nat → Nat} {n : Nat} (h : ∀ i, i < n → f i = 0) : fl_sm f n = 0 := by
  induction n with
  | zero => rfl
  | succ n ih => rw [fl_smS, ih (fun i hi => h i (Nat.lt_succ_of_lt hi)), h n (Nat.lt_succ_self n)]
theorem fl_sma (f g : Nat → Nat) (n : Nat) : fl_sm (fun i => f i + g i) n = fl_sm f n + fl_sm g n := by
  induction n with
  | zero => rfl
  | succ n ih =>
    show fl_sm (fun i => f i + g i) n + (f n + g n) = (fl_sm f n + f n) + (fl_sm g n + g n)
    rw [ih]; omega
theorem fl_smm (c : Nat) (f : Nat → Nat) (n : Nat) : c * fl_sm f n = fl_sm (fun i => c * f i) n := by
  induction n with
  | zero => rfl
  | succ n ih =>
    show c * (fl_sm f n + f n) = fl_sm (fun i => c * f i) n + c * f n
    rw [Nat.mul_add, ih]
/-- the order of two sums -/
theorem fl_swap (F : Nat → Nat → Nat) (a b : Nat) : fl_sm (fun i => fl_sm (fun j => F i j) b) a = fl_sm (fun j => fl_sm (fun i => F i j) a) b := by
  induction a with
  | zero => exact (fl_smz (fun _ _ => rfl)).symm
  | succ a ih =>
    exact ((congrArg (fun z => z + fl_sm (fun j => F a j) b) ih).trans (fl_sma (fun j => fl_sm (fun i => F i j) a) (fun j => F a j) b).symm)
theorem fl_smle {f : Nat → Nat} {n c : Nat} (h : ∀ i, i < n → f i ≤ c) : fl_sm f n ≤ c * n := by
  induction n with
  | zero => exact Nat.zero_le _
  | succ n ih =>
    have a := ih (fun i hi => h i (Nat.lt_succ_of_lt hi))
    have b := h n (Nat.lt_succ_self n)
    rw [fl_smS, Nat.mul_add, Nat.mul_one]; omega
theorem fl_smge {f : Nat → Nat} {n i : Nat} (h : i < n) : f i ≤ fl_sm f n := by
  induction n with
  | zero => exact absurd h (Nat.not_lt_zero _)
  | succ n ih =>
    rw [fl_smS]
    by_cases e : i = n
    · subst e; omega
    · have := ih (by omega); omega
theorem fl_smex {f : Nat → Nat} {n : Nat} (h : 0 < fl_sm f n) : ∃ i, i < n ∧ 0 < f i := by
  induction n with
  | zero => exact absurd h (Nat.lt_irrefl 0)
  | succ n ih =>
    rw [fl_smS] at h
    by_cases e : 0 < fl_sm f n
    · obtain ⟨i, hi, hf⟩ := ih e
      exact ⟨i, Nat.lt_succ_of_lt hi, hf⟩
    · exact ⟨n, Nat.lt_succ_self n, by omega⟩
/-- a sum with one term -/
theorem fl_one {f : Nat → Nat} {n k : Nat} (hk : k < n) (h : ∀ i, i < n → i ≠ k → f i = 0) : fl_sm f n = f k := by
  induction n with
  | zero => exact absurd hk (Nat.not_lt_zero _)
  | succ n ih =>
    rw [fl_smS]
    by_cases e : k = n
    · subst e
      rw [fl_smz (fun i hi => h i (Nat.lt_succ_of_lt hi) (Nat.ne_of_lt hi))]; omega
    · rw [ih (by omega) (fun i hi hne => h i (Nat.lt_succ_of_lt hi) hne), h n (Nat.lt_succ_self n) (fun z => e z.symm)]
      omega
theorem fl_delta (g : Nat → Nat) {x N : Nat} (h : x < N) : fl_sm (fun n => fl_ic (x = n) * g n) N = g x :=
  (fl_one (f := fun n => fl_ic (x = n) * g n) h (fun _ _ hne => fl_f0 (fun e => hne e.symm) _)).trans (fl_t1 rfl _)
/-- a sum over an injective image -/
theorem fl_inj (F h : Nat → Nat) (N : Nat) : ∀ l, (∀ i, i < l → h i < N) → (∀ i j, i < l → j < l → h i = h j → i = j) → fl_sm (fun i => F (h i)) l = fl_sm (fun n => fl_ic (∃ i, i < l ∧ h i = n) * F n) N := by
  intro l
  induction l with
  | zero =>
    intro _ _
    refine (fl_smz (fun n _ => fl_f0 ?_ _)).symm
    rintro ⟨i, hi, _⟩
    exact Nat.not_lt_zero _ hi
  | succ l ih =>
    intro hN hi
    have a := ih (fun i hl => hN i (Nat.lt_succ_of_lt hl)) (fun i j h1 h2 => hi i j (Nat.lt_succ_of_lt h1) (Nat.lt_succ_of_lt h2))
    have b := fl_delta F (hN l (Nat.lt_succ_self l))
    have c : fl_sm (fun i => F (h i)) (l + 1) = fl_sm (fun n => fl_ic (∃ i, i < l ∧ h i = n) * F n) N + fl_sm (fun n => fl_ic (h l = n) * F n) N := by
      rw [fl_smS, a, b]
    rw [c, ← fl_sma]
    refine fl_smc (fun n _ => ?_)
    by_cases e : h l = n
    · have z : ¬ ∃ i, i < l ∧ h i = n := by
        rintro ⟨i, hl, he⟩
        have := hi i l (Nat.lt_succ_of_lt hl) (Nat.lt_succ_self l) (he.trans e.symm)
        omega
      have y : ∃ i, i < l + 1 ∧ h i = n := ⟨l, Nat.lt_succ_self l, e⟩
      rw [fl_f0 z, fl_t1 e, fl_t1 y, Nat.zero_add]
    · rw [fl_f0 e, Nat.add_zero]
      refine fl_ifk ⟨?_, ?_⟩ _
      · rintro ⟨i, hl, he⟩
        exact ⟨i, Nat.lt_succ_of_lt hl, he⟩
      · rintro ⟨i, hl, he⟩
        refine ⟨i, ?_, he⟩
        by_cases q : i = l
        · exact absurd (q ▸ he) e
        · omega
/-- exactly the first one counts -/
theorem fl_first (b : Nat → Prop) (c n : Nat) : fl_sm (fun i => fl_ic (b i ∧ ∀ j, j < i → ¬ b j) * c) n = fl_ic (∃ i, i < n ∧ b i) * c := by
  induction n with
  | zero =>
    refine (fl_f0 ?_ c).symm
    rintro ⟨i, hi, _⟩
    exact Nat.not_lt_zero _ hi
  | succ n ih =>
    rw [fl_smS, ih]
    by_cases e : ∃ i, i < n ∧ b i
    · obtain ⟨i, hi, hb⟩ := e
      have z : ¬ (b n ∧ ∀ j, j < n → ¬ b j) := fun q => q.2 i hi hb
      rw [fl_f0 z, fl_t1 ⟨i, hi, hb⟩, fl_t1 ⟨i, Nat.lt_succ_of_lt hi, hb⟩, Nat.add_zero]
    · rw [fl_f0 e, Nat.zero_add]
      refine fl_ifk ⟨fun q => ⟨n, Nat.lt_succ_self n, q.1⟩, ?_⟩ _
      rintro ⟨i, hi, hb⟩
      by_cases q : i = n
      · subst q
        exact ⟨hb, fun j hj hbj => e ⟨j, hj, hbj⟩⟩
      · exact absurd ⟨i, by omega, hb⟩ e
/-- the greatest of a and f i over i < n -/
def fl_mx (a : Nat) (f : Nat → Nat) : Nat → Nat
  | 0 => a
  | n + 1 => if f n ≤ fl_mx a f n then fl_mx a f n else f n
theorem fl_mxS (a : Nat) (f : Nat → Nat) (n : Nat) : fl_mx a f (n + 1) = if f n ≤ fl_mx a f n then fl_mx a f n else f n := rfl
theorem fl_mx_le {a b : Nat} {f : Nat → Nat} {n : Nat} (ha : a ≤ b) (h : ∀ i, i < n → f i ≤ b) : fl_mx a f n ≤ b := by
  induction n with
  | zero => exact ha
  | succ n ih =>
    rw [fl_mxS]
    split
    · exact ih (fun i hi => h i (Nat.lt_succ_of_lt hi))
    · exact h n (Nat.lt_succ_self n)
theorem fl_mx_ge0 (a : Nat) (f : Nat → Nat) (n : Nat) : a ≤ fl_mx a f n := by
  induction n with
  | zero => exact Nat.le_refl a
  | succ n ih =>
    rw [fl_mxS]
    split
    · exact ih
    · omega
theorem fl_mx_ge {a : Nat} {f : Nat → Nat} {n i : Nat} (h : i < n) : f i ≤ fl_mx a f n := by
  induction n with
  | zero => exact absurd h (Nat.not_lt_zero _)
  | succ n ih =>
    rw [fl_mxS]
    by_cases e : i = n
    · subst e
      split
      · assumption
      · exact Nat.le_refl _
    · have := ih (by omega)
      split
      · exact this
      · omega
/-- the greatest over two indices -/
def fl_my (F : Nat → Nat → Nat) (L : Nat → Nat) : Nat → Nat
  | 0 => 0
  | s + 1 => fl_mx (fl_my F L s) (F s) (L s)
theorem fl_my_le {F : Nat → Nat → Nat} {L : Nat → Nat} {b m : Nat} (h : ∀ s i, s < m → i < L s → F s i ≤ b) : fl_my F L m ≤ b := by
  induction m with
  | zero => exact Nat.zero_le b
  | succ m ih =>
    exact fl_mx_le (ih (fun s i hs hi => h s i (Nat.lt_succ_of_lt hs) hi)) (fun i hi => h m i (Nat.lt_succ_self m) hi)
theorem fl_my_ge {F : Nat → Nat → Nat} {L : Nat → Nat} {m s i : Nat} (hs : s < m) (hi : i < L s) : F s i ≤ fl_my F L m := by
  induction m with
  | zero => exact absurd hs (Nat.not_lt_zero _)
  | succ m ih =>
    by_cases e : s = m
    · subst e
      exact fl_mx_ge (f := F s) hi
    · exact Nat.le_trans (ih (by omega)) (fl_mx_ge0 _ _ _)
end
section
/-- x is one of the functions 0 .. 7 -/
def fl_F (x : Int32) : Prop := ∃ f : Nat, f < 8 ∧ x = nI f
/-- f with v at m -/
def fl_s {α : Type} (f : Nat → α) (m : Nat) (v : α) : Nat → α := fun s => if s = m then v else f s
theorem fl_ss {α : Type} {f : Nat → α} {m : Nat} {v : α} : fl_s f m v m = v := if_pos rfl
theorem fl_sn {α : Type} {f : Nat → α} {m s : Nat} {v : α} (h : s ≠ m) : fl_s f m v s = f s := if_neg h
/-- the last child of p among the nodes 1 .. n - 1; 0 if there is none -/
def fl_lc (up : Nat → Nat) (p : Nat) : Nat → Nat
  | 0 => 0
  | n + 1 => if 1 ≤ n ∧ up n = p then n else fl_lc up p n
theorem fl_lc_t {up : Nat → Nat} {p n : Nat} (h : 1 ≤ n ∧ up n = p) : fl_lc up p (n + 1) = n := if_pos h
theorem fl_lc_f {up : Nat → Nat} {p n : Nat} (h : ¬ (1 ≤ n ∧ up n = p)) : fl_lc up p (n + 1) = fl_lc up p n := if_neg h
theorem fl_lc_spec (up : Nat → Nat) (p : Nat) : ∀ n, (fl_lc up p n = 0 ∧ ∀ c, 1 ≤ c → c < n → up c ≠ p) ∨ (1 ≤ fl_lc up p n ∧ fl_lc up p n < n ∧ up (fl_lc up p n) = p ∧ ∀ c, fl_lc up p n < c → c < n → up c ≠ p) := by
  intro n
  induction n with
  | zero => exact Or.inl ⟨rfl, fun c _ hc => absurd hc (Nat.not_lt_zero _)⟩
  | succ n ih =>
    by_cases e : 1 ≤ n ∧ up n = p
    · rw [fl_lc_t e]
      exact Or.inr ⟨e.1, Nat.lt_succ_self n, e.2, fun c h1 h2 => by omega⟩
    · rw [fl_lc_f e]
      rcases ih with ⟨h0, hn⟩ | ⟨h1, h2, h3, h4⟩
      · refine Or.inl ⟨h0, fun c c1 c2 hu => ?_⟩
        by_cases q : c = n
        · subst q; exact e ⟨c1, hu⟩
        · exact hn c c1 (by omega) hu
      · refine Or.inr ⟨h1, Nat.lt_succ_of_lt h2, h3, fun c c1 c2 hu => ?_⟩
        by_cases q : c = n
        · subst q; exact e ⟨by omega, hu⟩
        · exact h4 c c1 (by omega) hu
theorem fl_lc_le (up : Nat → Nat) (p n : Nat) : fl_lc up p n ≤ n := by
  rcases fl_lc_spec up p n with h | h
  · omega
  · omega
theorem fl_lc_congr {up up' : Nat → Nat} {p n : Nat} (h : ∀ c, c < n → up c = up' c) : fl_lc up p n = fl_lc up' p n := by
  induction n with
  | zero => rfl
  | succ n ih =>
    have a := ih (fun c hc => h c (Nat.lt_succ_of_lt hc))
    have b := h n (Nat.lt_succ_self n)
    by_cases e : 1 ≤ n ∧ up n = p
    · rw [fl_lc_t e, fl_lc_t ⟨e.1, b ▸ e.2⟩]
    · rw [fl_lc_f e, fl_lc_f (fun z => e ⟨z.1, b.symm ▸ z.2⟩), a]
/-- the tree: N nodes, m samples; nd s i: the node of the first i functions of sample s -/
def fl_T (N m : Nat) (fn : Nat → Int32) (up L : Nat → Nat) (C : Nat → Nat → Int32) (nd : Nat → Nat → Nat) : Prop :=
  1 ≤ N ∧ fn 0 = -1 ∧ (∀ n, 1 ≤ n → n < N → up n < n) ∧
  (∀ a b, 1 ≤ a → a < N → 1 ≤ b → b < N → up a = up b → fn a = fn b → a = b) ∧
  (∀ s, s < m → nd s 0 = 0) ∧ (∀ s, s < m → L s ≤ 8) ∧
  (∀ s i, s < m → i < L s → 1 ≤ nd s (i + 1) ∧ nd s (i + 1) < N ∧ up (nd s (i + 1)) = nd s i ∧ fn (nd s (i + 1)) = C s i ∧ fl_F (C s i)) ∧
  (∀ n, 1 ≤ n → n < N → ∃ s i, s < m ∧ i < L s ∧ nd s (i + 1) = n)
/-- the links -/
def fl_K (N : Nat) (up : Nat → Nat) (ab ch si : Nat → Int32) : Prop :=
  (∀ p, ch p = nI (fl_lc up p N)) ∧ (∀ c, 1 ≤ c → c < N → si c = nI (fl_lc up (up c) c)) ∧ (∀ c, 1 ≤ c → c < N → ab c = nI (up c))
noncomputable def fl_tw (m : Nat) (L : Nat → Nat) (nd : Nat → Nat → Nat) (w : Nat → Nat) (n : Nat) : Nat :=
  fl_sm (fun s => fl_sm (fun i => fl_ic (nd s i = n) * w s) (L s + 1)) m
noncomputable def fl_ow (m : Nat) (L : Nat → Nat) (nd : Nat → Nat → Nat) (w : Nat → Nat) (n : Nat) : Nat :=
  fl_sm (fun s => fl_ic (nd s (L s) = n) * w s) m
theorem fl_T_lt {N m : Nat} {fn : Nat → Int32} {up L : Nat → Nat} {C : Nat → Nat → Int32} {nd : Nat → Nat → Nat} (T : fl_T N m fn up L C nd) {s i : Nat} (hs : s < m) (hi : i ≤ L s) : nd s i < N := by
  obtain ⟨a1, a2, a3, a4, a5, a6, a7, a8⟩ := T
  cases i with
  | zero => rw [a5 s hs]; omega
  | succ i => exact (a7 s i hs (by omega)).2.1
/-- the new empty tree -/
theorem fl_T_0 {fn : Nat → Int32} (h : fn 0 = -1) {up L : Nat → Nat} {C : Nat → Nat → Int32} {nd : Nat → Nat → Nat} : fl_T 1 0 fn up L C nd :=
  ⟨Nat.le_refl 1, h, fun n h1 h2 => by omega, fun a b h1 h2 => by omega, fun s hs => absurd hs (Nat.not_lt_zero _), fun s hs => absurd hs (Nat.not_lt_zero _), fun s i hs => absurd hs (Nat.not_lt_zero _), fun n h1 h2 => by omega⟩
theorem fl_K_0 {up : Nat → Nat} {ab ch si : Nat → Int32} (h : ∀ p, ch p = 0) : fl_K 1 up ab ch si := by
  refine ⟨fun p => ?_, fun c h1 h2 => by omega, fun c h1 h2 => by omega⟩
  have z : ¬ (1 ≤ 0 ∧ up 0 = p) := fun q => by omega
  rw [fl_lc_f z, h p]
  exact nI_0.symm
section
variable {N m k c : Nat} {fn : Nat → Int32} {up L : Nat → Nat} {C : Nat → Nat → Int32} {nd : Nat → Nat → Nat}
/-- a new sample, of length 0 so far -/
theorem fl_T_new (T : fl_T N m fn up L C nd) (q : Nat → Int32) : fl_T N (m + 1) fn up (fl_s L m 0) (fl_s C m q) (fl_s nd m (fun _ => 0)) := by
  obtain ⟨a1, a2, a3, a4, a5, a6, a7, a8⟩ := T
  refine ⟨a1, a2, a3, a4, ?_, ?_, ?_, ?_⟩
  · intro s hs
    by_cases e : s = m
    · subst e; rw [fl_ss]
    · rw [fl_sn e]; exact a5 s (by omega)
  · intro s hs
    by_cases e : s = m
    · subst e; rw [fl_ss]; omega
    · rw [fl_sn e]; exact a6 s (by omega)
  · intro s i hs hi
    by_cases e : s = m
    · subst e; rw [fl_ss] at hi; omega
    · rw [fl_sn e] at hi
      rw [fl_sn e, fl_sn e]
      exact a7 s i (by omega) hi
  · intro n h1 h2
    obtain ⟨s, i, hs, hi, hn⟩ := a8 n h1 h2
    have e : s ≠ m := by omega
    refine ⟨s, i, by omega, ?_, ?_⟩
    · rw [fl_sn e]; exact hi
    · rw [fl_sn e]; exact hn
/-- the ghost nodes with c at (m, k + 1) -/
def fl_g (nd : Nat → Nat → Nat) (m k c : Nat) : Nat → Nat → Nat := fl_s nd m (fl_s (nd m) (k + 1) c)
theorem fl_g1 : fl_g nd m k c m (k + 1) = c := by unfold fl_g; rw [fl_ss, fl_ss]
theorem fl_g2 {s i : Nat} (h : ¬ (s = m ∧ i = k + 1)) : fl_g nd m k c s i = nd s i := by
  unfold fl_g
  by_cases e : s = m
  · subst e; rw [fl_ss, fl_sn (fun z => h ⟨rfl, z⟩)]
  · rw [fl_sn e]
/-- the last sample goes one node further, to a node of the tree -/
theorem fl_T_found (T : fl_T N (m + 1) fn up L C nd) (hk : L m = k) (k8 : k < 8) (hC : fl_F (C m k)) (c1 : 1 ≤ c) (c2 : c < N) (hu : up c = nd m k) (hf : fn c = C m k) : fl_T N (m + 1) fn up (fl_s L m (k + 1)) C (fl_g nd m k c) := by
  obtain ⟨a1, a2, a3, a4, a5, a6, a7, a8⟩ := T
  refine ⟨a1, a2, a3, a4, ?_, ?_, ?_, ?_⟩
  · intro s hs
    rw [fl_g2 (fun z => by omega)]; exact a5 s hs
  · intro s hs
    by_cases e : s = m
    · subst e; rw [fl_ss]; omega
    · rw [fl_sn e]; exact a6 s hs
  · intro s i hs hi
    by_cases e : s = m ∧ i = k
    · obtain ⟨e1, e2⟩ := e
      subst e1; subst e2
      rw [fl_g1, fl_g2 (fun z => by omega)]
      exact ⟨c1, c2, hu, hf, hC⟩
    · have hi' : i < L s := by
        by_cases e1 : s = m
        · subst e1; rw [fl_ss] at hi; rw [hk]
          have : ¬ i = k := fun z => e ⟨rfl, z⟩
          omega
        · rw [fl_sn e1] at hi; exact hi
      have hg : ¬ (s = m ∧ i = k + 1) := fun z => by
        obtain ⟨z1, z2⟩ := z
        subst z1; omega
      rw [fl_g2 (fun z => e ⟨z.1, by omega⟩), fl_g2 hg]
      exact a7 s i hs hi'
  · intro n h1 h2
    obtain ⟨s, i, hs, hi, hn⟩ := a8 n h1 h2
    have e : ¬ (s = m ∧ i = k) := fun z => by
      obtain ⟨z1, z2⟩ := z
      subst z1; omega
    refine ⟨s, i, hs, ?_, ?_⟩
    · by_cases e1 : s = m
      · subst e1; rw [fl_ss]; omega
      · rw [fl_sn e1]; exact hi
    · rw [fl_g2 (fun z => e ⟨z.1, by omega⟩)]; exact hn
/-- the last sample goes one node further, to a new node -/
theorem fl_T_add (T : fl_T N (m + 1) fn up L C nd) (hk : L m = k) (k8 : k < 8) (hC : fl_F (C m k)) (hno : ∀ c, 1 ≤ c → c < N → up c = nd m k → fn c ≠ C m k) : fl_T (N + 1) (m + 1) (upd fn N (C m k)) (fl_s up N (nd m k)) (fl_s L m (k + 1)) C (fl_g nd m k N) := by
  have hx : nd m k < N := fl_T_lt T (Nat.lt_succ_self m) (Nat.le_of_eq hk.symm)
  have hlt : ∀ s i, s < m + 1 → i ≤ L s → nd s i < N := fun s i hs hi => fl_T_lt T hs hi
  obtain ⟨a1, a2, a3, a4, a5, a6, a7, a8⟩ := T
  refine ⟨by omega, ?_, ?_, ?_, ?_, ?_, ?_, ?_⟩
  · rw [pk_un (by omega)]; exact a2
  · intro n h1 h2
    by_cases e : n = N
    · subst e; rw [fl_ss]; exact hx
    · rw [fl_sn e]; exact a3 n h1 (by omega)
  · intro a b h1 h2 h3 h4 hu hf
    by_cases ea : a = N
    · by_cases eb : b = N
      · omega
      · subst ea
        rw [fl_ss, fl_sn eb] at hu
        rw [pk_us, pk_un eb] at hf
        exact absurd hf.symm (hno b h3 (by omega) hu.symm)
    · by_cases eb : b = N
      · subst eb
        rw [fl_ss, fl_sn ea] at hu
        rw [pk_us, pk_un ea] at hf
        exact absurd hf (hno a h1 (by omega) hu)
      · rw [fl_sn ea, fl_sn eb] at hu
        rw [pk_un ea, pk_un eb] at hf
        exact a4 a b h1 (by omega) h3 (by omega) hu hf
  · intro s hs
    rw [fl_g2 (fun z => by omega)]; exact a5 s hs
  · intro s hs
    by_cases e : s = m
    · subst e; rw [fl_ss]; omega
    · rw [fl_sn e]; exact a6 s hs
  · intro s i hs hi
    by_cases e : s = m ∧ i = k
    · obtain ⟨e1, e2⟩ := e
      subst e1; subst e2
      rw [fl_g1, fl_g2 (fun z => by omega), fl_ss, pk_us]
      exact ⟨by omega, by omega, rfl, rfl, hC⟩
    · have hi' : i < L s := by
        by_cases e1 : s = m
        · subst e1; rw [fl_ss] at hi; rw [hk]
          have : ¬ i = k := fun z => e ⟨rfl, z⟩
          omega
        · rw [fl_sn e1] at hi; exact hi
      have hg : ¬ (s = m ∧ i = k + 1) := fun z => by
        obtain ⟨z1, z2⟩ := z
        subst z1; omega
      rw [fl_g2 (fun z => e ⟨z.1, by omega⟩), fl_g2 hg]
      obtain ⟨b1, b2, b3, b4, b5⟩ := a7 s i hs hi'
      have ne : nd s (i + 1) ≠ N := by omega
      rw [fl_sn ne, pk_un ne]
      exact ⟨b1, by omega, b3, b4, b5⟩
  · intro n h1 h2
    by_cases en : n = N
    · subst en
      exact ⟨m, k, Nat.lt_succ_self m, by rw [fl_ss]; omega, fl_g1⟩
    · obtain ⟨s, i, hs, hi, hn⟩ := a8 n h1 (by omega)
      have e : ¬ (s = m ∧ i = k) := fun z => by
        obtain ⟨z1, z2⟩ := z
        subst z1; omega
      refine ⟨s, i, hs, ?_, ?_⟩
      · by_cases e1 : s = m
        · subst e1; rw [fl_ss]; omega
        · rw [fl_sn e1]; exact hi
      · rw [fl_g2 (fun z => e ⟨z.1, by omega⟩)]; exact hn
theorem fl_K_add {ab ch si : Nat → Int32} (K : fl_K N up ab ch si) (N1 : 1 ≤ N) {x : Nat} (hx : x < N) : fl_K (N + 1) (fl_s up N x) (upd ab N (nI x)) (upd ch x (nI N)) (upd si N (ch x)) := by
  obtain ⟨k1, k2, k3⟩ := K
  have cg : ∀ p n, n ≤ N → fl_lc up p n = fl_lc (fl_s up N x) p n := fun p n hn => fl_lc_congr (fun c hc => (fl_sn (by omega)).symm)
  refine ⟨?_, ?_, ?_⟩
  · intro p
    by_cases e : p = x
    · subst e
      rw [pk_us, fl_lc_t ⟨N1, fl_ss⟩]
    · rw [pk_un e, fl_lc_f (fun z => e (z.2.symm.trans fl_ss)), ← cg p N (Nat.le_refl N)]
      exact k1 p
  · intro c h1 h2
    by_cases e : c = N
    · subst e
      rw [pk_us, fl_ss, ← cg x c (Nat.le_refl c)]
      exact k1 x
    · rw [pk_un e, fl_sn e, ← cg (up c) c (by omega)]
      exact k2 c h1 (by omega)
  · intro c h1 h2
    by_cases e : c = N
    · subst e
      rw [pk_us, fl_ss]
    · rw [pk_un e, fl_sn e]
      exact k3 c h1 (by omega)
theorem fl_tw_new (w : Nat → Nat) (v n : Nat) : fl_tw (m + 1) (fl_s L m 0) (fl_s nd m (fun _ => 0)) (fl_s w m v) n = fl_tw m L nd w n + fl_ic (0 = n) * v := by
  unfold fl_tw
  rw [fl_smS]
  have a : fl_sm (fun s => fl_sm (fun i => fl_ic (fl_s nd m (fun _ => 0) s i = n) * fl_s w m v s) (fl_s L m 0 s + 1)) m = fl_sm (fun s => fl_sm (fun i => fl_ic (nd s i = n) * w s) (L s + 1)) m := by
    refine fl_smc (fun s hs => ?_)
    have e : s ≠ m := by omega
    rw [fl_sn e, fl_sn e, fl_sn e]
  rw [a, fl_ss, fl_ss, fl_ss, fl_smS]
  show _ + (0 + _) = _
  rw [Nat.zero_add]
theorem fl_tw_ext (hk : L m = k) (w : Nat → Nat) (n : Nat) : fl_tw (m + 1) (fl_s L m (k + 1)) (fl_g nd m k c) w n = fl_tw (m + 1) L nd w n + fl_ic (c = n) * w m := by
  unfold fl_tw
  rw [fl_smS (fun s => fl_sm (fun i => fl_ic (nd s i = n) * w s) (L s + 1)) m, fl_smS _ m]
  have a : fl_sm (fun s => fl_sm (fun i => fl_ic (fl_g nd m k c s i = n) * w s) (fl_s L m (k + 1) s + 1)) m = fl_sm (fun s => fl_sm (fun i => fl_ic (nd s i = n) * w s) (L s + 1)) m := by
    refine fl_smc (fun s hs => ?_)
    have e : s ≠ m := by omega
    rw [fl_sn e]
    refine fl_smc (fun i _ => ?_)
    rw [fl_g2 (fun z => e z.1)]
  have b : fl_sm (fun i => fl_ic (fl_g nd m k c m i = n) * w m) (k + 1) = fl_sm (fun i => fl_ic (nd m i = n) * w m) (k + 1) := by
    refine fl_smc (fun i hi => ?_)
    rw [fl_g2 (fun z => by omega)]
  rw [a, fl_ss, hk, fl_smS _ (k + 1), b, fl_g1, Nat.add_assoc]
theorem fl_ow_new (w : Nat → Nat) (q : Nat → Nat) (l v n : Nat) : fl_ow m (fl_s L m l) (fl_s nd m q) (fl_s w m v) n = fl_ow m L nd w n := by
  unfold fl_ow
  refine fl_smc (fun s hs => ?_)
  have e : s ≠ m := by omega
  rw [fl_sn e, fl_sn e, fl_sn e]
theorem fl_ow_ext (w : Nat → Nat) (n l : Nat) : fl_ow m (fl_s L m l) (fl_g nd m k c) w n = fl_ow m L nd w n := by
  unfold fl_ow
  refine fl_smc (fun s hs => ?_)
  have e : s ≠ m := by omega
  rw [fl_sn e, fl_g2 (fun z => e z.1)]
theorem fl_ow_end (w : Nat → Nat) (n : Nat) : fl_ow (m + 1) L nd w n = fl_ow m L nd w n + fl_ic (nd m (L m) = n) * w m := rfl
end
end
section
/-- p is the node of the first k functions of st -/
def fl_pt (N : Nat) (fn : Nat → Int32) (up : Nat → Nat) (st : Nat → Int32) : Nat → Nat → Prop
  | 0, p => p = 0
  | k + 1, p => 1 ≤ p ∧ p < N ∧ fn p = st k ∧ fl_pt N fn up st k (up p)
/-- the sample s goes over the first d functions of st -/
def fl_ov (L : Nat → Nat) (C : Nat → Nat → Int32) (d : Nat) (st : Nat → Int32) (s : Nat) : Prop := d ≤ L s ∧ ∀ i, i < d → C s i = st i
theorem fl_pt_congr {N : Nat} {fn : Nat → Int32} {up : Nat → Nat} {st st' : Nat → Int32} : ∀ {k p : Nat}, (∀ i, i < k → st i = st' i) → fl_pt N fn up st k p → fl_pt N fn up st' k p := by
  intro k
  induction k with
  | zero => intro p _ h; exact h
  | succ k ih =>
    intro p hs h
    obtain ⟨h1, h2, h3, h4⟩ := h
    exact ⟨h1, h2, h3.trans (hs k (Nat.lt_succ_self k)), ih (fun i hi => hs i (Nat.lt_succ_of_lt hi)) h4⟩
section
variable {N m : Nat} {fn : Nat → Int32} {up L : Nat → Nat} {C : Nat → Nat → Int32} {nd : Nat → Nat → Nat} {w : Nat → Nat} {st : Nat → Int32}
theorem fl_pt_lt (T : fl_T N m fn up L C nd) {k p : Nat} (h : fl_pt N fn up st k p) : p < N := by
  cases k with
  | zero => have h' : p = 0 := h; have := T.1; omega
  | succ k => exact h.2.1
theorem fl_pt_own (T : fl_T N m fn up L C nd) {s : Nat} (hs : s < m) : ∀ k, k ≤ L s → fl_pt N fn up (C s) k (nd s k) := by
  obtain ⟨a1, a2, a3, a4, a5, a6, a7, a8⟩ := T
  intro k
  induction k with
  | zero => intro _; exact a5 s hs
  | succ k ih =>
    intro hk
    obtain ⟨b1, b2, b3, b4, b5⟩ := a7 s k hs (by omega)
    exact ⟨b1, b2, b4, by rw [b3]; exact ih (by omega)⟩
theorem fl_pt_nd (T : fl_T N m fn up L C nd) {s : Nat} (hs : s < m) : ∀ k p, fl_pt N fn up st k p → k ≤ L s → (nd s k = p ↔ ∀ i, i < k → C s i = st i) := by
  obtain ⟨a1, a2, a3, a4, a5, a6, a7, a8⟩ := T
  intro k
  induction k with
  | zero =>
    intro p h _
    have h' : p = 0 := h
    exact ⟨fun _ i hi => absurd hi (Nat.not_lt_zero _), fun _ => (a5 s hs).trans h'.symm⟩
  | succ k ih =>
    intro p h hk
    obtain ⟨h1, h2, h3, h4⟩ := h
    obtain ⟨b1, b2, b3, b4, b5⟩ := a7 s k hs (by omega)
    have q := ih (up p) h4 (by omega)
    constructor
    · intro e i hi
      by_cases z : i = k
      · subst z
        rw [← b4, e, h3]
      · exact q.1 (by rw [← b3, e]) i (by omega)
    · intro hc
      refine a4 _ _ b1 b2 h1 h2 ?_ ?_
      · rw [b3]; exact q.2 (fun i hi => hc i (Nat.lt_succ_of_lt hi))
      · rw [b4, h3]; exact hc k (Nat.lt_succ_self k)
theorem fl_pt_lv (T : fl_T N m fn up L C nd) {s : Nat} (hs : s < m) : ∀ k p i, fl_pt N fn up st k p → i ≤ L s → nd s i = p → i = k := by
  obtain ⟨a1, a2, a3, a4, a5, a6, a7, a8⟩ := T
  intro k
  induction k with
  | zero =>
    intro p i h hi e
    have h' : p = 0 := h
    cases i with
    | zero => rfl
    | succ i => have := (a7 s i hs (by omega)).1; omega
  | succ k ih =>
    intro p i h hi e
    obtain ⟨h1, h2, h3, h4⟩ := h
    cases i with
    | zero => have := a5 s hs; omega
    | succ i =>
      have b := (a7 s i hs (by omega)).2.2.1
      have := ih (up p) i h4 (by omega) (by rw [← b, e])
      omega
theorem fl_none (T : fl_T N m fn up L C nd) {k p d : Nat} (h : fl_pt N fn up st k p) (hkd : k < d) (hno : ∀ c, 1 ≤ c → c < N → up c = p → fn c ≠ st k) {s : Nat} (hs : s < m) : ¬ fl_ov L C d st s := by
  rintro ⟨hd, hc⟩
  have e := (fl_pt_nd T hs k p h (by omega)).2 (fun i hi => hc i (by omega))
  obtain ⟨a1, a2, a3, a4, a5, a6, a7, a8⟩ := T
  obtain ⟨b1, b2, b3, b4, b5⟩ := a7 s k hs (by omega)
  exact hno _ b1 b2 (b3.trans e) (b4.trans (hc k hkd))
/-- a node's total: the samples over its path -/
theorem fl_total (T : fl_T N m fn up L C nd) {d p : Nat} (h : fl_pt N fn up st d p) : fl_tw m L nd w p = fl_sm (fun s => fl_ic (fl_ov L C d st s) * w s) m := by
  unfold fl_tw
  refine fl_smc (fun s hs => ?_)
  by_cases e : d ≤ L s
  · refine (fl_one (k := d) (by omega) (fun i hi hne => fl_f0 (fun z => hne (fl_pt_lv T hs d p i h (by omega) z)) _)).trans ?_
    refine fl_ifk ⟨fun z => ⟨e, (fl_pt_nd T hs d p h e).1 z⟩, fun z => (fl_pt_nd T hs d p h e).2 z.2⟩ _
  · rw [fl_f0 (fun z : fl_ov L C d st s => e z.1)]
    refine fl_smz (fun i hi => fl_f0 (fun z => ?_) _)
    have := fl_pt_lv T hs d p i h (by omega) z
    omega
theorem fl_own (T : fl_T N m fn up L C nd) {d p : Nat} (h : fl_pt N fn up st d p) : fl_ow m L nd w p = fl_sm (fun s => fl_ic (fl_ov L C d st s ∧ L s = d) * w s) m := by
  unfold fl_ow
  refine fl_smc (fun s hs => ?_)
  refine fl_ifk ⟨fun z => ?_, fun z => ?_⟩ _
  · have e := fl_pt_lv T hs d p (L s) h (Nat.le_refl _) z
    rw [e] at z
    exact ⟨⟨by omega, (fl_pt_nd T hs d p h (by omega)).1 z⟩, e⟩
  · obtain ⟨⟨z1, z2⟩, z3⟩ := z
    rw [z3]
    exact (fl_pt_nd T hs d p h z1).2 z2
/-- what the reference counts for the function f behind the path -/
noncomputable def fl_tf (m : Nat) (L : Nat → Nat) (C : Nat → Nat → Int32) (w : Nat → Nat) (d : Nat) (st : Nat → Int32) (f : Int32) : Nat :=
  fl_sm (fun s => fl_ic (fl_ov L C d st s ∧ d < L s ∧ C s d = f) * w s) m
theorem fl_child (T : fl_T N m fn up L C nd) {d p c : Nat} (h : fl_pt N fn up st d p) (c1 : 1 ≤ c) (c2 : c < N) (hu : up c = p) : fl_tw m L nd w c = fl_tf m L C w d st (fn c) := by
  have e : ∀ i, i < d → st i = fl_s st d (fn c) i := fun i hi => (fl_sn (by omega)).symm
  have q : fl_pt N fn up (fl_s st d (fn c)) (d + 1) c := ⟨c1, c2, fl_ss.symm, by rw [hu]; exact fl_pt_congr e h⟩
  rw [fl_total T q]
  unfold fl_tf
  refine fl_smc (fun s hs => fl_ifk ⟨fun z => ?_, fun z => ?_⟩ _)
  · obtain ⟨z1, z2⟩ := z
    refine ⟨⟨by omega, fun i hi => ?_⟩, by omega, ?_⟩
    · rw [e i hi]; exact z2 i (by omega)
    · rw [z2 d (by omega), fl_ss]
  · obtain ⟨⟨z1, z2⟩, z3, z4⟩ := z
    refine ⟨by omega, fun i hi => ?_⟩
    by_cases y : i = d
    · subst y; rw [fl_ss]; exact z4
    · rw [fl_sn y]; exact z2 i (by omega)
theorem fl_tf_ex (T : fl_T N m fn up L C nd) {d p : Nat} (h : fl_pt N fn up st d p) {f : Int32} (hf : 0 < fl_tf m L C w d st f) : ∃ c, 1 ≤ c ∧ c < N ∧ up c = p ∧ fn c = f := by
  obtain ⟨s, hs, hz⟩ := fl_smex hf
  obtain ⟨⟨z1, z2⟩, z3, z4⟩ := fl_pos hz
  have e := (fl_pt_nd T hs d p h z1).2 z2
  obtain ⟨a1, a2, a3, a4, a5, a6, a7, a8⟩ := T
  obtain ⟨b1, b2, b3, b4, b5⟩ := a7 s d hs z3
  exact ⟨_, b1, b2, b3.trans e, b4.trans z4⟩
theorem fl_tf_0 {d : Nat} (h : ∀ s, s < m → ¬ fl_ov L C d st s) (f : Int32) : fl_tf m L C w d st f = 0 :=
  fl_smz (fun s hs => fl_f0 (fun z => h s hs z.1) _)
theorem fl_tf_le (hw : ∀ s, s < m → w s ≤ 100) (d : Nat) (f : Int32) : fl_tf m L C w d st f ≤ 100 * m := by
  refine fl_smle (fun s hs => ?_)
  have a := fl_le1 (fl_ov L C d st s ∧ d < L s ∧ C s d = f)
  have b := Nat.mul_le_mul a (hw s hs)
  omega
theorem fl_tw_pos (T : fl_T N m fn up L C nd) (hw : ∀ s, s < m → 1 ≤ w s) {n : Nat} (h1 : 1 ≤ n) (h2 : n < N) : 1 ≤ fl_tw m L nd w n := by
  obtain ⟨a1, a2, a3, a4, a5, a6, a7, a8⟩ := T
  obtain ⟨s, i, hs, hi, e⟩ := a8 n h1 h2
  have a : fl_ic (nd s (i + 1) = n) * w s ≤ fl_sm (fun i => fl_ic (nd s i = n) * w s) (L s + 1) := fl_smge (f := fun i => fl_ic (nd s i = n) * w s) (by omega)
  have b : fl_sm (fun i => fl_ic (nd s i = n) * w s) (L s + 1) ≤ fl_tw m L nd w n := fl_smge (f := fun s => fl_sm (fun i => fl_ic (nd s i = n) * w s) (L s + 1)) hs
  rw [fl_t1 e] at a
  have := hw s hs
  omega
theorem fl_fn_F (T : fl_T N m fn up L C nd) {n : Nat} (h1 : 1 ≤ n) (h2 : n < N) : fl_F (fn n) := by
  obtain ⟨a1, a2, a3, a4, a5, a6, a7, a8⟩ := T
  obtain ⟨s, i, hs, hi, e⟩ := a8 n h1 h2
  obtain ⟨b1, b2, b3, b4, b5⟩ := a7 s i hs hi
  rw [← e, b4]; exact b5
/-- a sum over the nodes' totals, by samples -/
theorem fl_push (T : fl_T N m fn up L C nd) (G : Nat → Nat) : fl_sm (fun n => G n * fl_tw m L nd w n) N = fl_sm (fun s => fl_sm (fun i => G (nd s i) * w s) (L s + 1)) m := by
  have a : fl_sm (fun n => G n * fl_tw m L nd w n) N = fl_sm (fun n => fl_sm (fun s => fl_sm (fun i => G n * (fl_ic (nd s i = n) * w s)) (L s + 1)) m) N := by
    refine fl_smc (fun n _ => ?_)
    unfold fl_tw
    rw [fl_smm]
    refine fl_smc (fun s _ => ?_)
    rw [fl_smm]
  rw [a, fl_swap (fun n s => fl_sm (fun i => G n * (fl_ic (nd s i = n) * w s)) (L s + 1)) N m]
  refine fl_smc (fun s hs => ?_)
  rw [fl_swap (fun n i => G n * (fl_ic (nd s i = n) * w s)) N (L s + 1)]
  refine fl_smc (fun i hi => ?_)
  have b : fl_sm (fun n => G n * (fl_ic (nd s i = n) * w s)) N = fl_sm (fun n => fl_ic (nd s i = n) * (G n * w s)) N := fl_smc (fun n _ => Nat.mul_left_comm _ _ _)
  rw [b]
  exact fl_delta (fun n => G n * w s) (fl_T_lt T hs (by omega))
theorem fl_pusho (T : fl_T N m fn up L C nd) (G : Nat → Nat) : fl_sm (fun n => G n * fl_ow m L nd w n) N = fl_sm (fun s => G (nd s (L s)) * w s) m := by
  have a : fl_sm (fun n => G n * fl_ow m L nd w n) N = fl_sm (fun n => fl_sm (fun s => G n * (fl_ic (nd s (L s) = n) * w s)) m) N := by
    refine fl_smc (fun n _ => ?_)
    unfold fl_ow
    rw [fl_smm]
  rw [a, fl_swap (fun n s => G n * (fl_ic (nd s (L s) = n) * w s)) N m]
  refine fl_smc (fun s hs => ?_)
  have b : fl_sm (fun n => G n * (fl_ic (nd s (L s) = n) * w s)) N = fl_sm (fun n => fl_ic (nd s (L s) = n) * (G n * w s)) N := fl_smc (fun n _ => Nat.mul_left_comm _ _ _)
  rw [b]
  exact fl_delta (fun n => G n * w s) (fl_T_lt T hs (Nat.le_refl _))
/-- some node from n upward, at most k of them, has B -/
def fl_sa (B : Nat → Prop) (up : Nat → Nat) : Nat → Nat → Prop
  | 0, _ => False
  | k + 1, n => 1 ≤ n ∧ (B n ∨ fl_sa B up k (up n))
theorem fl_sa_nd (T : fl_T N m fn up L C nd) (B : Nat → Prop) {s : Nat} (hs : s < m) : ∀ k i, i ≤ L s → i ≤ k → (fl_sa B up k (nd s i) ↔ ∃ j, j < i ∧ B (nd s (j + 1))) := by
  obtain ⟨a1, a2, a3, a4, a5, a6, a7, a8⟩ := T
  intro k
  induction k with
  | zero =>
    intro i _ hi
    refine ⟨fun z => z.elim, ?_⟩
    rintro ⟨j, hj, _⟩
    omega
  | succ k ih =>
    intro i hi hk
    cases i with
    | zero =>
      refine ⟨fun z => ?_, ?_⟩
      · have z1 := z.1; rw [a5 s hs] at z1; omega
      · rintro ⟨j, hj, _⟩
        omega
    | succ i =>
      obtain ⟨b1, b2, b3, b4, b5⟩ := a7 s i hs (by omega)
      have q := ih i (by omega) (by omega)
      constructor
      · rintro ⟨_, z | z⟩
        · exact ⟨i, Nat.lt_succ_self i, z⟩
        · rw [b3] at z
          obtain ⟨j, hj, hb⟩ := q.1 z
          exact ⟨j, Nat.lt_succ_of_lt hj, hb⟩
      · rintro ⟨j, hj, hb⟩
        refine ⟨b1, ?_⟩
        by_cases e : j = i
        · subst e; exact Or.inl hb
        · refine Or.inr ?_
          rw [b3]
          exact q.2 ⟨j, by omega, hb⟩
theorem fl_top (T : fl_T N m fn up L C nd) (B : Nat → Prop) : fl_sm (fun n => fl_ic (1 ≤ n ∧ B n ∧ ¬ fl_sa B up 8 (up n)) * fl_tw m L nd w n) N = fl_sm (fun s => fl_ic (∃ i, i < L s ∧ B (nd s (i + 1))) * w s) m := by
  rw [fl_push T (fun n => fl_ic (1 ≤ n ∧ B n ∧ ¬ fl_sa B up 8 (up n)))]
  refine fl_smc (fun s hs => ?_)
  have hT := T
  obtain ⟨a1, a2, a3, a4, a5, a6, a7, a8⟩ := T
  have a : fl_sm (fun i => fl_ic (1 ≤ nd s i ∧ B (nd s i) ∧ ¬ fl_sa B up 8 (up (nd s i))) * w s) (L s + 1) = fl_sm (fun i => fl_ic ((1 ≤ i ∧ B (nd s i)) ∧ ∀ j, j < i → ¬ (1 ≤ j ∧ B (nd s j))) * w s) (L s + 1) := by
    refine fl_smc (fun i hi => ?_)
    cases i with
    | zero =>
      have y1 : ¬ (1 ≤ nd s 0 ∧ B (nd s 0) ∧ ¬ fl_sa B up 8 (up (nd s 0))) := fun z => by
        have z1 := z.1
        rw [a5 s hs] at z1
        omega
      have y2 : ¬ ((1 ≤ 0 ∧ B (nd s 0)) ∧ ∀ j, j < 0 → ¬ (1 ≤ j ∧ B (nd s j))) := fun z => absurd z.1.1 (by omega)
      rw [fl_f0 y1, fl_f0 y2]
    | succ i =>
      obtain ⟨b1, b2, b3, b4, b5⟩ := a7 s i hs (by omega)
      have l8 := a6 s hs
      have q := fl_sa_nd hT B hs 8 i (by omega) (by omega)
      refine fl_ifk ⟨fun z => ⟨⟨by omega, z.2.1⟩, fun j hj hz => ?_⟩, fun z => ⟨b1, z.1.2, fun hz => ?_⟩⟩ _
      · obtain ⟨j1, hb⟩ := hz
        obtain ⟨j, rfl⟩ : ∃ j', j = j' + 1 := ⟨j - 1, by omega⟩
        refine z.2.2 ?_
        rw [b3]
        exact q.2 ⟨j, by omega, hb⟩
      · rw [b3] at hz
        obtain ⟨j, hj, hb⟩ := q.1 hz
        exact z.2 (j + 1) (by omega) ⟨by omega, hb⟩
  rw [a, fl_first (fun i => 1 ≤ i ∧ B (nd s i)) (w s) (L s + 1)]
  refine fl_ifk ⟨?_, ?_⟩ _
  · rintro ⟨i, hi, i1, hb⟩
    obtain ⟨i, rfl⟩ : ∃ i', i = i' + 1 := ⟨i - 1, by omega⟩
    exact ⟨i, by omega, hb⟩
  · rintro ⟨i, hi, hb⟩
    exact ⟨i + 1, by omega, by omega, hb⟩
/-- the node n ends with f, behind the caller c if there is one -/
def fl_B (fn : Nat → Int32) (up : Nat → Nat) (c f : Int32) (n : Nat) : Prop := fn n = f ∧ (c < 0 ∨ fn (up n) = c)
/-- the reference: f stands in sample s, behind the caller c if there is one -/
def fl_st (L : Nat → Nat) (C : Nat → Nat → Int32) (c f : Int32) (s : Nat) : Prop := ∃ i, i < L s ∧ C s i = f ∧ (c < 0 ∨ (1 ≤ i ∧ C s (i - 1) = c))
theorem fl_stand (T : fl_T N m fn up L C nd) (c f : Int32) : fl_sm (fun n => fl_ic (1 ≤ n ∧ fl_B fn up c f n ∧ ¬ fl_sa (fl_B fn up c f) up 8 (up n)) * fl_tw m L nd w n) N = fl_sm (fun s => fl_ic (fl_st L C c f s) * w s) m := by
  rw [fl_top T (fl_B fn up c f)]
  obtain ⟨a1, a2, a3, a4, a5, a6, a7, a8⟩ := T
  have key : ∀ s i, s < m → i < L s → (fl_B fn up c f (nd s (i + 1)) ↔ C s i = f ∧ (c < 0 ∨ (1 ≤ i ∧ C s (i - 1) = c))) := by
    intro s i hs hi
    obtain ⟨b1, b2, b3, b4, b5⟩ := a7 s i hs hi
    unfold fl_B
    rw [b3, b4]
    cases i with
    | zero =>
      rw [a5 s hs, a2]
      refine ⟨fun z => ⟨z.1, ?_⟩, fun z => ⟨z.1, ?_⟩⟩
      · rcases z.2 with q | q
        · exact Or.inl q
        · rw [← q]; exact Or.inl (by decide)
      · rcases z.2 with q | q
        · exact Or.inl q
        · exact absurd q.1 (by omega)
    | succ i =>
      obtain ⟨d1, d2, d3, d4, d5⟩ := a7 s i hs (by omega)
      rw [d4, Nat.add_sub_cancel]
      refine ⟨fun z => ⟨z.1, ?_⟩, fun z => ⟨z.1, ?_⟩⟩
      · rcases z.2 with q | q
        · exact Or.inl q
        · exact Or.inr ⟨by omega, q⟩
      · rcases z.2 with q | q
        · exact Or.inl q
        · exact Or.inr q.2
  refine fl_smc (fun s hs => fl_ifk ⟨?_, ?_⟩ _)
  · rintro ⟨i, hi, hb⟩
    exact ⟨i, hi, (key s i hs hi).1 hb⟩
  · rintro ⟨i, hi, hb⟩
    exact ⟨i, hi, (key s i hs hi).2 hb⟩
theorem fl_excl (T : fl_T N m fn up L C nd) (f : Int32) : fl_sm (fun n => fl_ic (1 ≤ n ∧ fn n = f) * fl_ow m L nd w n) N = fl_sm (fun s => fl_ic (1 ≤ L s ∧ C s (L s - 1) = f) * w s) m := by
  rw [fl_pusho T (fun n => fl_ic (1 ≤ n ∧ fn n = f))]
  obtain ⟨a1, a2, a3, a4, a5, a6, a7, a8⟩ := T
  refine fl_smc (fun s hs => ?_)
  refine fl_ifk ?_ _
  by_cases e : L s = 0
  · rw [e, a5 s hs]
    exact ⟨fun z => absurd z.1 (by omega), fun z => absurd z.1 (by omega)⟩
  · obtain ⟨l, hl⟩ : ∃ l, L s = l + 1 := ⟨L s - 1, by omega⟩
    obtain ⟨b1, b2, b3, b4, b5⟩ := a7 s l hs (by omega)
    rw [hl, b4, Nat.add_sub_cancel]
    exact ⟨fun z => ⟨by omega, z.2⟩, fun z => ⟨b1, z.2⟩⟩
end
end
section
/-- the reference: the first n functions of both samples are the same -/
def fl_shr (L : Nat → Nat) (C : Nat → Nat → Int32) (s t n : Nat) : Prop := n ≤ L s ∧ n ≤ L t ∧ ∀ i, i < n → C s i = C t i
noncomputable def fl_nt (m : Nat) (L : Nat → Nat) (C : Nat → Nat → Int32) (w : Nat → Nat) (s n : Nat) : Nat :=
  fl_ic (¬ ∃ t, t < s ∧ fl_shr L C s t n) * fl_sm (fun t => fl_ic (fl_shr L C s t n) * w t) m
/-- n is a node of one of the first s samples -/
def fl_se (L : Nat → Nat) (nd : Nat → Nat → Nat) (s n : Nat) : Prop := ∃ t j, t < s ∧ j < L t ∧ nd t (j + 1) = n
def fl_dp (up : Nat → Nat) : Nat → Nat → Nat
  | 0, _ => 0
  | k + 1, n => if n = 0 then 0 else fl_dp up k (up n) + 1
section
variable {N m : Nat} {fn : Nat → Int32} {up L : Nat → Nat} {C : Nat → Nat → Int32} {nd : Nat → Nat → Nat} {w : Nat → Nat}
theorem fl_nt_tw (T : fl_T N m fn up L C nd) {s n : Nat} (hs : s < m) (hn : n ≤ L s) : fl_nt m L C w s n = fl_ic (¬ ∃ t, t < s ∧ fl_shr L C s t n) * fl_tw m L nd w (nd s n) := by
  unfold fl_nt
  rw [fl_total T (fl_pt_own T hs n hn)]
  have e : fl_sm (fun t => fl_ic (fl_shr L C s t n) * w t) m = fl_sm (fun t => fl_ic (fl_ov L C n (C s) t) * w t) m := by
    refine fl_smc (fun t _ => fl_ifk ⟨fun z => ?_, fun z => ?_⟩ _)
    · exact ⟨z.2.1, fun i hi => (z.2.2 i hi).symm⟩
    · exact ⟨hn, z.1, fun i hi => (z.2 i hi).symm⟩
  rw [e]
theorem fl_shr_nd (T : fl_T N m fn up L C nd) {s t n : Nat} (hs : s < m) (ht : t < m) (hn : n ≤ L s) : fl_shr L C s t n ↔ n ≤ L t ∧ nd t n = nd s n := by
  have q := fl_pt_nd T ht n (nd s n) (fl_pt_own T hs n hn)
  constructor
  · intro z
    exact ⟨z.2.1, (q z.2.1).2 (fun i hi => (z.2.2 i hi).symm)⟩
  · intro z
    exact ⟨hn, z.1, fun i hi => ((q z.1).1 z.2 i hi).symm⟩
theorem fl_fresh (T : fl_T N m fn up L C nd) {s i : Nat} (hs : s < m) (hi : i < L s) : (∃ t, t < s ∧ fl_shr L C s t (i + 1)) ↔ fl_se L nd s (nd s (i + 1)) := by
  constructor
  · rintro ⟨t, ht, h⟩
    obtain ⟨h1, h2⟩ := (fl_shr_nd T hs (by omega) (by omega)).1 h
    exact ⟨t, i, ht, by omega, h2⟩
  · rintro ⟨t, j, ht, hj, e⟩
    have lv := fl_pt_lv T (s := t) (by omega) (i + 1) (nd s (i + 1)) (j + 1) (fl_pt_own T hs (i + 1) (by omega)) (by omega) e
    rw [lv] at e
    exact ⟨t, ht, (fl_shr_nd T hs (by omega) (by omega)).2 ⟨by omega, e⟩⟩
theorem fl_vnt (T : fl_T N m fn up L C nd) {s i : Nat} (hs : s < m) (hi : i < L s) (V : Nat → Prop) (V0 : ¬ V 0) : V (fl_nt m L C w s (i + 1)) ↔ ¬ fl_se L nd s (nd s (i + 1)) ∧ V (fl_tw m L nd w (nd s (i + 1))) := by
  rw [fl_nt_tw T hs (by omega)]
  by_cases e : fl_se L nd s (nd s (i + 1))
  · have z : ¬ ¬ ∃ t, t < s ∧ fl_shr L C s t (i + 1) := fun q => q ((fl_fresh T hs hi).2 e)
    rw [fl_f0 z]
    exact ⟨fun q => absurd q V0, fun q => absurd e q.1⟩
  · have z : ¬ ∃ t, t < s ∧ fl_shr L C s t (i + 1) := fun q => e ((fl_fresh T hs hi).1 q)
    rw [fl_t1 z]
    exact ⟨fun q => ⟨e, q⟩, fun q => q.2⟩
theorem fl_nd_inj (T : fl_T N m fn up L C nd) {s i j : Nat} (hs : s < m) (hi : i < L s) (hj : j < L s) (e : nd s (i + 1) = nd s (j + 1)) : i = j := by
  have := fl_pt_lv T hs (j + 1) (nd s (j + 1)) (i + 1) (fl_pt_own T hs (j + 1) (by omega)) (by omega) e
  omega
theorem fl_paths (T : fl_T N m fn up L C nd) (V : Nat → Prop) (V0 : ¬ V 0) : fl_sm (fun n => fl_ic (1 ≤ n ∧ V (fl_tw m L nd w n))) N = fl_sm (fun s => fl_sm (fun i => fl_ic (V (fl_nt m L C w s (i + 1)))) (L s)) m := by
  have main : ∀ s, s ≤ m → fl_sm (fun s => fl_sm (fun i => fl_ic (V (fl_nt m L C w s (i + 1)))) (L s)) s = fl_sm (fun n => fl_ic (fl_se L nd s n ∧ V (fl_tw m L nd w n))) N := by
    intro s
    induction s with
    | zero =>
      intro _
      refine (fl_smz (fun n _ => fl_f ?_)).symm
      rintro ⟨⟨t, j, ht, _⟩, _⟩
      exact Nat.not_lt_zero _ ht
    | succ s ih =>
      intro hs
      have hs' : s < m := by omega
      have a : fl_sm (fun i => fl_ic (V (fl_nt m L C w s (i + 1)))) (L s) = fl_sm (fun i => (fun n => fl_ic (¬ fl_se L nd s n ∧ V (fl_tw m L nd w n))) ((fun i => nd s (i + 1)) i)) (L s) :=
        fl_smc (fun i hi => fl_iff (fl_vnt T hs' hi V V0))
      have b := fl_inj (fun n => fl_ic (¬ fl_se L nd s n ∧ V (fl_tw m L nd w n))) (fun i => nd s (i + 1)) N (L s) (fun i hi => fl_T_lt T hs' (by omega)) (fun i j hi hj e => fl_nd_inj T hs' hi hj e)
      rw [fl_smS, ih (by omega), a, b, ← fl_sma]
      refine fl_smc (fun n _ => ?_)
      show fl_ic (fl_se L nd s n ∧ V (fl_tw m L nd w n)) + fl_ic (∃ i, i < L s ∧ nd s (i + 1) = n) * fl_ic (¬ fl_se L nd s n ∧ V (fl_tw m L nd w n)) = fl_ic (fl_se L nd (s + 1) n ∧ V (fl_tw m L nd w n))
      by_cases v : V (fl_tw m L nd w n)
      · by_cases e1 : fl_se L nd s n
        · have e3 : fl_se L nd (s + 1) n := by
            obtain ⟨t, j, ht, hj, e⟩ := e1
            exact ⟨t, j, by omega, hj, e⟩
          rw [fl_t (And.intro e1 v), fl_t (And.intro e3 v), fl_f (fun z : ¬ fl_se L nd s n ∧ V (fl_tw m L nd w n) => z.1 e1), Nat.mul_zero]
        · rw [fl_f (fun z : fl_se L nd s n ∧ V (fl_tw m L nd w n) => e1 z.1), fl_t (⟨e1, v⟩ : ¬ fl_se L nd s n ∧ V (fl_tw m L nd w n)), Nat.zero_add, Nat.mul_one]
          refine fl_iff ⟨?_, ?_⟩
          · rintro ⟨i, hi, e⟩
            exact ⟨⟨s, i, Nat.lt_succ_self s, hi, e⟩, v⟩
          · rintro ⟨⟨t, j, ht, hj, e⟩, _⟩
            by_cases q : t = s
            · subst q; exact ⟨j, hj, e⟩
            · exact absurd ⟨t, j, by omega, hj, e⟩ e1
      · rw [fl_f (fun z : fl_se L nd s n ∧ V (fl_tw m L nd w n) => v z.2), fl_f (fun z : fl_se L nd (s + 1) n ∧ V (fl_tw m L nd w n) => v z.2), fl_f (fun z : ¬ fl_se L nd s n ∧ V (fl_tw m L nd w n) => v z.2), Nat.mul_zero]
  rw [main m (Nat.le_refl m)]
  obtain ⟨a1, a2, a3, a4, a5, a6, a7, a8⟩ := T
  refine fl_smc (fun n hn => fl_iff ⟨fun z => ⟨?_, z.2⟩, fun z => ⟨?_, z.2⟩⟩)
  · obtain ⟨s, i, hs, hi, e⟩ := a8 n z.1 hn
    exact ⟨s, i, hs, hi, e⟩
  · obtain ⟨⟨s, i, hs, hi, e⟩, _⟩ := z
    have := (a7 s i hs hi).1
    omega
theorem fl_dp_nd (T : fl_T N m fn up L C nd) {s : Nat} (hs : s < m) : ∀ k i, i ≤ L s → i ≤ k → fl_dp up k (nd s i) = i := by
  obtain ⟨a1, a2, a3, a4, a5, a6, a7, a8⟩ := T
  intro k
  induction k with
  | zero => intro i _ hi; show 0 = i; omega
  | succ k ih =>
    intro i hi hk
    show (if nd s i = 0 then 0 else fl_dp up k (up (nd s i)) + 1) = i
    cases i with
    | zero => rw [if_pos (a5 s hs)]
    | succ i =>
      obtain ⟨b1, b2, b3, b4, b5⟩ := a7 s i hs (by omega)
      rw [if_neg (by omega), b3, ih i (by omega) (by omega)]
theorem fl_deep (T : fl_T N m fn up L C nd) (V : Nat → Prop) (V0 : ¬ V 0) : fl_mx 0 (fun n => fl_ic (1 ≤ n ∧ V (fl_tw m L nd w n)) * fl_dp up 8 n) N = fl_my (fun s i => fl_ic (V (fl_nt m L C w s (i + 1))) * (i + 1)) L m := by
  have l8 : ∀ s, s < m → L s ≤ 8 := T.2.2.2.2.2.1
  apply Nat.le_antisymm
  · refine fl_mx_le (Nat.zero_le _) (fun n hn => ?_)
    by_cases e : 1 ≤ n ∧ V (fl_tw m L nd w n)
    · rw [fl_t1 e]
      obtain ⟨s0, i0, hs0, hi0, e0⟩ := T.2.2.2.2.2.2.2 n e.1 hn
      obtain ⟨s, ⟨hs, i, hi, en⟩, hmin⟩ := pk_least (fun s => s < m ∧ ∃ i, i < L s ∧ nd s (i + 1) = n) ⟨s0, hs0, i0, hi0, e0⟩
      have nse : ¬ fl_se L nd s (nd s (i + 1)) := by
        rintro ⟨t, j, ht, hj, ej⟩
        exact hmin t ht ⟨by omega, j, hj, ej.trans en⟩
      have v : V (fl_nt m L C w s (i + 1)) := (fl_vnt T hs hi V V0).2 ⟨nse, by rw [en]; exact e.2⟩
      have g : fl_ic (V (fl_nt m L C w s (i + 1))) * (i + 1) ≤ fl_my (fun s i => fl_ic (V (fl_nt m L C w s (i + 1))) * (i + 1)) L m := fl_my_ge (F := fun s i => fl_ic (V (fl_nt m L C w s (i + 1))) * (i + 1)) hs hi
      rw [fl_t1 v] at g
      have := l8 s hs
      have d := fl_dp_nd T hs 8 (i + 1) (by omega) (by omega)
      rw [en] at d
      rw [d]; exact g
    · rw [fl_f0 e]; exact Nat.zero_le _
  · refine fl_my_le (fun s i hs hi => ?_)
    by_cases v : V (fl_nt m L C w s (i + 1))
    · rw [fl_t1 v]
      have q := (fl_vnt T hs hi V V0).1 v
      have b := T.2.2.2.2.2.2.1 s i hs hi
      have g : fl_ic (1 ≤ nd s (i + 1) ∧ V (fl_tw m L nd w (nd s (i + 1)))) * fl_dp up 8 (nd s (i + 1)) ≤ fl_mx 0 (fun n => fl_ic (1 ≤ n ∧ V (fl_tw m L nd w n)) * fl_dp up 8 n) N := fl_mx_ge (f := fun n => fl_ic (1 ≤ n ∧ V (fl_tw m L nd w n)) * fl_dp up 8 n) b.2.1
      have := l8 s hs
      rw [fl_t1 ⟨b.1, q.2⟩, fl_dp_nd T hs 8 (i + 1) (by omega) (by omega)] at g
      exact g
    · rw [fl_f0 v]; exact Nat.zero_le _
end
end
section
theorem fl_lc_lt {up : Nat → Nat} {p n : Nat} (h : 1 ≤ n) : fl_lc up p n < n := by
  rcases fl_lc_spec up p n with q | q
  · omega
  · omega
theorem fl_acc0 {a b : Nat} (h : b = 0) : nI a + 0 = nI (a + b) := by subst h; exact Int32.add_zero _
theorem fl_acc1 {a b : Nat} {x : Int32} (h : x = nI b) : nI a + x = nI (a + b) := by rw [h, nI_add]
theorem fl_le0 : nI 0 ≤ 0 := by decide
theorem fl_1n0 : ¬ (1 : Int32) = 0 := by decide
/-- what childWith answers -/
def fl_cr (fn : Nat → Int32) (up : Nat → Nat) (p : Nat) (f : Int32) (b r : Nat) : Prop := (r = 0 ∧ ∀ c, 1 ≤ c → c < b → up c = p → fn c ≠ f) ∨ (1 ≤ r ∧ r < b ∧ up r = p ∧ fn r = f)
section
variable {N m d : Nat} {fn ab ch si ow tw st : Nat → Int32} {up L : Nat → Nat} {C : Nat → Nat → Int32} {nd : Nat → Nat → Nat} {w : Nat → Nat} {fd fs fN : Int32} {post : Int32 → Prop}
theorem fl_cw7 (hN : N ≤ 321) (K : fl_K N up ab ch si) {p : Nat} {f : Int32} : ∀ n b, b ≤ N → fl_lc up p b < n → (∀ r, fl_cr fn up p f b r → post (nI r)) → wX_childWith_7 post f fd fs fN st fn ab ch si ow tw n (nI (fl_lc up p b)) := by
  intro n
  induction n with
  | zero => intro b _ h; exact absurd h (Nat.not_lt_zero _)
  | succ n ih =>
    intro b hb hl hp
    rcases fl_lc_spec up p b with ⟨h0, hn⟩ | ⟨h1, h2, h3, h4⟩
    · rw [h0]
      exact br_t fl_le0 (hp 0 (Or.inl ⟨rfl, fun c c1 c2 hu => absurd hu (hn c c1 c2)⟩))
    · generalize hc : fl_lc up p b = c at h1 h2 h3 h4 hl ⊢
      have hcl : (nI c).toNatClampNeg = c := nI_clamp (by omega)
      have hin : vp_in (nI c) 321 := vp_in_nI (by omega) (by omega)
      refine br_f (nI_nle h1 (by omega)) ⟨hin, ?_⟩
      rw [hcl]
      refine br_c (fun e => hp c (Or.inr ⟨h1, h2, h3, e⟩)) (fun e => ⟨hin, ?_⟩)
      refine nm_r (e' := nI (fl_lc up p c)) (by rw [K.2.1 c h1 (by omega), h3]) ?_
      have hlt : fl_lc up p c < c := fl_lc_lt h1
      refine ih c (by omega) (by omega) (fun r hr => hp r ?_)
      rcases hr with ⟨r0, hno⟩ | ⟨r1, r2, r3, r4⟩
      · refine Or.inl ⟨r0, fun x x1 x2 hu => ?_⟩
        by_cases y1 : x = c
        · subst y1; exact e
        · by_cases y2 : x < c
          · exact hno x x1 y2 hu
          · exact absurd hu (h4 x (by omega) x2)
      · exact Or.inr ⟨r1, by omega, r3, r4⟩
theorem fl_childWith (hN : N ≤ 321) (K : fl_K N up ab ch si) {p : Nat} {f : Int32} (hp : p < N) (h : ∀ r, fl_cr fn up p f N r → post (nI r)) : wpX_childWith post (fd, fs, fN, st, fn, ab, ch, si, ow, tw) (nI p) f :=
  And.intro (vp_in_nI (by omega) (by omega)) (nm_r (e' := nI (fl_lc up p N)) (by rw [nI_clamp (by omega)]; exact K.1 p) (Exists.intro (fl_lc up p N + 1) (fl_cw7 hN K _ N (Nat.le_refl N) (Nat.lt_succ_self _) h)))
theorem fl_ns4 (hN : N ≤ 321) (d8 : d ≤ 8) (K : fl_K N up ab ch si) (T : fl_T N m fn up L C nd) (hf : ∀ p, p < N → fl_pt N fn up st d p → post (nI p)) (hn : (∀ s, s < m → ¬ fl_ov L C d st s) → post (-1)) : ∀ n k p, k ≤ d → d - k < n → fl_pt N fn up st k p → wX_nodeOfStack_4 post (nI d) fs fN st fn ab ch si ow tw n (nI p) (nI k) := by
  intro n
  induction n with
  | zero => intro k p _ h; exact absurd h (Nat.not_lt_zero _)
  | succ n ih =>
    intro k p hk hd h
    by_cases e : k = d
    · subst e
      exact br_t (nI_le (Nat.le_refl _) (by omega)) (hf p (fl_pt_lt T h) h)
    · refine br_f (nI_ge (by omega) (by omega)) ⟨vp_in_nI (by omega) (by omega), ?_⟩
      rw [nI_clamp (n := k) (by omega)]
      refine fl_childWith hN K (fl_pt_lt T h) (fun r hr => ?_)
      rcases hr with ⟨r0, hno⟩ | ⟨r1, r2, r3, r4⟩
      · subst r0
        exact br_t nI_0 (hn (fun s hs => fl_none T h (by omega) hno hs))
      · exact br_f (nI_ne0 r1 (by omega)) (nm_r (nI_1 k) (ih (k + 1) r (by omega) (by omega) ⟨r1, r2, r4, r3.symm ▸ h⟩))
theorem fl_nodeOfStack (hN : N ≤ 321) (d8 : d ≤ 8) (K : fl_K N up ab ch si) (T : fl_T N m fn up L C nd) (hf : ∀ p, p < N → fl_pt N fn up st d p → post (nI p)) (hn : (∀ s, s < m → ¬ fl_ov L C d st s) → post (-1)) : wpX_nodeOfStack post (nI d, fs, fN, st, fn, ab, ch, si, ow, tw) :=
  Exists.intro (d + 1) (fl_ns4 hN d8 K T hf hn (d + 1) 0 0 (Nat.zero_le d) (by omega) rfl)
theorem fl_totalX (hN : N ≤ 321) (d8 : d ≤ 8) (K : fl_K N up ab ch si) (T : fl_T N m fn up L C nd) (htw : ∀ n, tw n = nI (fl_tw m L nd w n)) (h : post (nI (fl_sm (fun s => fl_ic (fl_ov L C d st s) * w s) m))) : wpX_total post (nI d, fs, fN, st, fn, ab, ch, si, ow, tw) := by
  refine fl_nodeOfStack hN d8 K T (fun p pN hp => ?_) (fun hz => ?_)
  · refine br_t (nI_pos' (by omega)) ⟨vp_in_nI (by omega) (by omega), ?_⟩
    rw [nI_clamp (n := p) (by omega), htw p, fl_total T hp]
    exact h
  · refine br_f (by decide) ?_
    rw [fl_smz (fun s hs => fl_f0 (hz s hs) _)] at h
    exact h
theorem fl_ownX (hN : N ≤ 321) (d8 : d ≤ 8) (K : fl_K N up ab ch si) (T : fl_T N m fn up L C nd) (how : ∀ n, ow n = nI (fl_ow m L nd w n)) (h : post (nI (fl_sm (fun s => fl_ic (fl_ov L C d st s ∧ L s = d) * w s) m))) : wpX_own post (nI d, fs, fN, st, fn, ab, ch, si, ow, tw) := by
  refine fl_nodeOfStack hN d8 K T (fun p pN hp => ?_) (fun hz => ?_)
  · refine br_t (nI_pos' (by omega)) ⟨vp_in_nI (by omega) (by omega), ?_⟩
    rw [nI_clamp (n := p) (by omega), how p, fl_own T hp]
    exact h
  · refine br_f (by decide) ?_
    rw [fl_smz (fun s hs => fl_f0 (fun z => hz s hs z.1) _)] at h
    exact h
/-- c is no better than b -/
def fl_R (tw fn : Nat → Int32) (c b : Nat) : Prop := (tw c).toInt < (tw b).toInt ∨ ((tw c).toInt = (tw b).toInt ∧ (fn b).toInt ≤ (fn c).toInt)
theorem fl_ht94 {J : Int32 → Int32 → Prop} {c s' : Nat} (hc : c < 321) (hs : si c = nI s') (h : J (nI c) (nI s')) : wX_hottest_94 post J (nI c) fd fs fN st fn ab ch si ow tw :=
  And.intro (vp_in_nI hc (by omega)) (nm_r (e' := nI s') (by rw [nI_clamp (by omega)]; exact hs) h)
theorem fl_ht78 {J : Int32 → Int32 → Prop} {b c s' : Nat} (hc : c < 321) (hs : si c = nI s') (h : J (nI c) (nI s')) : wX_hottest_78 post J (nI b) (nI c) fd fs fN st fn ab ch si ow tw :=
  br_c (fun _ => fl_ht94 hc hs h) (fun _ => br_f fl_1n0 (fl_ht94 hc hs h))
theorem fl_ht82 {J : Int32 → Int32 → Prop} {b c s' : Nat} (hb : b < 321) (hc : c < 321) (hs : si c = nI s') (h0 : b = 0 → J (nI c) (nI s')) (h1 : 1 ≤ b → J (nI b) (nI s')) : wX_hottest_82 post J (nI b) (nI c) fd fs fN st fn ab ch si ow tw :=
  pk_eq b 0 (fun e => fl_ht94 hc hs (h0 e)) (fun e => br_t rfl (And.intro (vp_in_nI hc (by omega)) (nm_r (e' := nI s') (by rw [nI_clamp (by omega)]; exact hs) (h1 (by omega)))))
theorem fl_ht29 (hN : N ≤ 321) (K : fl_K N up ab ch si) {p : Nat} (hn : (∀ c, 1 ≤ c → c < N → up c ≠ p) → post (-1)) (hb : ∀ b, 1 ≤ b → b < N → up b = p → (∀ c, 1 ≤ c → c < N → up c = p → fl_R tw fn c b) → post (fn b)) : ∀ n e b, e ≤ N → fl_lc up p e < n → b < N → (b = 0 → ∀ c, e ≤ c → 1 ≤ c → c < N → up c ≠ p) → (1 ≤ b → up b = p ∧ ∀ c, e ≤ c → 1 ≤ c → c < N → up c = p → fl_R tw fn c b) → wX_hottest_29 post fd fs fN st fn ab ch si ow tw n (nI b) (nI (fl_lc up p e)) := by
  intro n
  induction n with
  | zero => intro e b _ h; exact absurd h (Nat.not_lt_zero _)
  | succ n ih =>
    intro e b he hl hbN i0 i1
    rcases fl_lc_spec up p e with ⟨h0, hno⟩ | ⟨h1, h2, h3, h4⟩
    · rw [h0]
      refine br_t fl_le0 (pk_eq b 0 (fun z => hn ?_) (fun z => ⟨vp_in_nI (by omega) (by omega), ?_⟩))
      · intro c c1 c2
        by_cases y : c < e
        · exact hno c c1 y
        · exact i0 z c (by omega) c1 c2
      · rw [nI_clamp (n := b) (by omega)]
        obtain ⟨j1, j2⟩ := i1 (by omega)
        refine hb b (by omega) hbN j1 (fun c c1 c2 hu => ?_)
        by_cases y : c < e
        · exact absurd hu (hno c c1 y)
        · exact j2 c (by omega) c1 c2 hu
    · generalize hc : fl_lc up p e = c at h1 h2 h3 h4 hl ⊢
      have hcl : (nI c).toNatClampNeg = c := nI_clamp (by omega)
      have hbl : (nI b).toNatClampNeg = b := nI_clamp (by omega)
      have hin : vp_in (nI c) 321 := vp_in_nI (by omega) (by omega)
      have hib : vp_in (nI b) 321 := vp_in_nI (by omega) (by omega)
      have hsi : si c = nI (fl_lc up p c) := by rw [K.2.1 c h1 (by omega), h3]
      have hlt : fl_lc up p c < c := fl_lc_lt h1
      have c321 : c < 321 := by omega
      have b321 : b < 321 := by omega
      have KC : (1 ≤ b → fl_R tw fn b c) → wX_hottest_29 post fd fs fN st fn ab ch si ow tw n (nI c) (nI (fl_lc up p c)) := by
        intro hr
        refine ih c c (by omega) (by omega) (by omega) (fun z => by omega) (fun _ => ⟨h3, fun x x0 x1 x2 hu => ?_⟩)
        by_cases y : x = c
        · subst y; exact Or.inr ⟨rfl, Int.le_refl _⟩
        · by_cases y2 : x < e
          · exact absurd hu (h4 x (by omega) y2)
          · by_cases z : b = 0
            · exact absurd hu (i0 z x (by omega) x1 x2)
            · have r1 := (i1 (by omega)).2 x (by omega) x1 x2 hu
              have r2 := hr (by omega)
              unfold fl_R at r1 r2 ⊢
              omega
      have KB : 1 ≤ b → fl_R tw fn c b → wX_hottest_29 post fd fs fN st fn ab ch si ow tw n (nI b) (nI (fl_lc up p c)) := by
        intro b1 hr
        refine ih c b (by omega) (by omega) hbN (fun z => by omega) (fun _ => ⟨(i1 b1).1, fun x x0 x1 x2 hu => ?_⟩)
        by_cases y : x = c
        · subst y; exact hr
        · by_cases y2 : x < e
          · exact absurd hu (h4 x (by omega) y2)
          · exact (i1 b1).2 x (by omega) x1 x2 hu
      refine br_f (nI_nle h1 (by omega)) ⟨hin, hib, ?_⟩
      rw [hcl, hbl]
      refine br_c (fun q => fl_ht78 c321 hsi (KC (fun _ => ?_))) (fun q => ⟨hin, hib, br_c (fun q2 => ⟨hin, hib, br_c (fun q3 => ?_) (fun q3 => ?_)⟩) (fun q2 => ?_)⟩)
      · rw [Int32.lt_iff_toInt_lt] at q
        exact Or.inl q
      · rw [Int32.le_iff_toInt_le] at q3
        refine fl_ht82 b321 c321 hsi (fun z => KC (fun y => by omega)) (fun y => KB y ?_)
        exact Or.inr ⟨by rw [q2], q3⟩
      · rw [Int32.le_iff_toInt_le] at q3
        refine fl_ht78 c321 hsi (KC (fun _ => ?_))
        exact Or.inr ⟨by rw [q2], by omega⟩
      · refine fl_ht82 b321 c321 hsi (fun z => KC (fun y => by omega)) (fun y => KB y ?_)
        rw [Int32.lt_iff_toInt_lt] at q
        have q4 : ¬ (tw c).toInt = (tw b).toInt := fun z => q2 (Int32.toInt_inj.1 z)
        exact Or.inl (by omega)
end
end
section
theorem fl_dp_le (up : Nat → Nat) : ∀ k n, fl_dp up k n ≤ k := by
  intro k
  induction k with
  | zero => intro n; exact Nat.le_refl 0
  | succ k ih =>
    intro n
    show (if n = 0 then 0 else fl_dp up k (up n) + 1) ≤ k + 1
    split
    · omega
    · have := ih (up n); omega
section
variable {N m d : Nat} {fn ab ch si ow tw st : Nat → Int32} {up L : Nat → Nat} {C : Nat → Nat → Int32} {nd : Nat → Nat → Nat} {w : Nat → Nat} {fd fs fN : Int32} {post : Int32 → Prop}
theorem fl_sa11 (hN : N ≤ 321) (N1 : 1 ≤ N) (K : fl_K N up ab ch si) (hup : ∀ n, 1 ≤ n → n < N → up n < n) {c f : Int32} : ∀ k j q n, j + k = 8 → q < N → k < n → (fl_sa (fl_B fn up c f) up k q → post 1) → (¬ fl_sa (fl_B fn up c f) up k q → post 0) → wX_standsAbove_11 post c f fd fs fN st fn ab ch si ow tw n (nI q) (nI j) := by
  intro k
  induction k with
  | zero =>
    intro j q n hj hq hn _ h0
    obtain ⟨n, rfl⟩ : ∃ n', n = n' + 1 := ⟨n - 1, by omega⟩
    exact br_t (nI_le (a := 8) (by omega) (by omega)) (h0 (fun z => z))
  | succ k ih =>
    intro j q n hj hq hn h1 h0
    obtain ⟨n, rfl⟩ : ∃ n', n = n' + 1 := ⟨n - 1, by omega⟩
    refine br_f (nI_ge (b := 8) (by omega) (by omega)) ?_
    by_cases e : q = 0
    · subst e
      exact br_t fl_le0 (h0 (fun z => absurd z.1 (by omega)))
    · have hu := hup q (by omega) hq
      have hql : (nI q).toNatClampNeg = q := nI_clamp (by omega)
      have hul : (nI (up q)).toNatClampNeg = up q := nI_clamp (by omega)
      have hin : vp_in (nI q) 321 := vp_in_nI (by omega) (by omega)
      have hiu : vp_in (nI (up q)) 321 := vp_in_nI (by omega) (by omega)
      have hab : ab q = nI (up q) := K.2.2 q (by omega) hq
      have nx : ¬ fl_B fn up c f q → wX_standsAbove_11 post c f fd fs fN st fn ab ch si ow tw n (nI (up q)) (nI (j + 1)) := by
        intro nb
        refine ih (j + 1) (up q) n (by omega) (by omega) (by omega) (fun z => h1 ⟨by omega, Or.inr z⟩) (fun z => h0 (fun y => ?_))
        rcases y.2 with y | y
        · exact nb y
        · exact z y
      refine br_f (nI_nle (by omega) (by omega)) ⟨hin, ?_⟩
      rw [hql, hab, hul]
      refine br_c (fun y => br_c (fun yc => h1 ⟨by omega, Or.inl ⟨y, Or.inl yc⟩⟩) (fun yc => ⟨hin, hiu, br_c (fun y2 => h1 ⟨by omega, Or.inl ⟨y, Or.inr y2⟩⟩) (fun y2 => ⟨hin, nm_e (nm_r (nI_1 j) (nx ?_))⟩)⟩)) (fun y => ⟨hin, nm_e (nm_r (nI_1 j) (nx ?_))⟩)
      · rintro ⟨_, z | z⟩
        · exact yc z
        · exact y2 z
      · exact fun z => y z.1
theorem fl_standsAbove (hN : N ≤ 321) (N1 : 1 ≤ N) (K : fl_K N up ab ch si) (hup : ∀ n, 1 ≤ n → n < N → up n < n) {c f : Int32} {q : Nat} (q1 : 1 ≤ q) (qN : q < N) (h1 : fl_sa (fl_B fn up c f) up 8 (up q) → post 1) (h0 : ¬ fl_sa (fl_B fn up c f) up 8 (up q) → post 0) : wpX_standsAbove post (fd, fs, fN, st, fn, ab, ch, si, ow, tw) (nI q) c f := by
  have hu := hup q q1 qN
  exact And.intro (vp_in_nI (by omega) (by omega)) (nm_r (e' := nI (up q)) (by rw [nI_clamp (by omega)]; exact K.2.2 q q1 qN) (Exists.intro 9 (fl_sa11 hN N1 K hup 8 0 (up q) 9 (by omega) (by omega) (by omega) h1 h0)))
theorem fl_in13 (hN : N ≤ 321) (N1 : 1 ≤ N) (K : fl_K N up ab ch si) (hup : ∀ n, 1 ≤ n → n < N → up n < n) {f : Int32} {g : Nat → Nat} (g1 : ∀ i, 1 ≤ i → i < N → fn i = f → ¬ fl_sa (fl_B fn up (-1) f) up 8 (up i) → tw i = nI (g i)) (g0 : ∀ i, 1 ≤ i → i < N → ¬ (fn i = f ∧ ¬ fl_sa (fl_B fn up (-1) f) up 8 (up i)) → g i = 0) (h : post (nI (fl_sm g N))) : ∀ n i, 1 ≤ i → i ≤ N → N - i < n → wX_inclusive_13 post f fd fs (nI N) st fn ab ch si ow tw n (nI (fl_sm g i)) (nI i) := by
  intro n
  induction n with
  | zero => intro i _ _ h; exact absurd h (Nat.not_lt_zero _)
  | succ n ih =>
    intro i i1 iN hn
    by_cases e : i = N
    · subst e
      exact br_t (nI_le (Nat.le_refl _) (by omega)) h
    · have hil : (nI i).toNatClampNeg = i := nI_clamp (by omega)
      have hin : vp_in (nI i) 321 := vp_in_nI (by omega) (by omega)
      have nx := ih (i + 1) (by omega) (by omega) (by omega)
      refine br_f (nI_ge (by omega) (by omega)) ⟨hin, ?_⟩
      rw [hil]
      refine br_c (fun y => ?_) (fun y => nm_r (e' := nI (fl_sm g (i + 1))) (fl_acc0 (g0 i i1 (by omega) (fun z => y z.1))) (nm_r (nI_1 i) nx))
      refine fl_standsAbove hN N1 K hup i1 (by omega) (fun z => ?_) (fun z => ?_)
      · exact br_f fl_1n0 (nm_r (e' := nI (fl_sm g (i + 1))) (fl_acc0 (g0 i i1 (by omega) (fun z' => z'.2 z))) (nm_r (nI_1 i) nx))
      · exact br_t rfl ⟨hin, nm_r (e' := nI (fl_sm g (i + 1))) (fl_acc1 (g1 i i1 (by omega) y z)) (nm_r (nI_1 i) nx)⟩
theorem fl_ex13 (hN : N ≤ 321) {f : Int32} {g : Nat → Nat} (g1 : ∀ i, 1 ≤ i → i < N → fn i = f → ow i = nI (g i)) (g0 : ∀ i, 1 ≤ i → i < N → ¬ fn i = f → g i = 0) (h : post (nI (fl_sm g N))) : ∀ n i, 1 ≤ i → i ≤ N → N - i < n → wX_exclusive_13 post f fd fs (nI N) st fn ab ch si ow tw n (nI (fl_sm g i)) (nI i) := by
  intro n
  induction n with
  | zero => intro i _ _ h; exact absurd h (Nat.not_lt_zero _)
  | succ n ih =>
    intro i i1 iN hn
    by_cases e : i = N
    · subst e
      exact br_t (nI_le (Nat.le_refl _) (by omega)) h
    · have hil : (nI i).toNatClampNeg = i := nI_clamp (by omega)
      have hin : vp_in (nI i) 321 := vp_in_nI (by omega) (by omega)
      have nx := ih (i + 1) (by omega) (by omega) (by omega)
      refine br_f (nI_ge (by omega) (by omega)) ⟨hin, ?_⟩
      rw [hil]
      exact br_c (fun y => ⟨hin, nm_r (e' := nI (fl_sm g (i + 1))) (fl_acc1 (g1 i i1 (by omega) y)) (nm_r (nI_1 i) nx)⟩) (fun y => nm_r (e' := nI (fl_sm g (i + 1))) (fl_acc0 (g0 i i1 (by omega) y)) (nm_r (nI_1 i) nx))
theorem fl_ed61 {J : Int32 → Int32 → Prop} {c f : Int32} {a i b : Nat} (hb : b = 0) (h : J (nI (a + b)) (nI (i + 1))) : wX_edge_61 post J c f (nI a) (nI i) fd fs fN st fn ab ch si ow tw :=
  br_t rfl (nm_r (e' := nI (a + b)) (fl_acc0 hb) (nm_r (nI_1 i) h))
theorem fl_ed62 (hN : N ≤ 321) (N1 : 1 ≤ N) (K : fl_K N up ab ch si) (hup : ∀ n, 1 ≤ n → n < N → up n < n) {J : Int32 → Int32 → Prop} {c f : Int32} {a i b : Nat} (i1 : 1 ≤ i) (iN : i < N) (g1 : ¬ fl_sa (fl_B fn up c f) up 8 (up i) → tw i = nI b) (g0 : fl_sa (fl_B fn up c f) up 8 (up i) → b = 0) (h : J (nI (a + b)) (nI (i + 1))) : wX_edge_62 post J c f (nI a) (nI i) 1 fd fs fN st fn ab ch si ow tw := by
  refine br_f fl_1n0 (fl_standsAbove hN N1 K hup i1 iN (fun z => ?_) (fun z => ?_))
  · exact br_f fl_1n0 (nm_r (e' := nI (a + b)) (fl_acc0 (g0 z)) (nm_r (nI_1 i) h))
  · refine br_t rfl ⟨vp_in_nI (by omega) (by omega), nm_r (e' := nI (a + b)) ?_ (nm_r (nI_1 i) h)⟩
    rw [nI_clamp (n := i) (by omega)]
    exact fl_acc1 (g1 z)
theorem fl_ed21 (hN : N ≤ 321) (N1 : 1 ≤ N) (K : fl_K N up ab ch si) (hup : ∀ n, 1 ≤ n → n < N → up n < n) {c f : Int32} (hc : ¬ c < 0) {g : Nat → Nat} (g1 : ∀ i, 1 ≤ i → i < N → fl_B fn up c f i → ¬ fl_sa (fl_B fn up c f) up 8 (up i) → tw i = nI (g i)) (g0 : ∀ i, 1 ≤ i → i < N → ¬ (fl_B fn up c f i ∧ ¬ fl_sa (fl_B fn up c f) up 8 (up i)) → g i = 0) (h : post (nI (fl_sm g N))) : ∀ n i, 1 ≤ i → i ≤ N → N - i < n → wX_edge_21 post c f fd fs (nI N) st fn ab ch si ow tw n (nI (fl_sm g i)) (nI i) := by
  intro n
  induction n with
  | zero => intro i _ _ h; exact absurd h (Nat.not_lt_zero _)
  | succ n ih =>
    intro i i1 iN hn
    by_cases e : i = N
    · subst e
      exact br_t (nI_le (Nat.le_refl _) (by omega)) h
    · have iN' : i < N := by omega
      have hu := hup i i1 iN'
      have hil : (nI i).toNatClampNeg = i := nI_clamp (by omega)
      have hul : (nI (up i)).toNatClampNeg = up i := nI_clamp (by omega)
      have hin : vp_in (nI i) 321 := vp_in_nI (by omega) (by omega)
      have hiu : vp_in (nI (up i)) 321 := vp_in_nI (by omega) (by omega)
      have hab : ab i = nI (up i) := K.2.2 i i1 iN'
      have nx := ih (i + 1) (by omega) (by omega) (by omega)
      refine br_f (nI_ge (by omega) (by omega)) ⟨hin, ?_⟩
      rw [hil, hab, hul]
      refine br_c (fun y => ⟨hin, hiu, br_c (fun y2 => ?_) (fun y2 => ?_)⟩) (fun y => ?_)
      · exact fl_ed62 hN N1 K hup i1 iN' (b := g i) (fun z => g1 i i1 iN' ⟨y, Or.inr y2⟩ z) (fun z => g0 i i1 iN' (fun z' => z'.2 z)) nx
      · refine fl_ed61 (b := g i) (g0 i i1 iN' (fun z => ?_)) nx
        rcases z.1.2 with q | q
        · exact hc q
        · exact y2 q
      · exact fl_ed61 (b := g i) (g0 i i1 iN' (fun z => y z.1.1)) nx
theorem fl_pa16 (hN : N ≤ 321) {x : Int32} {g : Nat → Nat} (g1 : ∀ i, 1 ≤ i → i < N → ¬ tw i < x → g i = 1) (g0 : ∀ i, 1 ≤ i → i < N → tw i < x → g i = 0) (h : post (nI (fl_sm g N))) : ∀ n i, 1 ≤ i → i ≤ N → N - i < n → wX_paths_16 post x fd fs (nI N) st fn ab ch si ow tw n (nI (fl_sm g i)) (nI i) := by
  intro n
  induction n with
  | zero => intro i _ _ h; exact absurd h (Nat.not_lt_zero _)
  | succ n ih =>
    intro i i1 iN hn
    by_cases e : i = N
    · subst e
      exact br_t (nI_le (Nat.le_refl _) (by omega)) h
    · have hil : (nI i).toNatClampNeg = i := nI_clamp (by omega)
      have hin : vp_in (nI i) 321 := vp_in_nI (by omega) (by omega)
      have nx := ih (i + 1) (by omega) (by omega) (by omega)
      refine br_f (nI_ge (by omega) (by omega)) ⟨hin, ?_⟩
      rw [hil]
      refine br_c (fun y => nm_r (e' := nI (fl_sm g (i + 1))) (fl_acc0 (g0 i i1 (by omega) y)) (nm_r (nI_1 i) nx)) (fun y => nm_r (e' := nI (fl_sm g (i + 1))) ?_ (nm_r (nI_1 i) nx))
      have q := g1 i i1 (by omega) y
      rw [fl_smS, q]
      exact nI_1 _
theorem fl_dp7 (hN : N ≤ 321) (N1 : 1 ≤ N) (K : fl_K N up ab ch si) (hup : ∀ n, 1 ≤ n → n < N → up n < n) : ∀ k j q a n, j + k = 8 → q < N → k < n → post (nI (a + fl_dp up k q)) → wX_depthOf_7 post fd fs fN st fn ab ch si ow tw n (nI a) (nI q) (nI j) := by
  intro k
  induction k with
  | zero =>
    intro j q a n hj hq hn h
    obtain ⟨n, rfl⟩ : ∃ n', n = n' + 1 := ⟨n - 1, by omega⟩
    exact br_t (nI_le (a := 8) (by omega) (by omega)) h
  | succ k ih =>
    intro j q a n hj hq hn h
    obtain ⟨n, rfl⟩ : ∃ n', n = n' + 1 := ⟨n - 1, by omega⟩
    refine br_f (nI_ge (b := 8) (by omega) (by omega)) ?_
    have hd : fl_dp up (k + 1) q = if q = 0 then 0 else fl_dp up k (up q) + 1 := rfl
    by_cases e : q = 0
    · rw [hd, if_pos e] at h
      subst e
      exact br_t fl_le0 h
    · rw [hd, if_neg e] at h
      have hu := hup q (by omega) hq
      refine br_f (nI_nle (by omega) (by omega)) (nm_r (nI_1 a) ⟨vp_in_nI (by omega) (by omega), ?_⟩)
      rw [nI_clamp (n := q) (by omega), K.2.2 q (by omega) hq]
      refine nm_e (nm_r (nI_1 j) (ih (j + 1) (up q) (a + 1) n (by omega) (by omega) (by omega) ?_))
      have z : a + 1 + fl_dp up k (up q) = a + (fl_dp up k (up q) + 1) := by omega
      rw [z]; exact h
theorem fl_de46 {J : Int32 → Int32 → Prop} {x : Int32} {a b i r : Nat} (ha : a < 100) (hb : b < 100) (hr : r = if b ≤ a then a else b) (h : J (nI r) (nI (i + 1))) : wX_deepest_46 post J x (nI a) (nI i) (nI b) fd fs fN st fn ab ch si ow tw := by
  refine pk_le b a (fun e => nm_r (nI_1 i) ?_) (fun e => nm_r (nI_1 i) ?_)
  · rw [if_pos e] at hr; subst hr; exact h
  · rw [if_neg (by omega)] at hr; subst hr; exact h
theorem fl_de16 (hN : N ≤ 321) (N1 : 1 ≤ N) (K : fl_K N up ab ch si) (hup : ∀ n, 1 ≤ n → n < N → up n < n) {x : Int32} {g : Nat → Nat} (g8 : ∀ i, g i ≤ 8) (g1 : ∀ i, 1 ≤ i → i < N → ¬ tw i < x → g i = fl_dp up 8 i) (g0 : ∀ i, 1 ≤ i → i < N → tw i < x → g i = 0) (h : post (nI (fl_mx 0 g N))) : ∀ n i, 1 ≤ i → i ≤ N → N - i < n → wX_deepest_16 post x fd fs (nI N) st fn ab ch si ow tw n (nI (fl_mx 0 g i)) (nI i) := by
  intro n
  induction n with
  | zero => intro i _ _ h; exact absurd h (Nat.not_lt_zero _)
  | succ n ih =>
    intro i i1 iN hn
    by_cases e : i = N
    · subst e
      exact br_t (nI_le (Nat.le_refl _) (by omega)) h
    · have hil : (nI i).toNatClampNeg = i := nI_clamp (by omega)
      have hin : vp_in (nI i) 321 := vp_in_nI (by omega) (by omega)
      have nx := ih (i + 1) (by omega) (by omega) (by omega)
      have hm : fl_mx 0 g i ≤ 8 := fl_mx_le (Nat.zero_le 8) (fun j _ => g8 j)
      have hg := g8 i
      refine br_f (nI_ge (by omega) (by omega)) ⟨hin, ?_⟩
      rw [hil]
      refine br_c (fun y => ?_) (fun y => ?_)
      · have q := g0 i i1 (by omega) y
        refine fl_de46 (b := 0) (r := fl_mx 0 g (i + 1)) (by omega) (by omega) ?_ nx
        rw [fl_mxS, q]
      · have q := g1 i i1 (by omega) y
        refine Exists.intro 9 (fl_dp7 hN N1 K hup 8 0 i 0 9 (by omega) (by omega) (by omega) ?_)
        rw [Nat.zero_add, ← q]
        exact fl_de46 (r := fl_mx 0 g (i + 1)) (by omega) (by omega) (fl_mxS 0 g i) nx
end
end
section
theorem fl_updw {tw : Nat → Int32} {t t' : Nat → Nat} {c v : Nat} (ht : ∀ n, tw n = nI (t n)) (ht' : ∀ n, t' n = t n + fl_ic (c = n) * v) : ∀ n, upd tw c (tw c + nI v) n = nI (t' n) := by
  intro n
  rw [ht' n]
  by_cases e : n = c
  · subst e
    rw [pk_us, ht n, nI_add, fl_t1 rfl]
  · rw [pk_un e, ht n, fl_f0 (fun z => e z.symm), Nat.add_zero]
section
variable {fn ab ch si ow tw st : Nat → Int32} {fd fs fN : Int32} {post : Int32 → SX → Prop}
theorem fl_addChild {N x : Nat} (hN : N < 321) (hx : x < 321) {f : Int32} (h : post (nI N) (fd, fs, nI (N + 1), st, upd fn N f, upd ab N (nI x), upd ch x (nI N), upd si N (ch x), ow, tw)) : wpX_addChild post (fd, fs, nI N, st, fn, ab, ch, si, ow, tw) (nI x) f := by
  have i1 : vp_in (nI N) 321 := vp_in_nI hN (by omega)
  have ix : vp_in (nI x) 321 := vp_in_nI hx (by omega)
  unfold wpX_addChild
  dsimp only
  rw [nI_clamp (n := N) (by omega), nI_clamp (n := x) (by omega)]
  exact nm_r (nI_1 N) ⟨i1, nm_e ⟨i1, nm_e ⟨ix, i1, nm_e ⟨ix, nm_e h⟩⟩⟩⟩
theorem fl_sa75 {J : Int32 → Int32 → Int32 → Int32 → Int32 → (Nat → Int32) → (Nat → Int32) → (Nat → Int32) → (Nat → Int32) → (Nat → Int32) → (Nat → Int32) → (Nat → Int32) → Prop} {c k v : Nat} (hc : c < 321) (h : J (nI c) (nI (k + 1)) fd fs fN st fn ab ch si ow (upd tw c (tw c + nI v))) : wX_sample_75 post J (nI v) (nI k) (nI c) fd fs fN st fn ab ch si ow tw := by
  have i1 : vp_in (nI c) 321 := vp_in_nI hc (by omega)
  unfold wX_sample_75
  rw [nI_clamp (n := c) (by omega)]
  exact ⟨i1, i1, nm_e (nm_r (nI_1 k) h)⟩
end
section
variable {d m v : Nat} {st : Nat → Int32} {C : Nat → Nat → Int32} {L0 w : Nat → Nat} {post : Int32 → SX → Prop}
theorem fl_sa36 (d8 : d ≤ 8) (m40 : m < 40) (hst : ∀ i, i < d → fl_F (st i)) (hC : ∀ i, C m i = st i) (hw : w m = v)
    (h : ∀ (N : Nat) (fn ab ch si ow tw : Nat → Int32) (up L : Nat → Nat) (nd : Nat → Nat → Nat), N ≤ 1 + 8 * (m + 1) → fl_T N (m + 1) fn up L C nd → fl_K N up ab ch si → (∀ n, tw n = nI (fl_tw (m + 1) L nd w n)) → (∀ n, ow n = nI (fl_ow (m + 1) L nd w n)) → (∀ s, s < m → L s = L0 s) → L m = d → post (nI (m + 1)) (nI d, nI (m + 1), nI N, st, fn, ab, ch, si, ow, tw)) :
    ∀ (n k N : Nat) (fn ab ch si ow tw : Nat → Int32) (up L : Nat → Nat) (nd : Nat → Nat → Nat), k ≤ d → d - k < n → N ≤ 1 + 8 * m + k → fl_T N (m + 1) fn up L C nd → fl_K N up ab ch si → (∀ n, tw n = nI (fl_tw (m + 1) L nd w n)) → (∀ n, ow n = nI (fl_ow m L nd w n)) → (∀ s, s < m → L s = L0 s) → L m = k → wX_sample_36 post (nI v) n (nI (nd m k)) (nI k) (nI d) (nI m) (nI N) st fn ab ch si ow tw := by
  intro n
  induction n with
  | zero => intro k N fn ab ch si ow tw up L nd _ h; exact absurd h (Nat.not_lt_zero _)
  | succ n ih =>
    intro k N fn ab ch si ow tw up L nd hk hn hN T K htw how hL hLm
    have hx : nd m k < N := fl_T_lt T (Nat.lt_succ_self m) (Nat.le_of_eq hLm.symm)
    by_cases e : k = d
    · subst e
      have ix : vp_in (nI (nd m k)) 321 := vp_in_nI (by omega) (by omega)
      refine br_t (nI_le (Nat.le_refl _) (by omega)) ⟨ix, ix, ?_⟩
      rw [nI_clamp (n := nd m k) (by omega)]
      refine nm_e (nm_r (nI_1 m) (h N fn ab ch si _ tw up L nd (by omega) T K htw ?_ hL hLm))
      refine fl_updw how (fun n' => ?_)
      rw [fl_ow_end, hLm, hw]
    · have ik : vp_in (nI k) 8 := vp_in_nI (by omega) (by omega)
      have hF : fl_F (C m k) := by rw [hC k]; exact hst k (by omega)
      have hL' : ∀ s, s < m → fl_s L m (k + 1) s = L0 s := fun s hs => by rw [fl_sn (by omega)]; exact hL s hs
      refine br_f (nI_ge (by omega) (by omega)) ⟨ik, ?_⟩
      rw [nI_clamp (n := k) (by omega)]
      refine fl_childWith (by omega) K hx (fun r hr => ?_)
      rcases hr with ⟨r0, hno⟩ | ⟨r1, r2, r3, r4⟩
      · subst r0
        refine br_t nI_0 ⟨ik, ?_⟩
        refine fl_addChild (by omega) (by omega) ?_
        refine fl_sa75 (c := N) (by omega) ?_
        have T' := fl_T_add T hLm (by omega) hF (fun c c1 c2 hu => by rw [hC k]; exact hno c c1 c2 hu)
        rw [hC k] at T'
        have q := ih (k + 1) (N + 1) (upd fn N (st k)) (upd ab N (nI (nd m k))) (upd ch (nd m k) (nI N)) (upd si N (ch (nd m k))) ow (upd tw N (tw N + nI v)) (fl_s up N (nd m k)) (fl_s L m (k + 1)) (fl_g nd m k N) (by omega) (by omega) (by omega) T' (fl_K_add K T.1 hx) (fl_updw htw (fun n' => by rw [fl_tw_ext hLm, hw])) (fun n' => by rw [fl_ow_ext]; exact how n') hL' fl_ss
        rw [fl_g1] at q
        exact q
      · refine br_f (nI_ne0 r1 (by omega)) ?_
        refine fl_sa75 (c := r) (by omega) ?_
        have T' := fl_T_found T hLm (by omega) hF r1 r2 r3 (by rw [hC k]; exact r4)
        have q := ih (k + 1) N fn ab ch si ow (upd tw r (tw r + nI v)) up (fl_s L m (k + 1)) (fl_g nd m k r) (by omega) (by omega) (by omega) T' K (fl_updw htw (fun n' => by rw [fl_tw_ext hLm, hw])) (fun n' => by rw [fl_ow_ext]; exact how n') hL' fl_ss
        rw [fl_g1] at q
        exact q
end
section
variable {d m v N : Nat} {fn ab ch si ow tw st : Nat → Int32} {up L : Nat → Nat} {C : Nat → Nat → Int32} {nd : Nat → Nat → Nat} {w : Nat → Nat} {post : Int32 → SX → Prop}
theorem fl_sampleX (d8 : d ≤ 8) (m40 : m < 40) (v1 : 1 ≤ v) (v100 : v ≤ 100) (hst : ∀ i, i < d → fl_F (st i)) (hN : N ≤ 1 + 8 * m) (T : fl_T N m fn up L C nd) (K : fl_K N up ab ch si) (htw : ∀ n, tw n = nI (fl_tw m L nd w n)) (how : ∀ n, ow n = nI (fl_ow m L nd w n))
    (h : ∀ (N : Nat) (fn ab ch si ow tw : Nat → Int32) (up L' : Nat → Nat) (nd : Nat → Nat → Nat), N ≤ 1 + 8 * (m + 1) → fl_T N (m + 1) fn up L' (fl_s C m st) nd → fl_K N up ab ch si → (∀ n, tw n = nI (fl_tw (m + 1) L' nd (fl_s w m v) n)) → (∀ n, ow n = nI (fl_ow (m + 1) L' nd (fl_s w m v) n)) → (∀ s, s < m → L' s = L s) → L' m = d → post (nI (m + 1)) (nI d, nI (m + 1), nI N, st, fn, ab, ch, si, ow, tw)) :
    wpX_sample post (nI d, nI m, nI N, st, fn, ab, ch, si, ow, tw) (nI v) := by
  have q := fl_sa36 (L0 := L) (w := fl_s w m v) (C := fl_s C m st) d8 m40 hst (fun i => by rw [fl_ss]) fl_ss h (d + 1) 0 N fn ab ch si ow (upd tw 0 (tw 0 + nI v)) up (fl_s L m 0) (fl_s nd m (fun _ => 0)) (Nat.zero_le d) (by omega) (by omega) (fl_T_new T st) K (fl_updw htw (fun n' => fl_tw_new w v n')) (fun n' => by rw [fl_ow_new]; exact how n') (fun s hs => fl_sn (by omega)) fl_ss
  rw [fl_ss] at q
  exact br_f (nI_nlt (b := 1) v1 (by omega)) (br_f (nI_nlt (a := 100) v100 (by omega)) (br_t (nI_lt (b := 40) m40 (by omega)) (nm_e (Exists.intro (d + 1) q))))
end
end
section
def fl_Y (d m : Nat) (cp ln wt : Nat → Int32) (L w : Nat → Nat) (C : Nat → Nat → Int32) : Prop :=
  d ≤ 8 ∧ m ≤ 40 ∧ (∀ s, s < m → L s ≤ 8) ∧ (∀ s, s < m → ln s = nI (L s)) ∧ (∀ s, s < m → wt s = nI (w s)) ∧ (∀ s i, s < m → i < L s → cp (8 * s + i) = C s i)
theorem fl_ix (s i : Nat) : (8 : Int32) * nI s + nI i = nI (8 * s + i) := by
  have e : (8 : Int32) = nI 8 := by decide
  rw [e, pk_mul, nI_add]
theorem fl_ixm (s i : Nat) : (8 : Int32) * nI s + nI (i + 1) - 1 = nI (8 * s + i) := by
  rw [fl_ix, ← Nat.add_assoc]; exact nI_pred _
theorem fl_gw1 {P : Prop} {x : Int32} {k : Nat} (h : x = nI k) (p : P) : x = nI (fl_ic P * k) := by rw [fl_t1 p]; exact h
section
variable {d m : Nat} {st cp ln wt : Nat → Int32} {L w : Nat → Nat} {C : Nat → Nat → Int32} {fs : Int32} {post : Int32 → Prop}
theorem fl_ov17 (Y : fl_Y d m cp ln wt L w C) {s : Nat} (hs : s < m) (hd : d ≤ L s) (h1 : fl_ov L C d st s → post 1) (h0 : ¬ fl_ov L C d st s → post 0) : ∀ n i, i ≤ d → d - i < n → (∀ j, j < i → C s j = st j) → wY_over_17 post (nI s) (nI d) fs st cp ln wt n (nI i) := by
  obtain ⟨y1, y2, y3, y4, y5, y6⟩ := Y
  intro n
  induction n with
  | zero => intro i _ h; exact absurd h (Nat.not_lt_zero _)
  | succ n ih =>
    intro i hi hn hj
    by_cases e : i = d
    · subst e
      exact br_t (nI_le (Nat.le_refl _) (by omega)) (h1 ⟨hd, hj⟩)
    · refine br_f (nI_ge (by omega) (by omega)) ?_
      rw [fl_ix, nI_clamp (n := 8 * s + i) (by omega), nI_clamp (n := i) (by omega), y6 s i hs (by omega)]
      refine ⟨vp_in_nI (by omega) (by omega), vp_in_nI (by omega) (by omega), br_c (fun q => nm_r (nI_1 i) (ih (i + 1) (by omega) (by omega) (lt_s hj q))) (fun q => h0 (fun z => q (z.2 i (by omega))))⟩
theorem fl_over (Y : fl_Y d m cp ln wt L w C) {s : Nat} (hs : s < m) (h1 : fl_ov L C d st s → post 1) (h0 : ¬ fl_ov L C d st s → post 0) : wpY_over post (nI d, fs, st, cp, ln, wt) (nI s) := by
  have y := Y
  obtain ⟨y1, y2, y3, y4, y5, y6⟩ := Y
  have l8 := y3 s hs
  unfold wpY_over
  dsimp only
  rw [nI_clamp (n := s) (by omega), y4 s hs]
  exact ⟨vp_in_nI (by omega) (by omega), pk_le d (L s) (fun e => ⟨d + 1, fl_ov17 y hs e h1 h0 (d + 1) 0 (Nat.zero_le d) (by omega) (fun j hj => absurd hj (Nat.not_lt_zero _))⟩) (fun e => h0 (fun z => by have := z.1; omega))⟩
theorem fl_to4 (Y : fl_Y d m cp ln wt L w C) {g : Nat → Nat} (hg : g = fun s => fl_ic (fl_ov L C d st s) * w s) (h : post (nI (fl_sm g m))) : ∀ n i, i ≤ m → m - i < n → wY_total_4 post (nI d) (nI m) st cp ln wt n (nI (fl_sm g i)) (nI i) := by
  have y := Y
  obtain ⟨y1, y2, y3, y4, y5, y6⟩ := Y
  intro n
  induction n with
  | zero => intro i _ h; exact absurd h (Nat.not_lt_zero _)
  | succ n ih =>
    intro i hi hn
    by_cases e : i = m
    · subst e
      exact br_t (nI_le (Nat.le_refl _) (by omega)) h
    · have hi' : i < m := by omega
      have nx := ih (i + 1) (by omega) (by omega)
      refine br_f (nI_ge (by omega) (by omega)) (fl_over y hi' (fun z => br_f fl_1n0 ⟨vp_in_nI (by omega) (by omega), ?_⟩) (fun z => br_t rfl ?_))
      · rw [nI_clamp (n := i) (by omega)]
        refine nm_r (e' := nI (fl_sm g (i + 1))) (fl_acc1 ?_) (nm_r (nI_1 i) nx)
        rw [hg]
        exact fl_gw1 (y5 i hi') z
      · have q : fl_sm g (i + 1) = fl_sm g i := by
          rw [fl_smS, hg]
          show _ + fl_ic (fl_ov L C d st i) * w i = _
          rw [fl_f0 z, Nat.add_zero]
        rw [q] at nx
        exact nm_r (nI_1 i) nx
theorem fl_totalY (Y : fl_Y d m cp ln wt L w C) (h : post (nI (fl_sm (fun s => fl_ic (fl_ov L C d st s) * w s) m))) : wpY_total post (nI d, nI m, st, cp, ln, wt) :=
  Exists.intro (m + 1) (fl_to4 Y rfl h (m + 1) 0 (Nat.zero_le m) (by omega))
theorem fl_ow4 (Y : fl_Y d m cp ln wt L w C) {g : Nat → Nat} (hg : g = fun s => fl_ic (fl_ov L C d st s ∧ L s = d) * w s) (h : post (nI (fl_sm g m))) : ∀ n i, i ≤ m → m - i < n → wY_own_4 post (nI d) (nI m) st cp ln wt n (nI (fl_sm g i)) (nI i) := by
  have y := Y
  obtain ⟨y1, y2, y3, y4, y5, y6⟩ := Y
  intro n
  induction n with
  | zero => intro i _ h; exact absurd h (Nat.not_lt_zero _)
  | succ n ih =>
    intro i hi hn
    by_cases e : i = m
    · subst e
      exact br_t (nI_le (Nat.le_refl _) (by omega)) h
    · have hi' : i < m := by omega
      have nx := ih (i + 1) (by omega) (by omega)
      have l8 := y3 i hi'
      have nx0 : ¬ (fl_ov L C d st i ∧ L i = d) → wY_own_4 post (nI d) (nI m) st cp ln wt n (nI (fl_sm g i)) (nI (i + 1)) := by
        intro z
        have q : fl_sm g (i + 1) = fl_sm g i := by
          rw [fl_smS, hg]
          show _ + fl_ic (fl_ov L C d st i ∧ L i = d) * w i = _
          rw [fl_f0 z, Nat.add_zero]
        rw [q] at nx
        exact nx
      refine br_f (nI_ge (by omega) (by omega)) (fl_over y hi' (fun z => br_f fl_1n0 ⟨vp_in_nI (by omega) (by omega), ?_⟩) (fun z => br_t rfl (nm_r (nI_1 i) (nx0 (fun q => z q.1)))))
      rw [nI_clamp (n := i) (by omega), y4 i hi']
      refine pk_eq (L i) d (fun q => ⟨vp_in_nI (by omega) (by omega), nm_r (e' := nI (fl_sm g (i + 1))) (fl_acc1 ?_) (nm_r (nI_1 i) nx)⟩) (fun q => nm_r (nI_1 i) (nx0 (fun q2 => q q2.2)))
      rw [hg]
      exact fl_gw1 (y5 i hi') ⟨z, q⟩
theorem fl_ownY (Y : fl_Y d m cp ln wt L w C) (h : post (nI (fl_sm (fun s => fl_ic (fl_ov L C d st s ∧ L s = d) * w s) m))) : wpY_own post (nI d, nI m, st, cp, ln, wt) :=
  Exists.intro (m + 1) (fl_ow4 Y rfl h (m + 1) 0 (Nat.zero_le m) (by omega))
theorem fl_tw4 (Y : fl_Y d m cp ln wt L w C) {f : Int32} {g : Nat → Nat} (hg : g = fun s => fl_ic (fl_ov L C d st s ∧ d < L s ∧ C s d = f) * w s) (h : post (nI (fl_sm g m))) : ∀ n i, i ≤ m → m - i < n → wY_totalWith_4 post f (nI d) (nI m) st cp ln wt n (nI (fl_sm g i)) (nI i) := by
  have y := Y
  obtain ⟨y1, y2, y3, y4, y5, y6⟩ := Y
  intro n
  induction n with
  | zero => intro i _ h; exact absurd h (Nat.not_lt_zero _)
  | succ n ih =>
    intro i hi hn
    by_cases e : i = m
    · subst e
      exact br_t (nI_le (Nat.le_refl _) (by omega)) h
    · have hi' : i < m := by omega
      have nx := ih (i + 1) (by omega) (by omega)
      have l8 := y3 i hi'
      have nx0 : ¬ (fl_ov L C d st i ∧ d < L i ∧ C i d = f) → wY_totalWith_4 post f (nI d) (nI m) st cp ln wt n (nI (fl_sm g i)) (nI (i + 1)) := by
        intro z
        have q : fl_sm g (i + 1) = fl_sm g i := by
          rw [fl_smS, hg]
          show _ + fl_ic (fl_ov L C d st i ∧ d < L i ∧ C i d = f) * w i = _
          rw [fl_f0 z, Nat.add_zero]
        rw [q] at nx
        exact nx
      refine br_f (nI_ge (by omega) (by omega)) (fl_over y hi' (fun z => br_f fl_1n0 ⟨vp_in_nI (by omega) (by omega), ?_⟩) (fun z => br_t rfl (nm_r (nI_1 i) (nx0 (fun q => z q.1)))))
      rw [nI_clamp (n := i) (by omega), y4 i hi']
      refine pk_le (L i) d (fun q => nm_r (nI_1 i) (nx0 (fun q2 => by have := q2.2.1; omega))) (fun q => ?_)
      rw [fl_ix, nI_clamp (n := 8 * i + d) (by omega), y6 i d hi' q]
      refine ⟨vp_in_nI (by omega) (by omega), br_c (fun q2 => ⟨vp_in_nI (by omega) (by omega), nm_r (e' := nI (fl_sm g (i + 1))) (fl_acc1 ?_) (nm_r (nI_1 i) nx)⟩) (fun q2 => nm_r (nI_1 i) (nx0 (fun q3 => q2 q3.2.2)))⟩
      rw [hg]
      exact fl_gw1 (y5 i hi') ⟨z, q, q2⟩
theorem fl_totalWith (Y : fl_Y d m cp ln wt L w C) {f : Int32} (h : post (nI (fl_tf m L C w d st f))) : wpY_totalWith post (nI d, nI m, st, cp, ln, wt) f :=
  Exists.intro (m + 1) (fl_tw4 Y rfl h (m + 1) 0 (Nat.zero_le m) (by omega))
/-- the answer of hottest, by the totals t of the eight functions -/
def fl_hr (t : Nat → Nat) (r : Int32) : Prop := (r = -1 ∧ ∀ g, g < 8 → t g = 0) ∨ (∃ f, f < 8 ∧ r = nI f ∧ 0 < t f ∧ ∀ g, g < 8 → t g < t f ∨ (t g = t f ∧ f ≤ g))
theorem fl_hr_one {t : Nat → Nat} {r r' : Int32} (h : fl_hr t r) (h' : fl_hr t r') : r' = r := by
  rcases h with ⟨e, h⟩ | ⟨f, f8, e, f0, h⟩
  · rcases h' with ⟨e', h'⟩ | ⟨f', f8', e', f0', h'⟩
    · rw [e, e']
    · have := h f' f8'; omega
  · rcases h' with ⟨e', h'⟩ | ⟨f', f8', e', f0', h'⟩
    · have := h' f f8; omega
    · have a := h f' f8'
      have b := h' f f8
      have : f = f' := by omega
      rw [e, e', this]
def fl_hi (t : Nat → Nat) (i : Nat) (r : Int32) (most : Nat) : Prop := (r = -1 ∧ most = 0 ∧ ∀ g, g < i → t g = 0) ∨ (∃ f, f < i ∧ r = nI f ∧ most = t f ∧ 0 < t f ∧ ∀ g, g < i → t g < t f ∨ (t g = t f ∧ f ≤ g))
theorem fl_hi_keep {t : Nat → Nat} {i most : Nat} {r : Int32} (h : fl_hi t i r most) (e : t i ≤ most) : fl_hi t (i + 1) r most := by
  rcases h with ⟨a, b, c⟩ | ⟨f, a, b, c, c0, k⟩
  · refine Or.inl ⟨a, b, fun g hg => ?_⟩
    by_cases z : g = i
    · subst z; omega
    · exact c g (by omega)
  · refine Or.inr ⟨f, by omega, b, c, c0, fun g hg => ?_⟩
    by_cases z : g = i
    · subst z; omega
    · exact k g (by omega)
theorem fl_hi_take {t : Nat → Nat} {i most : Nat} {r : Int32} (h : fl_hi t i r most) (e : most < t i) : fl_hi t (i + 1) (nI i) (t i) := by
  refine Or.inr ⟨i, Nat.lt_succ_self i, rfl, rfl, by omega, fun g hg => ?_⟩
  by_cases z : g = i
  · subst z; omega
  · rcases h with ⟨a, b, c⟩ | ⟨f, a, b, c, c0, k⟩
    · have := c g (by omega); omega
    · have := k g (by omega); omega
theorem fl_ht6 (Y : fl_Y d m cp ln wt L w C) (hw : ∀ s, s < m → w s ≤ 100) {t : Nat → Nat} (ht : t = fun g => fl_tf m L C w d st (nI g)) (h : ∀ r, fl_hr t r → post r) : ∀ n i r most, i ≤ 8 → 8 - i < n → most ≤ 4000 → fl_hi t i r most → wY_hottest_6 post (nI d) (nI m) st cp ln wt n r (nI most) (nI i) := by
  have y := Y
  obtain ⟨y1, y2, y3, y4, y5, y6⟩ := Y
  have tl : ∀ g, t g ≤ 4000 := fun g => by
    have a := fl_tf_le (L := L) (C := C) (st := st) hw d (nI g)
    rw [ht]
    show fl_tf m L C w d st (nI g) ≤ 4000
    omega
  intro n
  induction n with
  | zero => intro i r most _ h; exact absurd h (Nat.not_lt_zero _)
  | succ n ih =>
    intro i r most hi hn hm hI
    by_cases e : i = 8
    · subst e
      refine br_t (nI_le (a := 8) (Nat.le_refl _) (by omega)) (h r ?_)
      rcases hI with ⟨a, b, c⟩ | ⟨f, a, b, c, c0, k⟩
      · exact Or.inl ⟨a, c⟩
      · exact Or.inr ⟨f, a, b, c0, k⟩
    · refine br_f (nI_ge (b := 8) (by omega) (by omega)) ?_
      by_cases d8 : d = 8
      · subst d8
        refine br_t (nI_le (a := 8) (Nat.le_refl _) (by omega)) (h r ?_)
        have z : ∀ g, t g = 0 := fun g => by
          rw [ht]
          refine fl_smz (fun s hs => fl_f0 (fun q => ?_) _)
          have := y3 s hs
          have := q.2.1
          omega
        rcases hI with ⟨a, b, c⟩ | ⟨f, a, b, c, c0, k⟩
        · exact Or.inl ⟨a, fun g _ => z g⟩
        · have := z f; omega
      · refine br_f (nI_ge (b := 8) (by omega) (by omega)) (fl_totalWith y ?_)
        have e1 : fl_tf m L C w d st (nI i) = t i := by rw [ht]
        rw [e1]
        have := tl i
        exact pk_le (t i) most (fun q => nm_r (nI_1 i) (ih (i + 1) r most (by omega) (by omega) hm (fl_hi_keep hI q))) (fun q => nm_r (nI_1 i) (ih (i + 1) (nI i) (t i) (by omega) (by omega) (by omega) (fl_hi_take hI q)))
theorem fl_hottestY (Y : fl_Y d m cp ln wt L w C) (hw : ∀ s, s < m → w s ≤ 100) (h : ∀ r, fl_hr (fun g => fl_tf m L C w d st (nI g)) r → post r) : wpY_hottest post (nI d, nI m, st, cp, ln, wt) :=
  Exists.intro 9 (fl_ht6 Y hw rfl h 9 0 (-1) 0 (by omega) (by omega) (by omega) (Or.inl ⟨rfl, rfl, fun g hg => absurd hg (Nat.not_lt_zero _)⟩))
end
end
section
section
variable {d m : Nat} {st cp ln wt : Nat → Int32} {L w : Nat → Nat} {C : Nat → Nat → Int32} {fd fs : Int32} {post : Int32 → Prop}
theorem fl_st41 (Y : fl_Y d m cp ln wt L w C) {J : Int32 → Prop} {c f : Int32} {s i : Nat} (hs : s < m) (hi : i < L s) (h1 : C s i = f → post 1) (h0 : ¬ C s i = f → J (nI (i + 1))) : wY_stands_41 post J (nI s) c f (nI i) fd fs st cp ln wt := by
  obtain ⟨y1, y2, y3, y4, y5, y6⟩ := Y
  have l8 := y3 s hs
  unfold wY_stands_41 wY_stands_46
  rw [fl_ix, nI_clamp (n := 8 * s + i) (by omega), y6 s i hs hi]
  exact ⟨vp_in_nI (by omega) (by omega), br_c (fun q => br_f fl_1n0 (h1 q)) (fun q => nm_r (nI_1 i) (h0 q))⟩
theorem fl_st45 (Y : fl_Y d m cp ln wt L w C) {J : Int32 → Prop} {c f : Int32} {s i : Nat} (hs : s < m) (hi : i < L s) (h : J (nI (i + 1))) : wY_stands_45 post J (nI s) c f (nI i) fd fs st cp ln wt := by
  obtain ⟨y1, y2, y3, y4, y5, y6⟩ := Y
  have l8 := y3 s hs
  unfold wY_stands_45 wY_stands_46
  rw [fl_ix, nI_clamp (n := 8 * s + i) (by omega), y6 s i hs hi]
  exact ⟨vp_in_nI (by omega) (by omega), br_c (fun q => br_t rfl (nm_r (nI_1 i) h)) (fun q => nm_r (nI_1 i) h)⟩
theorem fl_st3 (Y : fl_Y d m cp ln wt L w C) {c f : Int32} {s : Nat} (hs : s < m) (h1 : fl_st L C c f s → post 1) (h0 : ¬ fl_st L C c f s → post 0) : ∀ n i, i ≤ L s → L s - i < n → (∀ j, j < i → ¬ (C s j = f ∧ (c < 0 ∨ (1 ≤ j ∧ C s (j - 1) = c)))) → wY_stands_3 post (nI s) c f fd fs st cp ln wt n (nI i) := by
  have y := Y
  obtain ⟨y1, y2, y3, y4, y5, y6⟩ := Y
  have l8 := y3 s hs
  intro n
  induction n with
  | zero => intro i _ h; exact absurd h (Nat.not_lt_zero _)
  | succ n ih =>
    intro i hi hn hj
    refine And.intro (vp_in_nI (by omega) (by omega)) ?_
    rw [nI_clamp (n := s) (by omega), y4 s hs]
    by_cases e : i = L s
    · rw [e]
      refine br_t (nI_le (Nat.le_refl _) (by omega)) (h0 ?_)
      rintro ⟨j, j1, j2⟩
      exact hj j (by omega) j2
    · have hi' : i < L s := by omega
      have nx : ¬ (C s i = f ∧ (c < 0 ∨ (1 ≤ i ∧ C s (i - 1) = c))) → wY_stands_3 post (nI s) c f fd fs st cp ln wt n (nI (i + 1)) := fun q => ih (i + 1) (by omega) (by omega) (lt_s hj q)
      refine br_f (nI_ge (by omega) (by omega)) (br_c (fun hc => ?_) (fun hc => ?_))
      · exact fl_st41 y hs hi' (fun q => h1 ⟨i, hi', q, Or.inl hc⟩) (fun q => nx (fun z => q z.1))
      · by_cases z : i = 0
        · subst z
          refine br_t fl_le0 (fl_st45 y hs hi' (nx (fun q => ?_)))
          rcases q.2 with q | q
          · exact hc q
          · omega
        · obtain ⟨k, rfl⟩ : ∃ k, i = k + 1 := ⟨i - 1, by omega⟩
          refine br_f (nI_nle (by omega) (by omega)) ?_
          rw [fl_ixm, nI_clamp (n := 8 * s + k) (by omega), y6 s k hs (by omega)]
          refine ⟨vp_in_nI (by omega) (by omega), br_c (fun q => ?_) (fun q => ?_)⟩
          · exact fl_st41 y hs hi' (fun q2 => h1 ⟨k + 1, hi', q2, Or.inr ⟨by omega, q⟩⟩) (fun q2 => nx (fun z => q2 z.1))
          · refine fl_st45 y hs hi' (nx (fun q2 => ?_))
            rcases q2.2 with q3 | q3
            · exact hc q3
            · exact q q3.2
theorem fl_stands (Y : fl_Y d m cp ln wt L w C) {c f : Int32} {s : Nat} (hs : s < m) (h1 : fl_st L C c f s → post 1) (h0 : ¬ fl_st L C c f s → post 0) : wpY_stands post (fd, fs, st, cp, ln, wt) (nI s) c f :=
  Exists.intro (L s + 1) (fl_st3 Y hs h1 h0 (L s + 1) 0 (Nat.zero_le _) (by omega) (fun j hj => absurd hj (Nat.not_lt_zero _)))
theorem fl_sd5 (Y : fl_Y d m cp ln wt L w C) {c f : Int32} {g : Nat → Nat} (hg : g = fun s => fl_ic (fl_st L C c f s) * w s) (h : post (nI (fl_sm g m))) : ∀ n i, i ≤ m → m - i < n → wY_standing_5 post c f fd (nI m) st cp ln wt n (nI (fl_sm g i)) (nI i) := by
  have y := Y
  obtain ⟨y1, y2, y3, y4, y5, y6⟩ := Y
  intro n
  induction n with
  | zero => intro i _ h; exact absurd h (Nat.not_lt_zero _)
  | succ n ih =>
    intro i hi hn
    by_cases e : i = m
    · subst e
      exact br_t (nI_le (Nat.le_refl _) (by omega)) h
    · have hi' : i < m := by omega
      have nx := ih (i + 1) (by omega) (by omega)
      refine br_f (nI_ge (by omega) (by omega)) (fl_stands y hi' (fun z => br_f fl_1n0 ⟨vp_in_nI (by omega) (by omega), ?_⟩) (fun z => br_t rfl ?_))
      · rw [nI_clamp (n := i) (by omega)]
        refine nm_r (e' := nI (fl_sm g (i + 1))) (fl_acc1 ?_) (nm_r (nI_1 i) nx)
        rw [hg]
        exact fl_gw1 (y5 i hi') z
      · have q : fl_sm g (i + 1) = fl_sm g i := by
          rw [fl_smS, hg]
          show _ + fl_ic (fl_st L C c f i) * w i = _
          rw [fl_f0 z, Nat.add_zero]
        rw [q] at nx
        exact nm_r (nI_1 i) nx
theorem fl_standing (Y : fl_Y d m cp ln wt L w C) {c f : Int32} (h : post (nI (fl_sm (fun s => fl_ic (fl_st L C c f s) * w s) m))) : wpY_standing post (fd, nI m, st, cp, ln, wt) c f :=
  Exists.intro (m + 1) (fl_sd5 Y rfl h (m + 1) 0 (Nat.zero_le m) (by omega))
theorem fl_ye13 (Y : fl_Y d m cp ln wt L w C) {f : Int32} {g : Nat → Nat} (hg : g = fun s => fl_ic (1 ≤ L s ∧ C s (L s - 1) = f) * w s) (h : post (nI (fl_sm g m))) : ∀ n i, i ≤ m → m - i < n → wY_exclusive_13 post f fd (nI m) st cp ln wt n (nI (fl_sm g i)) (nI i) := by
  have y := Y
  obtain ⟨y1, y2, y3, y4, y5, y6⟩ := Y
  intro n
  induction n with
  | zero => intro i _ h; exact absurd h (Nat.not_lt_zero _)
  | succ n ih =>
    intro i hi hn
    by_cases e : i = m
    · subst e
      exact br_t (nI_le (Nat.le_refl _) (by omega)) h
    · have hi' : i < m := by omega
      have nx := ih (i + 1) (by omega) (by omega)
      have l8 := y3 i hi'
      have hin : vp_in (nI i) 40 := vp_in_nI (by omega) (by omega)
      have nx0 : ¬ (1 ≤ L i ∧ C i (L i - 1) = f) → wY_exclusive_13 post f fd (nI m) st cp ln wt n (nI (fl_sm g i)) (nI (i + 1)) := by
        intro z
        have q : fl_sm g (i + 1) = fl_sm g i := by
          rw [fl_smS, hg]
          show _ + fl_ic (1 ≤ L i ∧ C i (L i - 1) = f) * w i = _
          rw [fl_f0 z, Nat.add_zero]
        rw [q] at nx
        exact nx
      refine br_f (nI_ge (by omega) (by omega)) ⟨hin, ?_⟩
      rw [nI_clamp (n := i) (by omega), y4 i hi']
      by_cases z : L i = 0
      · rw [z]
        exact br_t fl_le0 (nm_r (nI_1 i) (nx0 (fun q => by omega)))
      · obtain ⟨l, hl⟩ : ∃ l, L i = l + 1 := ⟨L i - 1, by omega⟩
        rw [hl, fl_ixm, nI_clamp (n := 8 * i + l) (by omega), y6 i l hi' (by omega)]
        refine br_f (nI_nle (by omega) (by omega)) ⟨hin, vp_in_nI (by omega) (by omega), br_c (fun q => ⟨hin, nm_r (e' := nI (fl_sm g (i + 1))) (fl_acc1 ?_) (nm_r (nI_1 i) nx)⟩) (fun q => nm_r (nI_1 i) (nx0 (fun q2 => ?_)))⟩
        · rw [hg]
          refine fl_gw1 (y5 i hi') ⟨by omega, ?_⟩
          rw [hl, Nat.add_sub_cancel]; exact q
        · have q3 := q2.2
          rw [hl, Nat.add_sub_cancel] at q3
          exact q q3
theorem fl_sh25 (Y : fl_Y d m cp ln wt L w C) {s t k : Nat} (hs : s < m) (ht : t < m) (ks : k ≤ L s) (kt : k ≤ L t) (h1 : fl_shr L C s t k → post 1) (h0 : ¬ fl_shr L C s t k → post 0) : ∀ n i, i ≤ k → k - i < n → (∀ j, j < i → C s j = C t j) → wY_share_25 post (nI s) (nI t) (nI k) fd fs st cp ln wt n (nI i) := by
  obtain ⟨y1, y2, y3, y4, y5, y6⟩ := Y
  have l8 := y3 s hs
  intro n
  induction n with
  | zero => intro i _ h; exact absurd h (Nat.not_lt_zero _)
  | succ n ih =>
    intro i hi hn hj
    by_cases e : i = k
    · subst e
      exact br_t (nI_le (Nat.le_refl _) (by omega)) (h1 ⟨ks, kt, hj⟩)
    · refine br_f (nI_ge (by omega) (by omega)) ?_
      rw [fl_ix, fl_ix, nI_clamp (n := 8 * s + i) (by omega), nI_clamp (n := 8 * t + i) (by omega), y6 s i hs (by omega), y6 t i ht (by omega)]
      exact ⟨vp_in_nI (by omega) (by omega), vp_in_nI (by omega) (by omega), br_c (fun q => nm_r (nI_1 i) (ih (i + 1) (by omega) (by omega) (lt_s hj q))) (fun q => h0 (fun z => q (z.2.2 i (by omega))))⟩
theorem fl_share (Y : fl_Y d m cp ln wt L w C) {s t k : Nat} (hs : s < m) (ht : t < m) (ks : k ≤ L s) (h1 : fl_shr L C s t k → post 1) (h0 : ¬ fl_shr L C s t k → post 0) : wpY_share post (fd, fs, st, cp, ln, wt) (nI s) (nI t) (nI k) := by
  have y := Y
  obtain ⟨y1, y2, y3, y4, y5, y6⟩ := Y
  have l8 := y3 s hs
  have t8 := y3 t ht
  unfold wpY_share
  dsimp only
  rw [nI_clamp (n := s) (by omega), nI_clamp (n := t) (by omega), y4 s hs, y4 t ht]
  exact ⟨vp_in_nI (by omega) (by omega), br_f (nI_nlt ks (by omega)) ⟨vp_in_nI (by omega) (by omega), pk_le k (L t) (fun e => ⟨k + 1, fl_sh25 y hs ht ks e h1 h0 (k + 1) 0 (Nat.zero_le k) (by omega) (fun j hj => absurd hj (Nat.not_lt_zero _))⟩) (fun e => h0 (fun z => by have := z.2.1; omega))⟩⟩
theorem fl_nt5 (Y : fl_Y d m cp ln wt L w C) {s k : Nat} (hs : s < m) (ks : k ≤ L s) {g : Nat → Nat} (hg : g = fun t => fl_ic (fl_shr L C s t k) * w t) (h : post (nI (fl_nt m L C w s k))) : ∀ n i, i ≤ m → m - i < n → (∀ t, t < i → t < s → ¬ fl_shr L C s t k) → wY_newTotal_5 post (nI s) (nI k) fd (nI m) st cp ln wt n (nI (fl_sm g i)) (nI i) := by
  have y := Y
  obtain ⟨y1, y2, y3, y4, y5, y6⟩ := Y
  intro n
  induction n with
  | zero => intro i _ h; exact absurd h (Nat.not_lt_zero _)
  | succ n ih =>
    intro i hi hn hno
    by_cases e : i = m
    · subst e
      refine br_t (nI_le (Nat.le_refl _) (by omega)) ?_
      have z : ¬ ∃ t, t < s ∧ fl_shr L C s t k := fun q => by
        obtain ⟨t, t1, t2⟩ := q
        exact hno t (by omega) t1 t2
      unfold fl_nt at h
      rw [fl_t1 z] at h
      rw [hg]
      exact h
    · have hi' : i < m := by omega
      refine br_f (nI_ge (by omega) (by omega)) (fl_share y hs hi' ks (fun z => br_f fl_1n0 ?_) (fun z => br_t rfl ?_))
      · refine pk_le s i (fun q => ⟨vp_in_nI (by omega) (by omega), ?_⟩) (fun q => ?_)
        · rw [nI_clamp (n := i) (by omega)]
          refine nm_r (e' := nI (fl_sm g (i + 1))) (fl_acc1 ?_) (nm_r (nI_1 i) (ih (i + 1) (by omega) (by omega) ?_))
          · rw [hg]
            exact fl_gw1 (y5 i hi') z
          · intro t t1 t2
            exact hno t (by omega) t2
        · unfold fl_nt at h
          have q2 : ¬ ¬ ∃ t, t < s ∧ fl_shr L C s t k := fun q3 => q3 ⟨i, q, z⟩
          rw [fl_f0 q2] at h
          exact h
      · have q : fl_sm g (i + 1) = fl_sm g i := by
          rw [fl_smS, hg]
          show _ + fl_ic (fl_shr L C s i k) * w i = _
          rw [fl_f0 z, Nat.add_zero]
        have nx := ih (i + 1) (by omega) (by omega) (fun t t1 t2 => by
          by_cases q2 : t = i
          · subst q2; exact z
          · exact hno t (by omega) t2)
        rw [q] at nx
        exact nm_r (nI_1 i) nx
theorem fl_newTotal (Y : fl_Y d m cp ln wt L w C) {s k : Nat} (hs : s < m) (ks : k ≤ L s) (h : post (nI (fl_nt m L C w s k))) : wpY_newTotal post (fd, nI m, st, cp, ln, wt) (nI s) (nI k) :=
  Exists.intro (m + 1) (fl_nt5 Y hs ks rfl h (m + 1) 0 (Nat.zero_le m) (by omega) (fun t ht => absurd ht (Nat.not_lt_zero _)))
theorem fl_yp28 (Y : fl_Y d m cp ln wt L w C) {J : Int32 → Int32 → Prop} {x : Int32} {s a : Nat} (hs : s < m) {g : Nat → Nat} (hg : g = fun i => fl_ic (¬ nI (fl_nt m L C w s (i + 1)) < x)) (h : J (nI (a + fl_sm g (L s))) (nI (s + 1))) : ∀ n i, i ≤ L s → L s - i < n → wY_paths_28 post J x (nI s) fd (nI m) st cp ln wt n (nI (a + fl_sm g i)) (nI (i + 1)) := by
  have y := Y
  obtain ⟨y1, y2, y3, y4, y5, y6⟩ := Y
  have l8 := y3 s hs
  intro n
  induction n with
  | zero => intro i _ h; exact absurd h (Nat.not_lt_zero _)
  | succ n ih =>
    intro i hi hn
    refine And.intro (vp_in_nI (by omega) (by omega)) ?_
    rw [nI_clamp (n := s) (by omega), y4 s hs]
    by_cases e : i = L s
    · rw [e]
      exact br_t (nI_lt (by omega) (by omega)) (nm_r (nI_1 s) h)
    · have nx := ih (i + 1) (by omega) (by omega)
      refine br_f (nI_nlt (by omega) (by omega)) (fl_newTotal y hs (by omega) (br_c (fun q => ?_) (fun q => ?_)))
      · have z : g i = 0 := by rw [hg]; exact fl_f (fun q2 => q2 q)
        have q1 : a + fl_sm g (i + 1) = a + fl_sm g i := by rw [fl_smS, z, Nat.add_zero]
        rw [q1] at nx
        exact nm_r (nI_1 (i + 1)) nx
      · have z : g i = 1 := by rw [hg]; exact fl_t q
        have q1 : a + fl_sm g (i + 1) = a + fl_sm g i + 1 := by rw [fl_smS, z, Nat.add_assoc]
        rw [q1] at nx
        exact nm_r (nI_1 _) (nm_r (nI_1 (i + 1)) nx)
theorem fl_yp16 (Y : fl_Y d m cp ln wt L w C) {x : Int32} {g : Nat → Nat} (hg : g = fun s => fl_sm (fun i => fl_ic (¬ nI (fl_nt m L C w s (i + 1)) < x)) (L s)) (h : post (nI (fl_sm g m))) : ∀ n i, i ≤ m → m - i < n → wY_paths_16 post x fd (nI m) st cp ln wt n (nI (fl_sm g i)) (nI i) := by
  have y := Y
  obtain ⟨y1, y2, y3, y4, y5, y6⟩ := Y
  intro n
  induction n with
  | zero => intro i _ h; exact absurd h (Nat.not_lt_zero _)
  | succ n ih =>
    intro i hi hn
    by_cases e : i = m
    · subst e
      exact br_t (nI_le (Nat.le_refl _) (by omega)) h
    · have hi' : i < m := by omega
      have nx := ih (i + 1) (by omega) (by omega)
      have q : fl_sm g (i + 1) = fl_sm g i + fl_sm (fun j => fl_ic (¬ nI (fl_nt m L C w i (j + 1)) < x)) (L i) := by
        rw [fl_smS, hg]
      rw [q] at nx
      exact br_f (nI_ge (by omega) (by omega)) (Exists.intro (L i + 1) (fl_yp28 y hi' (a := fl_sm g i) rfl nx (L i + 1) 0 (Nat.zero_le _) (by omega)))
theorem fl_yd28 (Y : fl_Y d m cp ln wt L w C) {J : Int32 → Int32 → Prop} {x : Int32} {s a : Nat} (hs : s < m) (a8 : a ≤ 8) {g : Nat → Nat} (hg : g = fun i => fl_ic (¬ nI (fl_nt m L C w s (i + 1)) < x) * (i + 1)) (h : J (nI (fl_mx a g (L s))) (nI (s + 1))) : ∀ n i, i ≤ L s → L s - i < n → wY_deepest_28 post J x (nI s) fd (nI m) st cp ln wt n (nI (fl_mx a g i)) (nI (i + 1)) := by
  have y := Y
  obtain ⟨y1, y2, y3, y4, y5, y6⟩ := Y
  have l8 := y3 s hs
  intro n
  induction n with
  | zero => intro i _ h; exact absurd h (Nat.not_lt_zero _)
  | succ n ih =>
    intro i hi hn
    refine And.intro (vp_in_nI (by omega) (by omega)) ?_
    rw [nI_clamp (n := s) (by omega), y4 s hs]
    by_cases e : i = L s
    · rw [e]
      exact br_t (nI_lt (by omega) (by omega)) (nm_r (nI_1 s) h)
    · have nx := ih (i + 1) (by omega) (by omega)
      have gb : ∀ j, j < i → g j ≤ 8 := by
        intro j hj
        rw [hg]
        have b := Nat.mul_le_mul_right (j + 1) (fl_le1 (¬ nI (fl_nt m L C w s (j + 1)) < x))
        show fl_ic (¬ nI (fl_nt m L C w s (j + 1)) < x) * (j + 1) ≤ 8
        omega
      have hm : fl_mx a g i ≤ 8 := fl_mx_le a8 gb
      refine br_f (nI_nlt (by omega) (by omega)) (fl_newTotal y hs (by omega) (br_c (fun q => ?_) (fun q => ?_)))
      · have z : g i = 0 := by rw [hg]; exact fl_f0 (fun q2 => q2 q) _
        rw [fl_mxS, z, if_pos (Nat.zero_le _)] at nx
        exact nm_r (nI_1 (i + 1)) nx
      · have z : g i = i + 1 := by rw [hg]; exact fl_t1 q _
        refine pk_le (i + 1) (fl_mx a g i) (fun q2 => nm_r (nI_1 (i + 1)) ?_) (fun q2 => nm_r (nI_1 (i + 1)) ?_)
        · rw [fl_mxS, z, if_pos q2] at nx
          exact nx
        · rw [fl_mxS, z, if_neg (by omega)] at nx
          exact nx
theorem fl_yd16 (Y : fl_Y d m cp ln wt L w C) {x : Int32} {F : Nat → Nat → Nat} (hF : F = fun s i => fl_ic (¬ nI (fl_nt m L C w s (i + 1)) < x) * (i + 1)) (h : post (nI (fl_my F L m))) : ∀ n i, i ≤ m → m - i < n → wY_deepest_16 post x fd (nI m) st cp ln wt n (nI (fl_my F L i)) (nI i) := by
  have y := Y
  obtain ⟨y1, y2, y3, y4, y5, y6⟩ := Y
  intro n
  induction n with
  | zero => intro i _ h; exact absurd h (Nat.not_lt_zero _)
  | succ n ih =>
    intro i hi hn
    by_cases e : i = m
    · subst e
      exact br_t (nI_le (Nat.le_refl _) (by omega)) h
    · have hi' : i < m := by omega
      have nx := ih (i + 1) (by omega) (by omega)
      have b : fl_my F L i ≤ 8 := by
        refine fl_my_le (fun s j hs hj => ?_)
        rw [hF]
        have l8 := y3 s (by omega)
        have b := Nat.mul_le_mul_right (j + 1) (fl_le1 (¬ nI (fl_nt m L C w s (j + 1)) < x))
        show fl_ic (¬ nI (fl_nt m L C w s (j + 1)) < x) * (j + 1) ≤ 8
        omega
      have q : fl_my F L (i + 1) = fl_mx (fl_my F L i) (F i) (L i) := rfl
      rw [q] at nx
      exact br_f (nI_ge (by omega) (by omega)) (Exists.intro (L i + 1) (fl_yd28 y hi' b (g := F i) (by rw [hF]) nx (L i + 1) 0 (Nat.zero_le _) (by omega)))
end
section
variable {d m v : Nat} {st ln wt cp0 : Nat → Int32} {post : Int32 → SY → Prop}
theorem fl_ys24 (d8 : d ≤ 8) (m40 : m < 40) (h : ∀ cp : Nat → Int32, (∀ i, i < d → cp (8 * m + i) = st i) → (∀ j, j < 8 * m → cp j = cp0 j) → post (nI (m + 1)) (nI d, nI (m + 1), st, cp, upd ln m (nI d), upd wt m (nI v))) : ∀ (n i : Nat) (cp : Nat → Int32), i ≤ d → d - i < n → (∀ j, j < i → cp (8 * m + j) = st j) → (∀ j, j < 8 * m → cp j = cp0 j) → wY_sample_24 post (nI v) (nI d) (nI m) n (nI i) st cp ln wt := by
  intro n
  induction n with
  | zero => intro i cp _ h; exact absurd h (Nat.not_lt_zero _)
  | succ n ih =>
    intro i cp hi hn h1 h2
    by_cases e : i = d
    · subst e
      have im : vp_in (nI m) 40 := vp_in_nI (by omega) (by omega)
      refine br_t (nI_le (Nat.le_refl _) (by omega)) ?_
      rw [nI_clamp (n := m) (by omega)]
      exact ⟨im, nm_e ⟨im, nm_e (nm_r (nI_1 m) (h cp h1 h2))⟩⟩
    · refine br_f (nI_ge (by omega) (by omega)) ?_
      rw [fl_ix, nI_clamp (n := 8 * m + i) (by omega), nI_clamp (n := i) (by omega)]
      refine ⟨vp_in_nI (by omega) (by omega), vp_in_nI (by omega) (by omega), nm_e (nm_r (nI_1 i) (ih (i + 1) _ (by omega) (by omega) ?_ ?_))⟩
      · intro j hj
        by_cases q : j = i
        · subst q; exact pk_us
        · rw [pk_un (by omega)]; exact h1 j (by omega)
      · intro j hj
        rw [pk_un (by omega)]; exact h2 j hj
theorem fl_sampleY (d8 : d ≤ 8) (m40 : m < 40) (v1 : 1 ≤ v) (v100 : v ≤ 100) (h : ∀ cp : Nat → Int32, (∀ i, i < d → cp (8 * m + i) = st i) → (∀ j, j < 8 * m → cp j = cp0 j) → post (nI (m + 1)) (nI d, nI (m + 1), st, cp, upd ln m (nI d), upd wt m (nI v))) : wpY_sample post (nI d, nI m, st, cp0, ln, wt) (nI v) := by
  have hm : ¬ nI m = 40 := fun z => by
    have := (nI_eq (a := m) (b := 40) (by omega) (by omega)).1 z
    omega
  exact br_f (nI_nlt (b := 1) v1 (by omega)) (br_f (nI_nlt (a := 100) v100 (by omega)) (br_f hm (Exists.intro (d + 1) (fl_ys24 d8 m40 h (d + 1) 0 cp0 (Nat.zero_le d) (by omega) (fun j hj => absurd hj (Nat.not_lt_zero _)) (fun j _ => rfl)))))
end
end
section
theorem fl_F_iff {x : Int32} : fl_F x ↔ ¬ x < 0 ∧ ¬ 7 < x := by
  constructor
  · rintro ⟨f, f8, rfl⟩
    exact ⟨nI_pos (by omega), nI_nlt (a := 7) (by omega) (by omega)⟩
  · rintro ⟨h1, h2⟩
    obtain ⟨j, hj, rfl⟩ := nI_of h1
    refine ⟨j, ?_, rfl⟩
    by_cases e : j < 8
    · exact e
    · exact absurd (nI_lt (a := 7) (b := j) (by omega) hj) h2
theorem fl_isF {post : Int32 → Prop} {x : Int32} (h1 : fl_F x → post 1) (h0 : ¬ fl_F x → post 0) : wpX_isFunction post x :=
  br_c (fun a => h0 (fun z => (fl_F_iff.1 z).1 a)) (fun a => br_c (fun b => h0 (fun z => (fl_F_iff.1 z).2 b)) (fun b => h1 (fl_F_iff.2 ⟨a, b⟩)))
theorem fl_bad {post : Int32 → Prop} {x : Int32} (h1 : fl_F x → post 0) (h0 : ¬ fl_F x → post 1) : wpY_bad post x :=
  br_c (fun a => h0 (fun z => (fl_F_iff.1 z).1 a)) (fun a => br_c (fun b => h1 (fl_F_iff.2 ⟨a, Int32.not_lt.mpr b⟩)) (fun b => h0 (fun z => b (Int32.not_lt.mp (fl_F_iff.1 z).2))))
theorem fl_v {x : Int32} (h1 : ¬ x < 1) (h2 : ¬ 100 < x) : ∃ v, 1 ≤ v ∧ v ≤ 100 ∧ x = nI v := by
  have h0 : ¬ x < 0 := by
    rw [Int32.lt_iff_toInt_lt] at h1 ⊢
    have a : (1 : Int32).toInt = 1 := by decide
    have b : (0 : Int32).toInt = 0 := by decide
    omega
  obtain ⟨j, hj, rfl⟩ := nI_of h0
  refine ⟨j, ?_, ?_, rfl⟩
  · by_cases e : 1 ≤ j
    · exact e
    · exact absurd (nI_lt (a := j) (b := 1) (by omega) (by omega)) h1
  · by_cases e : j ≤ 100
    · exact e
    · exact absurd (nI_lt (a := 100) (b := j) (by omega) hj) h2
theorem fl_x0 {x : Int32} (h : 1 ≤ x) : ¬ ¬ nI 0 < x := by
  intro z
  rw [nI_0, Int32.lt_iff_toInt_lt] at z
  rw [Int32.le_iff_toInt_le] at h
  have a : (1 : Int32).toInt = 1 := by decide
  have b : (0 : Int32).toInt = 0 := by decide
  omega
section
variable {N m d : Nat} {fn ab ch si ow tw st : Nat → Int32} {up L : Nat → Nat} {C : Nat → Nat → Int32} {nd : Nat → Nat → Nat} {w : Nat → Nat} {fd fs fN : Int32} {post : Int32 → Prop}
theorem fl_hottestX (hN : N ≤ 321) (m40 : m ≤ 40) (d8 : d ≤ 8) (hw : ∀ s, s < m → 1 ≤ w s ∧ w s ≤ 100) (K : fl_K N up ab ch si) (T : fl_T N m fn up L C nd) (htw : ∀ n, tw n = nI (fl_tw m L nd w n)) (h : ∀ r, fl_hr (fun g => fl_tf m L C w d st (nI g)) r → post r) : wpX_hottest post (nI d, fs, fN, st, fn, ab, ch, si, ow, tw) := by
  refine fl_nodeOfStack hN d8 K T (fun p pN hp => ?_) (fun hz => ?_)
  · refine br_f (nI_pos (by omega)) (pk_eq d 8 (fun e => h (-1) (Or.inl ⟨rfl, fun g _ => ?_⟩)) (fun e => ⟨vp_in_nI (by omega) (by omega), ?_⟩))
    · refine fl_smz (fun s hs => fl_f0 (fun q => ?_) _)
      have := T.2.2.2.2.2.1 s hs
      have := q.2.1
      omega
    · rw [nI_clamp (n := p) (by omega), K.1 p]
      refine nm_e (Exists.intro (N + 1) (fl_ht29 hN K (p := p) ?_ ?_ (N + 1) N 0 (Nat.le_refl N) (by have := fl_lc_le up p N; omega) T.1 (fun _ c c1 c2 c3 => by omega) (fun z => by omega)))
      · intro hno
        refine h (-1) (Or.inl ⟨rfl, fun g _ => ?_⟩)
        by_cases z : 0 < fl_tf m L C w d st (nI g)
        · obtain ⟨c, c1, c2, c3, c4⟩ := fl_tf_ex T hp z
          exact absurd c3 (hno c c1 c2)
        · show fl_tf m L C w d st (nI g) = 0
          omega
      · intro b b1 b2 b3 hR
        have tle : ∀ c, 1 ≤ c → c < N → up c = p → fl_tw m L nd w c ≤ 4000 := by
          intro c c1 c2 c3
          rw [fl_child T hp c1 c2 c3]
          have := fl_tf_le (L := L) (C := C) (st := st) (w := w) (fun s hs => (hw s hs).2) d (fn c)
          omega
        obtain ⟨f, f8, ef⟩ := fl_fn_F T b1 b2
        have tb := fl_child (w := w) T hp b1 b2 b3
        have tp := fl_tw_pos (w := w) T (fun s hs => (hw s hs).1) b1 b2
        have tl := tle b b1 b2 b3
        rw [ef] at tb
        rw [ef]
        refine h (nI f) (Or.inr ⟨f, f8, rfl, ?_, fun g g8 => ?_⟩)
        · show 0 < fl_tf m L C w d st (nI f)
          omega
        · show fl_tf m L C w d st (nI g) < fl_tf m L C w d st (nI f) ∨ (fl_tf m L C w d st (nI g) = fl_tf m L C w d st (nI f) ∧ f ≤ g)
          by_cases z : 0 < fl_tf m L C w d st (nI g)
          · obtain ⟨c, c1, c2, c3, c4⟩ := fl_tf_ex T hp z
            have r := hR c c1 c2 c3
            have tc := fl_child (w := w) T hp c1 c2 c3
            have tlc := tle c c1 c2 c3
            rw [c4] at tc
            unfold fl_R at r
            rw [htw c, htw b, c4, ef, nI_toInt (n := fl_tw m L nd w c) (by omega), nI_toInt (n := fl_tw m L nd w b) (by omega), nI_toInt (n := f) (by omega), nI_toInt (n := g) (by omega)] at r
            omega
          · exact Or.inl (by omega)
  · exact br_t (by decide) (h (-1) (Or.inl ⟨rfl, fun g _ => fl_tf_0 hz _⟩))
theorem fl_inclX (hN : N ≤ 321) (K : fl_K N up ab ch si) (T : fl_T N m fn up L C nd) (htw : ∀ n, tw n = nI (fl_tw m L nd w n)) {f : Int32} (h : post (nI (fl_sm (fun s => fl_ic (fl_st L C (-1) f s) * w s) m))) : ∃ n, wX_inclusive_13 post f fd fs (nI N) st fn ab ch si ow tw n 0 1 := by
  rw [← fl_stand T (-1) f] at h
  have q := fl_in13 (fd := fd) (fs := fs) (st := st) (ow := ow) (g := fun n => fl_ic (1 ≤ n ∧ fl_B fn up (-1) f n ∧ ¬ fl_sa (fl_B fn up (-1) f) up 8 (up n)) * fl_tw m L nd w n) hN T.1 K T.2.2.1 (fun i i1 _ a b => fl_gw1 (htw i) ⟨i1, ⟨a, Or.inl (by decide)⟩, b⟩) (fun i i1 _ a => fl_f0 (fun z => a ⟨z.2.1.1, z.2.2⟩) _) h (N + 1) 1 (Nat.le_refl 1) T.1 (by omega)
  have z : fl_sm (fun n => fl_ic (1 ≤ n ∧ fl_B fn up (-1) f n ∧ ¬ fl_sa (fl_B fn up (-1) f) up 8 (up n)) * fl_tw m L nd w n) 1 = 0 := fl_smz (fun i hi => fl_f0 (fun y => by have := y.1; omega) _)
  rw [z] at q
  exact ⟨_, q⟩
theorem fl_edgeX (hN : N ≤ 321) (K : fl_K N up ab ch si) (T : fl_T N m fn up L C nd) (htw : ∀ n, tw n = nI (fl_tw m L nd w n)) {c f : Int32} (hc : ¬ c < 0) (h : post (nI (fl_sm (fun s => fl_ic (fl_st L C c f s) * w s) m))) : ∃ n, wX_edge_21 post c f fd fs (nI N) st fn ab ch si ow tw n 0 1 := by
  rw [← fl_stand T c f] at h
  have q := fl_ed21 (fd := fd) (fs := fs) (st := st) (ow := ow) (g := fun n => fl_ic (1 ≤ n ∧ fl_B fn up c f n ∧ ¬ fl_sa (fl_B fn up c f) up 8 (up n)) * fl_tw m L nd w n) hN T.1 K T.2.2.1 hc (fun i i1 _ a b => fl_gw1 (htw i) ⟨i1, a, b⟩) (fun i i1 _ a => fl_f0 (fun z => a z.2) _) h (N + 1) 1 (Nat.le_refl 1) T.1 (by omega)
  have z : fl_sm (fun n => fl_ic (1 ≤ n ∧ fl_B fn up c f n ∧ ¬ fl_sa (fl_B fn up c f) up 8 (up n)) * fl_tw m L nd w n) 1 = 0 := fl_smz (fun i hi => fl_f0 (fun y => by have := y.1; omega) _)
  rw [z] at q
  exact ⟨_, q⟩
theorem fl_exclX (hN : N ≤ 321) (T : fl_T N m fn up L C nd) (how : ∀ n, ow n = nI (fl_ow m L nd w n)) {f : Int32} (h : post (nI (fl_sm (fun s => fl_ic (1 ≤ L s ∧ C s (L s - 1) = f) * w s) m))) : ∃ n, wX_exclusive_13 post f fd fs (nI N) st fn ab ch si ow tw n 0 1 := by
  rw [← fl_excl T f] at h
  have q := fl_ex13 (fd := fd) (fs := fs) (st := st) (ab := ab) (ch := ch) (si := si) (tw := tw) (g := fun n => fl_ic (1 ≤ n ∧ fn n = f) * fl_ow m L nd w n) hN (fun i i1 _ a => fl_gw1 (how i) ⟨i1, a⟩) (fun i i1 _ a => fl_f0 (fun z => a z.2) _) h (N + 1) 1 (Nat.le_refl 1) T.1 (by omega)
  have z : fl_sm (fun n => fl_ic (1 ≤ n ∧ fn n = f) * fl_ow m L nd w n) 1 = 0 := fl_smz (fun i hi => fl_f0 (fun y => by have := y.1; omega) _)
  rw [z] at q
  exact ⟨_, q⟩
theorem fl_pathsX (hN : N ≤ 321) (T : fl_T N m fn up L C nd) (htw : ∀ n, tw n = nI (fl_tw m L nd w n)) {x : Int32} (hx : 1 ≤ x) (h : post (nI (fl_sm (fun s => fl_sm (fun i => fl_ic (¬ nI (fl_nt m L C w s (i + 1)) < x)) (L s)) m))) : ∃ n, wX_paths_16 post x fd fs (nI N) st fn ab ch si ow tw n 0 1 := by
  rw [← fl_paths T (fun v => ¬ nI v < x) (fl_x0 hx)] at h
  have q := fl_pa16 (fd := fd) (fs := fs) (st := st) (ab := ab) (ch := ch) (si := si) (ow := ow) (tw := tw) (fn := fn) (x := x) (g := fun n => fl_ic (1 ≤ n ∧ ¬ nI (fl_tw m L nd w n) < x)) hN (fun i i1 _ a => fl_t ⟨i1, by rw [← htw i]; exact a⟩) (fun i i1 _ a => fl_f (fun z => z.2 (by rw [← htw i]; exact a))) h (N + 1) 1 (Nat.le_refl 1) T.1 (by omega)
  have z : fl_sm (fun n => fl_ic (1 ≤ n ∧ ¬ nI (fl_tw m L nd w n) < x)) 1 = 0 := fl_smz (fun i hi => fl_f (fun y => by have := y.1; omega))
  rw [z] at q
  exact ⟨_, q⟩
theorem fl_deepX (hN : N ≤ 321) (K : fl_K N up ab ch si) (T : fl_T N m fn up L C nd) (htw : ∀ n, tw n = nI (fl_tw m L nd w n)) {x : Int32} (hx : 1 ≤ x) (h : post (nI (fl_my (fun s i => fl_ic (¬ nI (fl_nt m L C w s (i + 1)) < x) * (i + 1)) L m))) : ∃ n, wX_deepest_16 post x fd fs (nI N) st fn ab ch si ow tw n 0 1 := by
  rw [← fl_deep T (fun v => ¬ nI v < x) (fl_x0 hx)] at h
  have q := fl_de16 (fd := fd) (fs := fs) (st := st) (ow := ow) (tw := tw) (fn := fn) (x := x) (g := fun n => fl_ic (1 ≤ n ∧ ¬ nI (fl_tw m L nd w n) < x) * fl_dp up 8 n) hN T.1 K T.2.2.1 (fun i => by
      have a := fl_dp_le up 8 i
      have b := Nat.mul_le_mul (fl_le1 (1 ≤ i ∧ ¬ nI (fl_tw m L nd w i) < x)) a
      show fl_ic (1 ≤ i ∧ ¬ nI (fl_tw m L nd w i) < x) * fl_dp up 8 i ≤ 8
      omega) (fun i i1 _ a => fl_t1 ⟨i1, by rw [← htw i]; exact a⟩ _) (fun i i1 _ a => fl_f0 (fun z => z.2 (by rw [← htw i]; exact a)) _) h (N + 1) 1 (Nat.le_refl 1) T.1 (by omega)
  have z : fl_mx 0 (fun n => fl_ic (1 ≤ n ∧ ¬ nI (fl_tw m L nd w n) < x) * fl_dp up 8 n) 1 = 0 := by
    rw [fl_mxS]
    have y : ¬ (1 ≤ 0 ∧ ¬ nI (fl_tw m L nd w 0) < x) := fun q => by have := q.1; omega
    rw [fl_f0 y]
    exact if_pos (Nat.le_refl 0)
  rw [z] at q
  exact ⟨_, q⟩
end
end
section
/-- everything that the two states have in common, over the ghosts up, L, w, C, nd -/
def fl_G (d m N : Nat) (st fn ab ch si ow tw cp ln wt : Nat → Int32) (up L w : Nat → Nat) (C : Nat → Nat → Int32) (nd : Nat → Nat → Nat) : Prop :=
  (∀ i, i < d → fl_F (st i)) ∧ N ≤ 1 + 8 * m ∧ fl_T N m fn up L C nd ∧ fl_K N up ab ch si ∧ (∀ n, tw n = nI (fl_tw m L nd w n)) ∧ (∀ n, ow n = nI (fl_ow m L nd w n)) ∧ fl_Y d m cp ln wt L w C ∧ (∀ s, s < m → 1 ≤ w s ∧ w s ≤ 100)
/-- the relation: X's tree is that of Y's samples -/
def i_Rel (k : Nat) (u : SX) (v : SY) : Prop := ∃ (d m N : Nat) (st fn ab ch si ow tw cp ln wt : Nat → Int32) (up L w : Nat → Nat) (C : Nat → Nat → Int32) (nd : Nat → Nat → Nat), u = (nI d, nI m, nI N, st, fn, ab, ch, si, ow, tw) ∧ v = (nI d, nI m, st, cp, ln, wt) ∧ fl_G d m N st fn ab ch si ow tw cp ln wt up L w C nd
theorem fl_mk {k d m N : Nat} {st fn ab ch si ow tw cp ln wt : Nat → Int32} {up L w : Nat → Nat} {C : Nat → Nat → Int32} {nd : Nat → Nat → Nat} (G : fl_G d m N st fn ab ch si ow tw cp ln wt up L w C nd) : i_Rel k (nI d, nI m, nI N, st, fn, ab, ch, si, ow, tw) (nI d, nI m, st, cp, ln, wt) := by
  unfold i_Rel
  exact ⟨d, m, N, st, fn, ab, ch, si, ow, tw, cp, ln, wt, up, L, w, C, nd, rfl, rfl, G⟩
theorem i_up {k : Nat} {u : SX} {v : SY} (h : i_Rel k u v) : i_Rel (k + 3) u v := h
theorem i_vc0 : wpX_init (fun u => wpY_init (fun v => i_Rel 0 u v)) := by
  refine nm_e ?_
  have G : fl_G 0 0 1 (fun _ => 0) (upd (fun _ => 0) 0 (-1)) (fun _ => 0) (fun _ => 0) (fun _ => 0) (fun _ => 0) (fun _ => 0) (fun _ => 0) (fun _ => 0) (fun _ => 0) (fun _ => 0) (fun _ => 0) (fun _ => 0) (fun _ _ => 0) (fun _ _ => 0) :=
    ⟨fun i hi => absurd hi (Nat.not_lt_zero _), by omega, fl_T_0 pk_us, fl_K_0 (fun _ => rfl), fun n => nI_0.symm, fun n => nI_0.symm, ⟨by omega, by omega, fun s hs => absurd hs (Nat.not_lt_zero _), fun s hs => absurd hs (Nat.not_lt_zero _), fun s hs => absurd hs (Nat.not_lt_zero _), fun s i hs => absurd hs (Nat.not_lt_zero _)⟩, fun s hs => absurd hs (Nat.not_lt_zero _)⟩
  exact fl_mk (k := 0) G
theorem i_vc_call {k : Nat} {u : SX} {v : SY} (I : i_Rel k u v) (hk : k + 3 ≤ 1536) (v1 : Int32) : wpX_call (fun r u' => wpY_call (fun r' v' => r' = r ∧ i_Rel (k + 3) u' v') v v1) u v1 := by
  have J := i_up I
  obtain ⟨d, m, N, st, fn, ab, ch, si, ow, tw, cp, ln, wt, up, L, w, C, nd, rfl, rfl, G⟩ := I
  have GG := G
  obtain ⟨g1, g2, T, K, g5, g6, Y, g8⟩ := G
  have d8 := Y.1
  have m40 := Y.2.1
  have hN : N ≤ 321 := by omega
  unfold wpX_call wpY_call
  dsimp only
  refine fl_isF (fun hF => ?_) (fun hF => ?_)
  · refine br_f fl_1n0 (pk_lt d 8 (fun e => ?_) (fun e => ?_))
    · refine ⟨vp_in_nI e (by omega), ?_⟩
      rw [nI_clamp (n := d) (by omega)]
      refine nm_e (nm_r (nI_1 d) ?_)
      refine fl_bad (fun _ => ?_) (fun z => absurd hF z)
      refine br_t rfl (pk_eq d 8 (fun z => absurd z (by omega)) (fun _ => ?_))
      refine ⟨vp_in_nI e (by omega), ?_⟩
      refine nm_e (nm_r (nI_1 d) ⟨rfl, fl_mk (up := up) (L := L) (w := w) (C := C) (nd := nd) ⟨fun i hi => ?_, g2, T, K, g5, g6, ⟨by omega, Y.2⟩, g8⟩⟩)
      by_cases z : i = d
      · subst z; rw [pk_us]; exact hF
      · rw [pk_un z]; exact g1 i (by omega)
    · refine fl_bad (fun _ => ?_) (fun z => absurd hF z)
      exact br_t rfl (pk_eq d 8 (fun _ => ⟨rfl, J⟩) (fun z => absurd (Nat.le_antisymm d8 e) z))
  · refine br_t rfl ?_
    refine fl_bad (fun z => absurd z hF) (fun _ => ?_)
    exact br_f fl_1n0 ⟨rfl, J⟩
theorem i_vc_leave {k : Nat} {u : SX} {v : SY} (I : i_Rel k u v) (hk : k + 3 ≤ 1536) : wpX_leave (fun r u' => wpY_leave (fun r' v' => r' = r ∧ i_Rel (k + 3) u' v') v) u := by
  have J := i_up I
  obtain ⟨d, m, N, st, fn, ab, ch, si, ow, tw, cp, ln, wt, up, L, w, C, nd, rfl, rfl, G⟩ := I
  have GG := G
  obtain ⟨g1, g2, T, K, g5, g6, Y, g8⟩ := G
  have d8 := Y.1
  have m40 := Y.2.1
  have hN : N ≤ 321 := by omega
  by_cases e : d = 0
  · subst e
    exact br_t nI_0 (br_t nI_0 ⟨rfl, J⟩)
  · obtain ⟨c, rfl⟩ : ∃ c, d = c + 1 := ⟨d - 1, by omega⟩
    have h0 : ¬ nI (c + 1) = 0 := nI_ne0 (by omega) (by omega)
    have hi : vp_in (nI c) 8 := vp_in_nI (by omega) (by omega)
    refine br_f h0 (nm_r (nI_pred c) ⟨hi, br_f h0 (nm_r (nI_pred c) ⟨hi, rfl, ?_⟩)⟩)
    exact fl_mk (up := up) (L := L) (w := w) (C := C) (nd := nd) ⟨fun i hi => g1 i (by omega), g2, T, K, g5, g6, ⟨by omega, Y.2⟩, g8⟩
/-- the relation after a sample -/
theorem fl_G_next {d m N N' v : Nat} {st fn ab ch si ow tw cp ln wt fn' ab' ch' si' ow' tw' cp' : Nat → Int32} {up L w up' L' : Nat → Nat} {C : Nat → Nat → Int32} {nd nd' : Nat → Nat → Nat} (G : fl_G d m N st fn ab ch si ow tw cp ln wt up L w C nd) (m40 : m < 40) (v1 : 1 ≤ v) (v100 : v ≤ 100)
    (hN : N' ≤ 1 + 8 * (m + 1)) (T : fl_T N' (m + 1) fn' up' L' (fl_s C m st) nd') (K : fl_K N' up' ab' ch' si') (htw : ∀ n, tw' n = nI (fl_tw (m + 1) L' nd' (fl_s w m v) n)) (how : ∀ n, ow' n = nI (fl_ow (m + 1) L' nd' (fl_s w m v) n)) (hL : ∀ s, s < m → L' s = L s) (hLm : L' m = d)
    (c1 : ∀ i, i < d → cp' (8 * m + i) = st i) (c2 : ∀ j, j < 8 * m → cp' j = cp j) : fl_G d (m + 1) N' st fn' ab' ch' si' ow' tw' cp' (upd ln m (nI d)) (upd wt m (nI v)) up' L' (fl_s w m v) (fl_s C m st) nd' := by
  obtain ⟨g1, g2, _, _, _, _, ⟨y1, y2, y3, y4, y5, y6⟩, g8⟩ := G
  refine ⟨g1, hN, T, K, htw, how, ⟨y1, by omega, T.2.2.2.2.2.1, ?_, ?_, ?_⟩, ?_⟩
  · intro s hs
    by_cases e : s = m
    · subst e; rw [pk_us, hLm]
    · rw [pk_un e, hL s (by omega)]; exact y4 s (by omega)
  · intro s hs
    by_cases e : s = m
    · subst e; rw [pk_us, fl_ss]
    · rw [pk_un e, fl_sn e]; exact y5 s (by omega)
  · intro s i hs hi
    by_cases e : s = m
    · subst e; rw [fl_ss]; exact c1 i (by omega)
    · have h8 := y3 s (by omega)
      rw [hL s (by omega)] at hi
      rw [fl_sn e, c2 (8 * s + i) (by omega)]
      exact y6 s i (by omega) hi
  · intro s hs
    by_cases e : s = m
    · subst e; rw [fl_ss]; exact ⟨v1, v100⟩
    · rw [fl_sn e]; exact g8 s (by omega)
theorem i_vc_sample {k : Nat} {u : SX} {v : SY} (I : i_Rel k u v) (hk : k + 3 ≤ 1536) (v1 : Int32) : wpX_sample (fun r u' => wpY_sample (fun r' v' => r' = r ∧ i_Rel (k + 3) u' v') v v1) u v1 := by
  have J := i_up I
  obtain ⟨d, m, N, st, fn, ab, ch, si, ow, tw, cp, ln, wt, up, L, w, C, nd, rfl, rfl, G⟩ := I
  have GG := G
  obtain ⟨g1, g2, T, K, g5, g6, Y, g8⟩ := G
  have d8 := Y.1
  have m40 := Y.2.1
  have hN : N ≤ 321 := by omega
  by_cases a : v1 < 1
  · exact br_t a (br_t a ⟨rfl, J⟩)
  · by_cases b : 100 < v1
    · exact br_f a (br_t b (br_f a (br_t b ⟨rfl, J⟩)))
    · by_cases e : m = 40
      · have e1 : ¬ nI m < 40 := nI_nlt (b := 40) (by omega) (by omega)
        have e2 : nI m = 40 := by rw [e]; rfl
        exact br_f a (br_f b (br_f e1 (br_f a (br_f b (br_t e2 ⟨rfl, J⟩)))))
      · obtain ⟨v, w1, w2, rfl⟩ := fl_v a b
        refine fl_sampleX (v := v) d8 (by omega) w1 w2 g1 g2 T K g5 g6 ?_
        intro N' fn' ab' ch' si' ow' tw' up' L' nd' hN' T' K' htw' how' hL' hLm'
        refine fl_sampleY (v := v) d8 (by omega) w1 w2 ?_
        intro cp' c1 c2
        exact ⟨rfl, fl_mk (fl_G_next GG (by omega) w1 w2 hN' T' K' htw' how' hL' hLm' c1 c2)⟩
theorem i_vc_total {k : Nat} {u : SX} {v : SY} (I : i_Rel k u v) (hk : k + 3 ≤ 1536) : wpX_total (fun r => wpY_total (fun r' => r' = r ∧ i_Rel (k + 3) u v) v) u := by
  have J := i_up I
  obtain ⟨d, m, N, st, fn, ab, ch, si, ow, tw, cp, ln, wt, up, L, w, C, nd, rfl, rfl, G⟩ := I
  have GG := G
  obtain ⟨g1, g2, T, K, g5, g6, Y, g8⟩ := G
  have d8 := Y.1
  have m40 := Y.2.1
  have hN : N ≤ 321 := by omega
  exact fl_totalX hN d8 K T g5 (fl_totalY Y ⟨rfl, J⟩)
theorem i_vc_own {k : Nat} {u : SX} {v : SY} (I : i_Rel k u v) (hk : k + 3 ≤ 1536) : wpX_own (fun r => wpY_own (fun r' => r' = r ∧ i_Rel (k + 3) u v) v) u := by
  have J := i_up I
  obtain ⟨d, m, N, st, fn, ab, ch, si, ow, tw, cp, ln, wt, up, L, w, C, nd, rfl, rfl, G⟩ := I
  have GG := G
  obtain ⟨g1, g2, T, K, g5, g6, Y, g8⟩ := G
  have d8 := Y.1
  have m40 := Y.2.1
  have hN : N ≤ 321 := by omega
  exact fl_ownX hN d8 K T g6 (fl_ownY Y ⟨rfl, J⟩)
theorem i_vc_hottest {k : Nat} {u : SX} {v : SY} (I : i_Rel k u v) (hk : k + 3 ≤ 1536) : wpX_hottest (fun r => wpY_hottest (fun r' => r' = r ∧ i_Rel (k + 3) u v) v) u := by
  have J := i_up I
  obtain ⟨d, m, N, st, fn, ab, ch, si, ow, tw, cp, ln, wt, up, L, w, C, nd, rfl, rfl, G⟩ := I
  have GG := G
  obtain ⟨g1, g2, T, K, g5, g6, Y, g8⟩ := G
  have d8 := Y.1
  have m40 := Y.2.1
  have hN : N ≤ 321 := by omega
  refine fl_hottestX hN m40 d8 g8 K T g5 (fun r hr => ?_)
  exact fl_hottestY Y (fun s hs => (g8 s hs).2) (fun r' hr' => ⟨fl_hr_one hr hr', J⟩)
theorem i_vc_inclusive {k : Nat} {u : SX} {v : SY} (I : i_Rel k u v) (hk : k + 3 ≤ 1536) (v1 : Int32) : wpX_inclusive (fun r => wpY_inclusive (fun r' => r' = r ∧ i_Rel (k + 3) u v) v v1) u v1 := by
  have J := i_up I
  obtain ⟨d, m, N, st, fn, ab, ch, si, ow, tw, cp, ln, wt, up, L, w, C, nd, rfl, rfl, G⟩ := I
  have GG := G
  obtain ⟨g1, g2, T, K, g5, g6, Y, g8⟩ := G
  have d8 := Y.1
  have m40 := Y.2.1
  have hN : N ≤ 321 := by omega
  unfold wpX_inclusive wpY_inclusive
  dsimp only
  refine fl_isF (fun hF => ?_) (fun hF => ?_)
  · refine br_f fl_1n0 (fl_inclX hN K T g5 ?_)
    refine fl_bad (fun _ => ?_) (fun z => absurd hF z)
    exact br_t rfl (fl_standing Y ⟨rfl, J⟩)
  · refine br_t rfl ?_
    refine fl_bad (fun z => absurd z hF) (fun _ => ?_)
    exact br_f fl_1n0 ⟨rfl, J⟩
theorem i_vc_exclusive {k : Nat} {u : SX} {v : SY} (I : i_Rel k u v) (hk : k + 3 ≤ 1536) (v1 : Int32) : wpX_exclusive (fun r => wpY_exclusive (fun r' => r' = r ∧ i_Rel (k + 3) u v) v v1) u v1 := by
  have J := i_up I
  obtain ⟨d, m, N, st, fn, ab, ch, si, ow, tw, cp, ln, wt, up, L, w, C, nd, rfl, rfl, G⟩ := I
  have GG := G
  obtain ⟨g1, g2, T, K, g5, g6, Y, g8⟩ := G
  have d8 := Y.1
  have m40 := Y.2.1
  have hN : N ≤ 321 := by omega
  unfold wpX_exclusive wpY_exclusive
  dsimp only
  refine fl_isF (fun hF => ?_) (fun hF => ?_)
  · refine br_f fl_1n0 (fl_exclX hN T g6 ?_)
    refine fl_bad (fun _ => ?_) (fun z => absurd hF z)
    exact br_t rfl (Exists.intro (m + 1) (fl_ye13 Y rfl ⟨rfl, J⟩ (m + 1) 0 (Nat.zero_le m) (by omega)))
  · refine br_t rfl ?_
    refine fl_bad (fun z => absurd z hF) (fun _ => ?_)
    exact br_f fl_1n0 ⟨rfl, J⟩
theorem i_vc_edge {k : Nat} {u : SX} {v : SY} (I : i_Rel k u v) (hk : k + 3 ≤ 1536) (v1 : Int32) (v2 : Int32) : wpX_edge (fun r => wpY_edge (fun r' => r' = r ∧ i_Rel (k + 3) u v) v v1 v2) u v1 v2 := by
  have J := i_up I
  obtain ⟨d, m, N, st, fn, ab, ch, si, ow, tw, cp, ln, wt, up, L, w, C, nd, rfl, rfl, G⟩ := I
  have GG := G
  obtain ⟨g1, g2, T, K, g5, g6, Y, g8⟩ := G
  have d8 := Y.1
  have m40 := Y.2.1
  have hN : N ≤ 321 := by omega
  unfold wpX_edge wpY_edge
  dsimp only
  refine fl_isF (fun h1 => ?_) (fun h1 => ?_)
  · refine br_f fl_1n0 ?_
    refine fl_isF (fun h2 => ?_) (fun h2 => ?_)
    · refine br_f fl_1n0 (fl_edgeX hN K T g5 (fl_F_iff.1 h1).1 ?_)
      refine fl_bad (fun _ => ?_) (fun z => absurd h1 z)
      refine br_t rfl ?_
      refine fl_bad (fun _ => ?_) (fun z => absurd h2 z)
      exact br_t rfl (fl_standing Y ⟨rfl, J⟩)
    · refine br_t rfl ?_
      refine fl_bad (fun _ => ?_) (fun z => absurd h1 z)
      refine br_t rfl ?_
      refine fl_bad (fun z => absurd z h2) (fun _ => ?_)
      exact br_f fl_1n0 ⟨rfl, J⟩
  · refine br_t rfl ?_
    refine fl_bad (fun z => absurd z h1) (fun _ => ?_)
    exact br_f fl_1n0 ⟨rfl, J⟩
theorem i_vc_paths {k : Nat} {u : SX} {v : SY} (I : i_Rel k u v) (hk : k + 3 ≤ 1536) (v1 : Int32) : wpX_paths (fun r => wpY_paths (fun r' => r' = r ∧ i_Rel (k + 3) u v) v v1) u v1 := by
  have J := i_up I
  obtain ⟨d, m, N, st, fn, ab, ch, si, ow, tw, cp, ln, wt, up, L, w, C, nd, rfl, rfl, G⟩ := I
  have GG := G
  obtain ⟨g1, g2, T, K, g5, g6, Y, g8⟩ := G
  have d8 := Y.1
  have m40 := Y.2.1
  have hN : N ≤ 321 := by omega
  by_cases a : 1 ≤ v1
  · exact br_t a (fl_pathsX hN T g5 a (br_t a (Exists.intro (m + 1) (fl_yp16 Y rfl ⟨rfl, J⟩ (m + 1) 0 (Nat.zero_le m) (by omega)))))
  · exact br_f a (fl_pathsX hN T g5 (by decide) (br_f a (Exists.intro (m + 1) (fl_yp16 Y rfl ⟨rfl, J⟩ (m + 1) 0 (Nat.zero_le m) (by omega)))))
theorem i_vc_deepest {k : Nat} {u : SX} {v : SY} (I : i_Rel k u v) (hk : k + 3 ≤ 1536) (v1 : Int32) : wpX_deepest (fun r => wpY_deepest (fun r' => r' = r ∧ i_Rel (k + 3) u v) v v1) u v1 := by
  have J := i_up I
  obtain ⟨d, m, N, st, fn, ab, ch, si, ow, tw, cp, ln, wt, up, L, w, C, nd, rfl, rfl, G⟩ := I
  have GG := G
  obtain ⟨g1, g2, T, K, g5, g6, Y, g8⟩ := G
  have d8 := Y.1
  have m40 := Y.2.1
  have hN : N ≤ 321 := by omega
  by_cases a : 1 ≤ v1
  · exact br_t a (fl_deepX hN K T g5 a (br_t a (Exists.intro (m + 1) (fl_yd16 Y rfl ⟨rfl, J⟩ (m + 1) 0 (Nat.zero_le m) (by omega)))))
  · exact br_f a (fl_deepX hN K T g5 (by decide) (br_f a (Exists.intro (m + 1) (fl_yd16 Y rfl ⟨rfl, J⟩ (m + 1) 0 (Nat.zero_le m) (by omega)))))
end
