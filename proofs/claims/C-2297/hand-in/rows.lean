section
theorem pk_us {f : Nat → Int32} {k : Nat} {x : Int32} : upd f k x k = x := if_pos rfl
theorem pk_un {f : Nat → Int32} {k j : Nat} {x : Int32} (h : j ≠ k) : upd f k x j = f j := if_neg h
theorem pk_sub {a b : Nat} (h : b ≤ a) : nI a - nI b = nI (a - b) := by
  obtain ⟨c, rfl⟩ : ∃ c, a = c + b := ⟨a - b, by omega⟩
  rw [← nI_add, Int32.add_sub_cancel, Nat.add_sub_cancel]
theorem pk_m1 (n : Nat) : nI (n + 1) + (-1) = nI n := by
  rw [← nI_1, Int32.add_assoc, show (1 : Int32) + (-1) = 0 from rfl, Int32.add_zero]
theorem pk_mul (a b : Nat) : nI a * nI b = nI (a * b) := (Int32.ofNat_mul a b).symm
theorem pk_ix (x : Int32) {n : Nat} (hn : n < 2 ^ 31) : x < 0 ∨ nI n ≤ x ∨ ∃ j : Nat, j < n ∧ x = nI j := by
  by_cases h : x < 0
  · exact Or.inl h
  · obtain ⟨j, hj, rfl⟩ := nI_of h
    by_cases h2 : j < n
    · exact Or.inr (Or.inr ⟨j, h2, rfl⟩)
    · exact Or.inr (Or.inl (nI_le (by omega) hj))
theorem pk_le {x y : Int32} {A B : Prop} (a b : Nat) (f : a ≤ b → A) (g : b < a → B) (hx : x = nI a := by rfl) (hy : y = nI b := by rfl) (ha : a < 2 ^ 31 := by omega) (hb : b < 2 ^ 31 := by omega) : (x ≤ y → A) ∧ (¬ x ≤ y → B) := by
  subst hx hy
  rw [nI_leI ha hb]
  exact ⟨f, fun z => g (by omega)⟩
theorem pk_lt {x y : Int32} {A B : Prop} (a b : Nat) (f : a < b → A) (g : b ≤ a → B) (hx : x = nI a := by rfl) (hy : y = nI b := by rfl) (ha : a < 2 ^ 31 := by omega) (hb : b < 2 ^ 31 := by omega) : (x < y → A) ∧ (¬ x < y → B) := by
  subst hx hy
  rw [nI_ltI ha hb]
  exact ⟨f, fun z => g (by omega)⟩
theorem pk_eq {x y : Int32} {A B : Prop} (a b : Nat) (f : a = b → A) (g : a ≠ b → B) (hx : x = nI a := by rfl) (hy : y = nI b := by rfl) (ha : a < 2 ^ 31 := by omega) (hb : b < 2 ^ 31 := by omega) : (x = y → A) ∧ (¬ x = y → B) := by
  subst hx hy
  rw [nI_eq ha hb]
  exact ⟨f, g⟩
theorem pk_in {x : Int32} (n N : Nat) (h : n < N) (hx : x = nI n := by rfl) (hN : N < 2 ^ 31 := by omega) : vp_in x N := by
  subst hx
  exact vp_in_nI h hN
theorem pk_cl {x : Int32} (n : Nat) (hx : x = nI n := by rfl) (h : n < 2 ^ 31 := by omega) : x.toNatClampNeg = n := by
  subst hx
  exact nI_clamp h
theorem pk_least (P : Nat → Prop) (h : ∃ k, P k) : ∃ k, P k ∧ ∀ j, j < k → ¬ P j := by
  obtain ⟨k, hk⟩ := h
  induction k using Nat.strongRecOn with
  | ind k ih =>
    by_cases e : ∃ j, j < k ∧ P j
    · obtain ⟨j, hj, pj⟩ := e
      exact ih j hj pj
    · exact ⟨k, hk, fun j hj pj => e ⟨j, hj, pj⟩⟩
end
section
/-! counting: how many numbers below n have a property -/
noncomputable def bi_cnt (p : Nat → Prop) : Nat → Nat
  | 0 => 0
  | n + 1 => bi_cnt p n + @ite Nat (p n) (Classical.propDecidable _) 1 0
theorem bi_cnt_t {p : Nat → Prop} {n : Nat} (h : p n) : bi_cnt p (n + 1) = bi_cnt p n + 1 := by
  rw [bi_cnt, if_pos h]
theorem bi_cnt_f {p : Nat → Prop} {n : Nat} (h : ¬ p n) : bi_cnt p (n + 1) = bi_cnt p n := by
  rw [bi_cnt, if_neg h]
  rfl
theorem bi_cnt_0 (p : Nat → Prop) : bi_cnt p 0 = 0 := rfl
theorem bi_cnt_le (p : Nat → Prop) : ∀ n, bi_cnt p n ≤ n := by
  intro n
  induction n with
  | zero => exact Nat.le_refl 0
  | succ n ih =>
    by_cases h : p n
    · rw [bi_cnt_t h]; omega
    · rw [bi_cnt_f h]; omega
theorem bi_cnt_none {p : Nat → Prop} : ∀ n, (∀ i, i < n → ¬ p i) → bi_cnt p n = 0 := by
  intro n
  induction n with
  | zero => intro _; rfl
  | succ n ih =>
    intro h
    rw [bi_cnt_f (h n (by omega))]
    exact ih (fun i hi => h i (by omega))
theorem bi_cnt_congr {p q : Nat → Prop} : ∀ n, (∀ i, i < n → (p i ↔ q i)) → bi_cnt p n = bi_cnt q n := by
  intro n
  induction n with
  | zero => intro _; rfl
  | succ n ih =>
    intro h
    have e := ih (fun i hi => h i (by omega))
    by_cases hp : p n
    · rw [bi_cnt_t hp, bi_cnt_t ((h n (by omega)).mp hp), e]
    · rw [bi_cnt_f hp, bi_cnt_f (fun z => hp ((h n (by omega)).mpr z)), e]
theorem bi_cnt_mono {p : Nat → Prop} {a : Nat} : ∀ b, a ≤ b → bi_cnt p a ≤ bi_cnt p b := by
  intro b
  induction b with
  | zero => intro h; rw [Nat.le_zero.mp h]; exact Nat.le_refl _
  | succ b ih =>
    intro h
    by_cases e : a = b + 1
    · rw [e]; exact Nat.le_refl _
    · have h1 := ih (by omega)
      by_cases hp : p b
      · rw [bi_cnt_t hp]; omega
      · rw [bi_cnt_f hp]; exact h1
theorem bi_cnt_lt {p : Nat → Prop} {a b : Nat} (h : a < b) (hp : p a) : bi_cnt p a < bi_cnt p b := by
  have h1 : bi_cnt p (a + 1) ≤ bi_cnt p b := bi_cnt_mono b h
  rw [bi_cnt_t hp] at h1
  omega
theorem bi_cnt_at {p : Nat → Prop} {a b : Nat} (ha : p a) (hb : p b) (e : bi_cnt p a = bi_cnt p b) : a = b := by
  rcases Nat.lt_trichotomy a b with h | h | h
  · have := bi_cnt_lt h ha; omega
  · exact h
  · have := bi_cnt_lt h hb; omega
theorem bi_cnt_flat {p : Nat → Prop} {a : Nat} : ∀ b, a ≤ b → (∀ x, a ≤ x → x < b → ¬ p x) → bi_cnt p b = bi_cnt p a := by
  intro b
  induction b with
  | zero => intro h _; rw [Nat.le_zero.mp h]
  | succ b ih =>
    intro h hx
    by_cases e : a = b + 1
    · rw [e]
    · rw [bi_cnt_f (hx b (by omega) (by omega))]
      exact ih (by omega) (fun x h1 h2 => hx x h1 (by omega))
theorem bi_cnt_rm {q : Nat → Prop} {j : Nat} : ∀ m, j < m → q j → bi_cnt q m = bi_cnt (fun x => q x ∧ x ≠ j) m + 1 := by
  intro m
  induction m with
  | zero => intro h; omega
  | succ m ih =>
    intro h hq
    by_cases e : j = m
    · subst e
      rw [bi_cnt_t hq, bi_cnt_f (p := fun x => q x ∧ x ≠ j) (fun z => z.2 rfl)]
      rw [bi_cnt_congr j (p := q) (q := fun x => q x ∧ x ≠ j) (fun i hi => ⟨fun z => ⟨z, by omega⟩, fun z => z.1⟩)]
    · have e1 := ih (by omega) hq
      by_cases hm : q m
      · rw [bi_cnt_t hm, bi_cnt_t (p := fun x => q x ∧ x ≠ j) ⟨hm, fun z => e z.symm⟩, e1]
      · rw [bi_cnt_f hm, bi_cnt_f (p := fun x => q x ∧ x ≠ j) (fun z => hm z.1), e1]
theorem bi_cnt_inj {p : Nat → Prop} {m : Nat} {r : Nat → Nat → Prop} : ∀ (n : Nat) (q : Nat → Prop),
    (∀ i, i < n → p i → ∃ j, j < m ∧ q j ∧ r i j) →
    (∀ i i' j, i < n → i' < n → p i → p i' → r i j → r i' j → i = i') → bi_cnt p n ≤ bi_cnt q m := by
  intro n
  induction n with
  | zero => intro q _ _; exact Nat.zero_le _
  | succ n ih =>
    intro q h1 h2
    by_cases hp : p n
    · obtain ⟨j, hj, hq, hr⟩ := h1 n (by omega) hp
      rw [bi_cnt_t hp, bi_cnt_rm m hj hq]
      have h := ih (fun x => q x ∧ x ≠ j) (fun i hi hpi => by
        obtain ⟨j', hj', hq', hr'⟩ := h1 i (by omega) hpi
        refine ⟨j', hj', ⟨hq', fun e => ?_⟩, hr'⟩
        rw [e] at hr'
        have := h2 i n j (by omega) (by omega) hpi hp hr' hr
        omega) (fun i i' j a b c d e f => h2 i i' j (by omega) (by omega) c d e f)
      omega
    · rw [bi_cnt_f hp]
      exact ih q (fun i hi => h1 i (by omega)) (fun i i' j a b => h2 i i' j (by omega) (by omega))
theorem bi_cnt_bij {p q : Nat → Prop} {n m : Nat} (r : Nat → Nat → Prop)
    (h1 : ∀ i, i < n → p i → ∃ j, j < m ∧ q j ∧ r i j)
    (h2 : ∀ i i' j, i < n → i' < n → p i → p i' → r i j → r i' j → i = i')
    (h3 : ∀ j, j < m → q j → ∃ i, i < n ∧ p i ∧ r i j)
    (h4 : ∀ j j' i, r i j → r i j' → j = j') : bi_cnt p n = bi_cnt q m := by
  apply Nat.le_antisymm
  · exact bi_cnt_inj n q h1 h2
  · exact bi_cnt_inj (r := fun j i => r i j) m p h3 (fun j j' i _ _ _ _ a b => h4 j j' i a b)
theorem bi_cnt_or {q p r : Nat → Prop} : ∀ n, (∀ i, i < n → q i → p i ∨ r i) → bi_cnt q n ≤ bi_cnt p n + bi_cnt r n := by
  intro n
  induction n with
  | zero => intro _; exact Nat.zero_le _
  | succ n ih =>
    intro h
    have h1 := ih (fun i hi => h i (by omega))
    have m1 : bi_cnt p n ≤ bi_cnt p (n + 1) := bi_cnt_mono _ (by omega)
    have m2 : bi_cnt r n ≤ bi_cnt r (n + 1) := bi_cnt_mono _ (by omega)
    by_cases hq : q n
    · rw [bi_cnt_t hq]
      rcases h n (by omega) hq with a | a
      · have := bi_cnt_t a; omega
      · have := bi_cnt_t a; omega
    · rw [bi_cnt_f hq]; omega
theorem bi_cnt_one {q : Nat → Prop} : ∀ n, (∀ i j, i < n → j < n → q i → q j → i = j) → bi_cnt q n ≤ 1 := by
  intro n
  induction n with
  | zero => intro _; exact Nat.zero_le _
  | succ n ih =>
    intro h
    by_cases hq : q n
    · rw [bi_cnt_t hq, bi_cnt_none n (fun i hi z => by have := h i n (by omega) (by omega) z hq; omega)]
      exact Nat.le_refl 1
    · rw [bi_cnt_f hq]
      exact ih (fun i j a b => h i j (by omega) (by omega))
theorem bi_cnt_dis {q p r : Nat → Prop} : ∀ n, (∀ i, i < n → (q i ↔ p i ∨ r i)) → (∀ i, i < n → p i → r i → False) → bi_cnt q n = bi_cnt p n + bi_cnt r n := by
  intro n
  induction n with
  | zero => intro _ _; rfl
  | succ n ih =>
    intro h d
    have e := ih (fun i hi => h i (by omega)) (fun i hi => d i (by omega))
    have hn := h n (by omega)
    by_cases hp : p n
    · have hr : ¬ r n := d n (by omega) hp
      rw [bi_cnt_t (hn.mpr (Or.inl hp)), bi_cnt_t hp, bi_cnt_f hr]; omega
    · by_cases hr : r n
      · rw [bi_cnt_t (hn.mpr (Or.inr hr)), bi_cnt_f hp, bi_cnt_t hr]; omega
      · rw [bi_cnt_f (fun z => (hn.mp z).elim hp hr), bi_cnt_f hp, bi_cnt_f hr]; omega
theorem bi_cnt_iv {a b : Nat} (hab : a ≤ b) : ∀ n, b ≤ n → bi_cnt (fun c => a ≤ c ∧ c < b) n = b - a := by
  have key : ∀ n, bi_cnt (fun c => a ≤ c ∧ c < b) n = (if n ≤ a then 0 else if n ≤ b then n - a else b - a) := by
    intro n
    induction n with
    | zero => rw [if_pos (by omega)]; rfl
    | succ n ih =>
      by_cases h : a ≤ n ∧ n < b
      · rw [bi_cnt_t (p := fun c => a ≤ c ∧ c < b) h, ih, if_neg (show ¬ n + 1 ≤ a by omega), if_pos (show n + 1 ≤ b by omega)]
        by_cases h2 : n ≤ a
        · rw [if_pos h2]; omega
        · rw [if_neg h2, if_pos (show n ≤ b by omega)]; omega
      · rw [bi_cnt_f (p := fun c => a ≤ c ∧ c < b) h, ih]
        by_cases h2 : n ≤ a
        · rw [if_pos h2]
          by_cases h3 : n + 1 ≤ a
          · rw [if_pos h3]
          · rw [if_neg h3]
            by_cases h4 : n + 1 ≤ b
            · exact absurd ⟨by omega, by omega⟩ h
            · rw [if_neg h4]; omega
        · rw [if_neg h2, if_neg (show ¬ n + 1 ≤ a by omega), if_neg (show ¬ n + 1 ≤ b by omega)]
          by_cases h3 : n ≤ b
          · rw [if_pos h3]; omega
          · rw [if_neg h3]
  intro n hn
  rw [key n]
  by_cases h : n ≤ a
  · rw [if_pos h]; omega
  · rw [if_neg h]
    by_cases h2 : n ≤ b
    · rw [if_pos h2]; omega
    · rw [if_neg h2]
theorem bi_cnt_3 {q r : Nat → Prop} {a b n : Nat} (h : ∀ i, i < n → q i → i = a ∨ i = b ∨ r i)
    (hr : ∀ i j, i < n → j < n → r i → r j → i = j) : bi_cnt q n ≤ 3 := by
  have h1 : bi_cnt q n ≤ bi_cnt (fun i => i = a) n + bi_cnt (fun i => i = b ∨ r i) n := bi_cnt_or n h
  have h2 : bi_cnt (fun i => i = b ∨ r i) n ≤ bi_cnt (fun i => i = b) n + bi_cnt r n := bi_cnt_or n (fun i _ z => z)
  have h3 : bi_cnt (fun i => i = a) n ≤ 1 := bi_cnt_one n (fun i j _ _ x y => x.trans y.symm)
  have h4 : bi_cnt (fun i => i = b) n ≤ 1 := bi_cnt_one n (fun i j _ _ x y => x.trans y.symm)
  have h5 : bi_cnt r n ≤ 1 := bi_cnt_one n hr
  omega
/-! sums -/
noncomputable def bi_sum (f : Nat → Nat) : Nat → Nat
  | 0 => 0
  | n + 1 => bi_sum f n + f n
end
section
/-! periods of a line -/
def bi_bg (L : Nat → Nat) (d : Nat) : Prop := 0 < L d ∧ (d = 0 ∨ L (d - 1) ≠ L d)
def bi_run (L : Nat → Nat) (d e : Nat) : Prop := d ≤ e ∧ e ≤ 16 ∧ (∀ x, d ≤ x → x < e → L x = L d) ∧ (e = 16 ∨ L e ≠ L d)
def bi_Per (L : Nat → Nat) (a b : Nat) : Prop := a < b ∧ bi_bg L a ∧ bi_run L a b
theorem bi_run_ex (L : Nat → Nat) (d : Nat) : ∀ m, d + m = 16 → ∃ e, bi_run L d e := by
  have key : ∀ m e, e + m = 16 → d ≤ e → (∀ x, d ≤ x → x < e → L x = L d) → ∃ e, bi_run L d e := by
    intro m
    induction m with
    | zero => intro e h1 h2 h3; exact ⟨e, h2, by omega, h3, Or.inl (by omega)⟩
    | succ m ih =>
      intro e h1 h2 h3
      by_cases h : L e = L d
      · refine ih (e + 1) (by omega) (by omega) (fun x a b => ?_)
        by_cases hx : x = e
        · rw [hx]; exact h
        · exact h3 x a (by omega)
      · exact ⟨e, h2, by omega, h3, Or.inr h⟩
  intro m h
  exact key m d h (Nat.le_refl d) (fun x a b => by omega)
theorem bi_run_un {L : Nat → Nat} {d e e' : Nat} (h : bi_run L d e) (h' : bi_run L d e') : e = e' := by
  obtain ⟨a1, a2, a3, a4⟩ := h
  obtain ⟨b1, b2, b3, b4⟩ := h'
  rcases Nat.lt_trichotomy e e' with c | c | c
  · rcases a4 with z | z
    · omega
    · exact absurd (b3 e a1 c) z
  · exact c
  · rcases b4 with z | z
    · omega
    · exact absurd (a3 e' b1 c) z
theorem bi_run_lt {L : Nat → Nat} {d e : Nat} (hd : d < 16) (h : bi_run L d e) : d < e := by
  obtain ⟨a1, a2, a3, a4⟩ := h
  rcases a4 with z | z
  · omega
  · by_cases c : d = e
    · rw [c] at z; exact absurd rfl z
    · omega
theorem bi_Per_mk {L : Nat → Nat} {d e : Nat} (hd : d < 16) (h1 : bi_bg L d) (h2 : bi_run L d e) : bi_Per L d e := ⟨bi_run_lt hd h2, h1, h2⟩
theorem bi_Per_ex {L : Nat → Nat} {d : Nat} (hd : d < 16) (h1 : bi_bg L d) : ∃ e, bi_Per L d e := by
  obtain ⟨e, he⟩ := bi_run_ex L d (16 - d) (by omega)
  exact ⟨e, bi_Per_mk hd h1 he⟩
theorem bi_Per_un {L : Nat → Nat} {a b a' b' x : Nat} (h : bi_Per L a b) (h' : bi_Per L a' b') (h1 : a ≤ x) (h2 : x < b) (h3 : a' ≤ x) (h4 : x < b') : a = a' ∧ b = b' := by
  have key : ∀ {a b a' b' : Nat}, bi_Per L a b → bi_Per L a' b' → a ≤ x → x < b → a' ≤ x → x < b' → ¬ a < a' := by
    intro a b a' b' h h' h1 h2 h3 h4 c
    obtain ⟨_, _, r1, r2, r3, r4⟩ := h
    obtain ⟨_, ⟨g1, g2⟩, s1, s2, s3, s4⟩ := h'
    rcases g2 with z | z
    · omega
    · exact z ((r3 (a' - 1) (by omega) (by omega)).trans (r3 a' (by omega) (by omega)).symm)
  have e : a = a' := by
    have k1 := key h h' h1 h2 h3 h4
    have k2 := key h' h h3 h4 h1 h2
    omega
  subst e
  exact ⟨rfl, bi_run_un h.2.2 h'.2.2⟩
theorem bi_Per_at {L : Nat → Nat} : ∀ d, d < 16 → 0 < L d → ∃ a b, bi_Per L a b ∧ a ≤ d ∧ d < b := by
  intro d
  induction d with
  | zero =>
    intro hd h
    obtain ⟨e, he⟩ := bi_Per_ex (L := L) hd ⟨h, Or.inl rfl⟩
    exact ⟨0, e, he, Nat.le_refl 0, he.1⟩
  | succ d ih =>
    intro hd h
    by_cases c : L d = L (d + 1)
    · obtain ⟨a, b, hp, h1, h2⟩ := ih (by omega) (by rw [c]; exact h)
      refine ⟨a, b, hp, by omega, ?_⟩
      obtain ⟨_, _, r1, r2, r3, r4⟩ := hp
      by_cases e : b = d + 1
      · rcases r4 with z | z
        · omega
        · rw [e, ← c] at z
          exact absurd (r3 d h1 h2) z
      · omega
    · obtain ⟨e, he⟩ := bi_Per_ex (L := L) hd ⟨h, Or.inr c⟩
      exact ⟨d + 1, e, he, Nat.le_refl _, he.1⟩
theorem bi_bg_congr {L L' : Nat → Nat} {a : Nat} (h : ∀ x, x < 16 → L x = L' x) (ha : a < 16) (hp : bi_bg L a) : bi_bg L' a := by
  obtain ⟨g1, g2⟩ := hp
  refine ⟨by rw [← h a ha]; exact g1, ?_⟩
  rcases g2 with z | z
  · exact Or.inl z
  · by_cases c : a = 0
    · exact Or.inl c
    · right
      rw [← h a ha, ← h (a - 1) (by omega)]
      exact z
theorem bi_run_congr {L L' : Nat → Nat} {a b : Nat} (h : ∀ x, x < 16 → L x = L' x) (ha : a < 16) (hp : bi_run L a b) : bi_run L' a b := by
  obtain ⟨r1, r2, r3, r4⟩ := hp
  refine ⟨r1, r2, fun x h1 h2 => ?_, ?_⟩
  · rw [← h x (by omega), ← h a ha]; exact r3 x h1 h2
  · by_cases c : b = 16
    · exact Or.inl c
    · rcases r4 with z | z
      · exact Or.inl z
      · right; rw [← h b (by omega), ← h a ha]; exact z
theorem bi_Per_lt {L : Nat → Nat} {a b : Nat} (h : bi_Per L a b) : a < 16 := by
  have h1 := h.1
  have h2 := h.2.2.2.1
  omega
theorem bi_Per_congr {L L' : Nat → Nat} {a b : Nat} (h : ∀ x, x < 16 → L x = L' x) (hp : bi_Per L a b) : bi_Per L' a b :=
  ⟨hp.1, bi_bg_congr h (bi_Per_lt hp) hp.2.1, bi_run_congr h (bi_Per_lt hp) hp.2.2⟩
/-! rows: key, days from, to, value, ticks since, until -/
abbrev bi_Rw : Type := Nat × Nat × Nat × Nat × Nat × Nat
def bi_K (r : bi_Rw) : Nat := r.1
def bi_F (r : bi_Rw) : Nat := r.2.1
def bi_T (r : bi_Rw) : Nat := r.2.2.1
def bi_V (r : bi_Rw) : Nat := r.2.2.2.1
def bi_S (r : bi_Rw) : Nat := r.2.2.2.2.1
def bi_U (r : bi_Rw) : Nat := r.2.2.2.2.2
def bi_up (ρ : Nat → bi_Rw) (i : Nat) (r : bi_Rw) : Nat → bi_Rw := fun j => if j = i then r else ρ j
theorem bi_up_s {ρ : Nat → bi_Rw} {i : Nat} {r : bi_Rw} : bi_up ρ i r i = r := if_pos rfl
theorem bi_up_n {ρ : Nat → bi_Rw} {i j : Nat} {r : bi_Rw} (h : j ≠ i) : bi_up ρ i r j = ρ j := if_neg h
/-- the row with another end -/
def bi_wU (r : bi_Rw) (u : Nat) : bi_Rw := (bi_K r, bi_F r, bi_T r, bi_V r, bi_S r, u)
def bi_Cov (r : bi_Rw) (k t : Nat) : Prop := bi_K r = k ∧ bi_S r ≤ t ∧ t < bi_U r
def bi_Wf (P : Nat) (r : bi_Rw) : Prop := bi_K r < 4 ∧ bi_F r < bi_T r ∧ bi_T r ≤ 16 ∧ bi_V r ≤ 9 ∧ bi_S r ≤ P ∧ bi_S r < bi_U r ∧ (bi_U r ≤ P ∨ bi_U r = 100)
def bi_PR (L : Nat → Nat) (r : bi_Rw) : Prop := bi_Per L (bi_F r) (bi_T r) ∧ L (bi_F r) = bi_V r + 1
def bi_same (r s : bi_Rw) : Prop := bi_K r = bi_K s ∧ bi_F r = bi_F s ∧ bi_T r = bi_T s ∧ bi_V r = bi_V s
def bi_gl (G : Nat → Nat) (t k : Nat) : Nat → Nat := fun d => G (64 * t + 16 * k + d)
theorem bi_PR_congr {L L' : Nat → Nat} {r : bi_Rw} (h : ∀ x, x < 16 → L x = L' x) (hp : bi_PR L r) : bi_PR L' r :=
  ⟨bi_Per_congr h hp.1, by rw [← h _ (bi_Per_lt hp.1)]; exact hp.2⟩
theorem bi_PR_un {L : Nat → Nat} {r : bi_Rw} {d e : Nat} (h : bi_PR L r) (hp : bi_Per L d e) (hf : bi_F r = d) : bi_T r = e ∧ L d = bi_V r + 1 := by
  obtain ⟨h1, h2⟩ := h
  rw [hf] at h1 h2
  exact ⟨bi_run_un h1.2.2 hp.2.2, h2⟩
/-- every row that covers a tick is a period of that tick's line -/
def bi_IA (P R : Nat) (ρ : Nat → bi_Rw) (G : Nat → Nat) : Prop := ∀ i t k, i < R → t ≤ P → bi_Cov (ρ i) k t → bi_PR (bi_gl G t k) (ρ i)
def bi_IB (P R : Nat) (ρ : Nat → bi_Rw) (G : Nat → Nat) : Prop := ∀ t k d, t ≤ P → k < 4 → d < 16 → 0 < bi_gl G t k d → ∃ i, i < R ∧ bi_Cov (ρ i) k t ∧ bi_F (ρ i) ≤ d ∧ d < bi_T (ρ i)
def bi_IC (P R : Nat) (ρ : Nat → bi_Rw) : Prop := ∀ i j t k, i < R → j < R → t ≤ P → bi_Cov (ρ i) k t → bi_Cov (ρ j) k t → bi_F (ρ i) = bi_F (ρ j) → i = j
def bi_ID (R : Nat) (ρ : Nat → bi_Rw) : Prop := ∀ i j, i < R → j < R → bi_same (ρ i) (ρ j) → bi_U (ρ i) ≠ bi_S (ρ j)
def bi_IW (P R : Nat) (ρ : Nat → bi_Rw) : Prop := ∀ i, i < R → bi_Wf P (ρ i)
def bi_Inv (P R : Nat) (ρ : Nat → bi_Rw) (G : Nat → Nat) : Prop := bi_IW P R ρ ∧ bi_IA P R ρ G ∧ bi_IB P R ρ G ∧ bi_IC P R ρ ∧ bi_ID R ρ
/-- a period has its row -/
theorem bi_inv_row {P R : Nat} {ρ : Nat → bi_Rw} {G : Nat → Nat} (I : bi_Inv P R ρ G) {t k a b : Nat} (ht : t ≤ P) (hk : k < 4) (h : bi_Per (bi_gl G t k) a b) :
    ∃ i, i < R ∧ bi_Cov (ρ i) k t ∧ bi_F (ρ i) = a ∧ bi_T (ρ i) = b ∧ bi_gl G t k a = bi_V (ρ i) + 1 := by
  obtain ⟨_, IA, IB, _, _⟩ := I
  obtain ⟨i, hi, hc, h1, h2⟩ := IB t k a ht hk (bi_Per_lt h) h.2.1.1
  have hp := IA i t k hi ht hc
  have e := bi_Per_un hp.1 h h1 h2 (Nat.le_refl a) h.1
  refine ⟨i, hi, hc, e.1, e.2, ?_⟩
  rw [← e.1]
  exact hp.2
/-- rows begin where periods begin: the count of the covering rows that begin before m -/
theorem bi_inv_cnt {P R : Nat} {ρ : Nat → bi_Rw} {G : Nat → Nat} (I : bi_Inv P R ρ G) {t k : Nat} (ht : t ≤ P) (hk : k < 4) {m : Nat} (hm : m ≤ 16) :
    bi_cnt (fun i => bi_Cov (ρ i) k t ∧ bi_F (ρ i) < m) R = bi_cnt (bi_bg (bi_gl G t k)) m := by
  refine bi_cnt_bij (fun i d => bi_F (ρ i) = d) ?_ ?_ ?_ ?_
  · intro i hi hp
    have h := I.2.1 i t k hi ht hp.1
    exact ⟨bi_F (ρ i), hp.2, h.1.2.1, rfl⟩
  · intro i i' j hi hi' hp hp' e e'
    exact I.2.2.2.1 i i' t k hi hi' ht hp.1 hp'.1 (e.trans e'.symm)
  · intro d hd hb
    obtain ⟨e, he⟩ := bi_Per_ex (show d < 16 by omega) hb
    obtain ⟨i, hi, hc, h1, _⟩ := bi_inv_row I ht hk he
    exact ⟨i, hi, ⟨hc, by rw [h1]; exact hd⟩, h1⟩
  · intro j j' i e e'
    exact e.symm.trans e'
theorem bi_inv_cnt16 {P R : Nat} {ρ : Nat → bi_Rw} {G : Nat → Nat} (I : bi_Inv P R ρ G) {t k : Nat} (ht : t ≤ P) (hk : k < 4) :
    bi_cnt (fun i => bi_Cov (ρ i) k t) R = bi_cnt (bi_bg (bi_gl G t k)) 16 := by
  rw [← bi_inv_cnt I ht hk (Nat.le_refl 16)]
  refine bi_cnt_congr R (fun i hi => ⟨fun z => ⟨z, ?_⟩, fun z => z.1⟩)
  have := I.1 i hi
  exact Nat.lt_of_lt_of_le this.2.1 this.2.2.1
/-- the period that begins at a day was there one tick before -/
def bi_lst (G : Nat → Nat) (k t d : Nat) : Prop := 0 < t ∧ bi_bg (bi_gl G (t - 1) k) d ∧ bi_gl G (t - 1) k d = bi_gl G t k d ∧ ∃ e, bi_run (bi_gl G (t - 1) k) d e ∧ bi_run (bi_gl G t k) d e
theorem bi_inv_rect {P R : Nat} {ρ : Nat → bi_Rw} {G : Nat → Nat} (I : bi_Inv P R ρ G) {k : Nat} (hk : k < 4) :
    bi_cnt (fun i => bi_K (ρ i) = k) R = bi_cnt (fun c => bi_bg (bi_gl G (c / 16) k) (c % 16) ∧ ¬ bi_lst G k (c / 16) (c % 16)) (16 * (P + 1)) := by
  refine bi_cnt_bij (fun i c => c = 16 * bi_S (ρ i) + bi_F (ρ i)) ?_ ?_ ?_ ?_
  · intro i hi hK
    obtain ⟨w1, w2, w3, w4, w5, w6, w7⟩ := I.1 i hi
    have hc : bi_Cov (ρ i) k (bi_S (ρ i)) := ⟨hK, Nat.le_refl _, w6⟩
    have hp := I.2.1 i _ k hi w5 hc
    have e1 : (16 * bi_S (ρ i) + bi_F (ρ i)) / 16 = bi_S (ρ i) := by omega
    have e2 : (16 * bi_S (ρ i) + bi_F (ρ i)) % 16 = bi_F (ρ i) := by omega
    refine ⟨16 * bi_S (ρ i) + bi_F (ρ i), by omega, ?_, rfl⟩
    show bi_bg (bi_gl G ((16 * bi_S (ρ i) + bi_F (ρ i)) / 16) k) ((16 * bi_S (ρ i) + bi_F (ρ i)) % 16) ∧ ¬ bi_lst G k ((16 * bi_S (ρ i) + bi_F (ρ i)) / 16) ((16 * bi_S (ρ i) + bi_F (ρ i)) % 16)
    rw [e1, e2]
    refine ⟨hp.1.2.1, fun hl => ?_⟩
    obtain ⟨l1, l2, l3, e, l4, l5⟩ := hl
    have he : bi_T (ρ i) = e := bi_run_un hp.1.2.2 l5
    obtain ⟨j, hj, jc, jF, jT, jV⟩ := bi_inv_row I (show bi_S (ρ i) - 1 ≤ P by omega) hk (bi_Per_mk (bi_Per_lt hp.1) l2 l4)
    have hv : bi_V (ρ j) = bi_V (ρ i) := by
      have := hp.2
      omega
    by_cases c : bi_S (ρ i) < bi_U (ρ j)
    · have := I.2.2.2.1 i j (bi_S (ρ i)) k hi hj w5 hc ⟨jc.1, by have := jc.2.1; omega, c⟩ jF.symm
      rw [← this] at jc
      have := jc.2.1
      omega
    · have := I.2.2.2.2 j i hj hi ⟨jc.1.trans hK.symm, jF, jT.trans he.symm, hv⟩
      have := jc.2.2
      omega
  · intro i i' c hi hi' hK hK' e e'
    obtain ⟨w1, w2, w3, w4, w5, w6, w7⟩ := I.1 i hi
    obtain ⟨v1, v2, v3, v4, v5, v6, v7⟩ := I.1 i' hi'
    have hS : bi_S (ρ i) = bi_S (ρ i') := by omega
    have hF : bi_F (ρ i) = bi_F (ρ i') := by omega
    exact I.2.2.2.1 i i' (bi_S (ρ i)) k hi hi' w5 ⟨hK, Nat.le_refl _, w6⟩ ⟨hK', by omega, by omega⟩ hF
  · intro c hc hq
    obtain ⟨hb, hl⟩ := hq
    obtain ⟨e, he⟩ := bi_Per_ex (show c % 16 < 16 by omega) hb
    obtain ⟨i, hi, ic, iF, iT, iV⟩ := bi_inv_row I (show c / 16 ≤ P by omega) hk he
    refine ⟨i, hi, ic.1, ?_⟩
    show c = 16 * bi_S (ρ i) + bi_F (ρ i)
    by_cases z : bi_S (ρ i) = c / 16
    · omega
    · exfalso
      apply hl
      have h1 := ic.2.1
      have h2 := ic.2.2
      have hp := I.2.1 i (c / 16 - 1) k hi (by omega) ⟨ic.1, by omega, by omega⟩
      have hp1 := hp.1
      have hp2 := hp.2
      rw [iF] at hp1 hp2
      rw [iT] at hp1
      exact ⟨by omega, hp1.2.1, by rw [hp2, iV], e, hp1.2.2, he.2.2⟩
  · intro j j' i e e'
    exact e.trans e'.symm
/-- the sum of the lengths of the rows of a value at a tick -/
def bi_q (t v : Nat) (r : bi_Rw) : Prop := bi_S r ≤ t ∧ t < bi_U r ∧ bi_V r = v
noncomputable def bi_len (t v : Nat) (r : bi_Rw) : Nat := @ite Nat (bi_q t v r) (Classical.propDecidable _) (bi_T r - bi_F r) 0
theorem bi_inv_sum {P R : Nat} {ρ : Nat → bi_Rw} {G : Nat → Nat} (I : bi_Inv P R ρ G) {t v : Nat} (ht : t ≤ P) :
    bi_sum (fun i => bi_len t v (ρ i)) R = bi_cnt (fun c => G (64 * t + c) = v + 1) 64 := by
  have key : ∀ n, n ≤ R → bi_sum (fun i => bi_len t v (ρ i)) n = bi_cnt (fun c => ∃ i, i < n ∧ bi_q t v (ρ i) ∧ 16 * bi_K (ρ i) + bi_F (ρ i) ≤ c ∧ c < 16 * bi_K (ρ i) + bi_T (ρ i)) 64 := by
    intro n
    induction n with
    | zero =>
      intro _
      rw [bi_cnt_none 64 (fun c _ z => by obtain ⟨i, hi, _⟩ := z; omega)]
      rfl
    | succ n ih =>
      intro hn
      have e := ih (by omega)
      rw [bi_sum, e]
      obtain ⟨w1, w2, w3, w4, w5, w6, w7⟩ := I.1 n (by omega)
      by_cases hq : bi_q t v (ρ n)
      · rw [bi_cnt_dis 64 (q := fun c => ∃ i, i < n + 1 ∧ bi_q t v (ρ i) ∧ 16 * bi_K (ρ i) + bi_F (ρ i) ≤ c ∧ c < 16 * bi_K (ρ i) + bi_T (ρ i))
          (p := fun c => ∃ i, i < n ∧ bi_q t v (ρ i) ∧ 16 * bi_K (ρ i) + bi_F (ρ i) ≤ c ∧ c < 16 * bi_K (ρ i) + bi_T (ρ i))
          (r := fun c => 16 * bi_K (ρ n) + bi_F (ρ n) ≤ c ∧ c < 16 * bi_K (ρ n) + bi_T (ρ n)) ?_ ?_]
        · rw [bi_cnt_iv (by omega) 64 (by omega), bi_len, if_pos hq]
          omega
        · intro c _
          constructor
          · intro z
            obtain ⟨i, h1, h2, h3⟩ := z
            by_cases z : i = n
            · right; rw [z] at h3; exact h3
            · exact Or.inl ⟨i, by omega, h2, h3⟩
          · intro z
            rcases z with z | z
            · obtain ⟨i, h1, h2, h3⟩ := z
              exact ⟨i, by omega, h2, h3⟩
            · exact ⟨n, by omega, hq, z⟩
        · intro c hc z1 z2
          obtain ⟨i, h1, h2, h3, h4⟩ := z1
          obtain ⟨h5, h6⟩ := z2
          obtain ⟨v1, v2, v3, v4, v5, v6, v7⟩ := I.1 i (by omega)
          have eK : bi_K (ρ i) = bi_K (ρ n) := by omega
          have c1 : bi_Cov (ρ i) (bi_K (ρ n)) t := ⟨eK, h2.1, h2.2.1⟩
          have c2 : bi_Cov (ρ n) (bi_K (ρ n)) t := ⟨rfl, hq.1, hq.2.1⟩
          have p1 := I.2.1 i t _ (by omega) ht c1
          have p2 := I.2.1 n t _ (by omega) ht c2
          have e1 := bi_Per_un (x := c - 16 * bi_K (ρ n)) p1.1 p2.1 (by omega) (by omega) (by omega) (by omega)
          have := I.2.2.2.1 i n t _ (by omega) (by omega) ht c1 c2 e1.1
          omega
      · rw [bi_len, if_neg hq]
        refine Eq.trans (Nat.add_zero _) (bi_cnt_congr 64 (fun c _ => ⟨fun z => ?_, fun z => ?_⟩))
        · obtain ⟨i, h1, h2, h3⟩ := z
          exact ⟨i, by omega, h2, h3⟩
        · obtain ⟨i, h1, h2, h3⟩ := z
          by_cases z : i = n
          · rw [z] at h2; exact absurd h2 hq
          · exact ⟨i, by omega, h2, h3⟩
  rw [key R (Nat.le_refl R)]
  refine bi_cnt_congr 64 (fun c hc => ⟨fun z => ?_, fun z => ?_⟩)
  · obtain ⟨i, h1, h2, h3, h4⟩ := z
    obtain ⟨v1, v2, v3, v4, v5, v6, v7⟩ := I.1 i h1
    have p1 := I.2.1 i t _ h1 ht ⟨rfl, h2.1, h2.2.1⟩
    obtain ⟨⟨_, _, _, _, r3, _⟩, p2⟩ := p1
    have e := r3 (c - 16 * bi_K (ρ i)) (by omega) (by omega)
    rw [p2, h2.2.2] at e
    have e2 : 64 * t + c = 64 * t + 16 * bi_K (ρ i) + (c - 16 * bi_K (ρ i)) := by omega
    rw [e2]
    exact e
  · have e2 : 64 * t + c = 64 * t + 16 * (c / 16) + c % 16 := by omega
    have hz : bi_gl G t (c / 16) (c % 16) = v + 1 := by
      show G (64 * t + 16 * (c / 16) + c % 16) = v + 1
      rw [← e2]; exact z
    obtain ⟨i, hi, ic, h1, h2⟩ := I.2.2.1 t (c / 16) (c % 16) ht (by omega) (by omega) (by rw [hz]; omega)
    obtain ⟨⟨_, _, _, _, r3, _⟩, p2⟩ := I.2.1 i t _ hi ht ic
    have e := r3 (c % 16) h1 h2
    rw [p2, hz] at e
    refine ⟨i, hi, ⟨ic.2.1, ic.2.2, by omega⟩, ?_, ?_⟩
    · rw [ic.1]; omega
    · rw [ic.1]; omega
end
section
/-! while a change of key k at the present tick P runs: all but the line (P, k) -/
def bi_MA (P k R : Nat) (ρ : Nat → bi_Rw) (G : Nat → Nat) : Prop := ∀ i t k', i < R → t ≤ P → (t < P ∨ k' ≠ k) → bi_Cov (ρ i) k' t → bi_PR (bi_gl G t k') (ρ i)
def bi_MB (P k R : Nat) (ρ : Nat → bi_Rw) (G : Nat → Nat) : Prop := ∀ t k' d, t ≤ P → (t < P ∨ k' ≠ k) → k' < 4 → d < 16 → 0 < bi_gl G t k' d → ∃ i, i < R ∧ bi_Cov (ρ i) k' t ∧ bi_F (ρ i) ≤ d ∧ d < bi_T (ρ i)
def bi_Mid (P k R : Nat) (ρ : Nat → bi_Rw) (G : Nat → Nat) : Prop := bi_IW P R ρ ∧ bi_MA P k R ρ G ∧ bi_MB P k R ρ G ∧ bi_IC P R ρ ∧ bi_ID R ρ
theorem bi_mid_of {P k R : Nat} {ρ : Nat → bi_Rw} {G : Nat → Nat} (I : bi_Inv P R ρ G) : bi_Mid P k R ρ G :=
  ⟨I.1, fun i t k' h1 h2 _ h3 => I.2.1 i t k' h1 h2 h3, fun t k' d h1 _ h2 h3 h4 => I.2.2.1 t k' d h1 h2 h3 h4, I.2.2.2.1, I.2.2.2.2⟩
/-- an open row is closed, or one closed at this tick is opened again -/
theorem bi_mid_U {P k R : Nat} {ρ : Nat → bi_Rw} {G : Nat → Nat} (M : bi_Mid P k R ρ G) {i u : Nat} (hP : P ≤ 60) (hi : i < R) (hK : bi_K (ρ i) = k)
    (hU : bi_U (ρ i) = P ∨ bi_U (ρ i) = 100) (hS : bi_S (ρ i) < P) (hu : u = P ∨ u = 100)
    (hC : u = 100 → ∀ j, j < R → j ≠ i → bi_K (ρ j) = k → bi_U (ρ j) = 100 → bi_F (ρ j) = bi_F (ρ i) → False)
    (hD : u = P → ∀ j, j < R → j ≠ i → bi_same (ρ i) (ρ j) → bi_S (ρ j) = P → False) : bi_Mid P k R (bi_up ρ i (bi_wU (ρ i) u)) G := by
  obtain ⟨MW, MA, MB, MC, MD⟩ := M
  have wi := MW i hi
  have cv : ∀ k' t, t < P → (bi_Cov (bi_wU (ρ i) u) k' t ↔ bi_Cov (ρ i) k' t) := by
    intro k' t ht
    constructor
    · intro z; exact ⟨z.1, z.2.1, by omega⟩
    · intro z
      refine ⟨z.1, z.2.1, ?_⟩
      show t < u
      omega
  have cw : ∀ k' t, t ≤ P → bi_Cov (bi_wU (ρ i) u) k' t → k' = k ∧ (t < P ∨ u = 100) := by
    intro k' t ht z
    refine ⟨z.1.symm.trans hK, ?_⟩
    have z3 : t < u := z.2.2
    omega
  refine ⟨?_, ?_, ?_, ?_, ?_⟩
  · intro j hj
    by_cases e : j = i
    · subst e
      rw [bi_up_s]
      obtain ⟨w1, w2, w3, w4, w5, w6, w7⟩ := wi
      refine ⟨w1, w2, w3, w4, w5, ?_, ?_⟩
      · show bi_S (ρ j) < u
        omega
      · show u ≤ P ∨ u = 100
        omega
    · rw [bi_up_n e]
      exact MW j hj
  · intro j t k' hj ht hk hc
    by_cases e : j = i
    · subst e
      rw [bi_up_s] at hc ⊢
      obtain ⟨e1, e2⟩ := cw k' t ht hc
      have htP : t < P := by
        rcases hk with z | z
        · exact z
        · exact absurd e1 z
      exact MA j t k' hj ht hk ((cv k' t htP).mp hc)
    · rw [bi_up_n e] at hc ⊢
      exact MA j t k' hj ht hk hc
  · intro t k' d ht hk h4 hd hg
    obtain ⟨j, hj, hc, h1, h2⟩ := MB t k' d ht hk h4 hd hg
    refine ⟨j, hj, ?_⟩
    by_cases e : j = i
    · subst e
      rw [bi_up_s]
      have htP : t < P := by
        rcases hk with z | z
        · exact z
        · exact absurd (hc.1.symm.trans hK) z
      exact ⟨(cv k' t htP).mpr hc, h1, h2⟩
    · rw [bi_up_n e]
      exact ⟨hc, h1, h2⟩
  · intro a b t k' ha hb ht ca cb hF
    by_cases ea : a = i
    · by_cases eb : b = i
      · rw [ea, eb]
      · subst ea
        rw [bi_up_s] at ca hF
        rw [bi_up_n eb] at cb hF
        obtain ⟨e1, e2⟩ := cw k' t ht ca
        by_cases htP : t < P
        · exact MC a b t k' ha hb ht ((cv k' t htP).mp ca) cb hF
        · have wb := MW b hb
          have h3 := cb.2.2
          exact (hC (by omega) b hb eb (cb.1.trans e1) (by have := wb.2.2.2.2.2.2; omega) hF.symm).elim
    · by_cases eb : b = i
      · subst eb
        rw [bi_up_s] at cb hF
        rw [bi_up_n ea] at ca hF
        obtain ⟨e1, e2⟩ := cw k' t ht cb
        by_cases htP : t < P
        · exact MC a b t k' ha hb ht ca ((cv k' t htP).mp cb) hF
        · have wa := MW a ha
          have h3 := ca.2.2
          exact (hC (by omega) a ha ea (ca.1.trans e1) (by have := wa.2.2.2.2.2.2; omega) hF).elim
      · rw [bi_up_n ea] at ca hF
        rw [bi_up_n eb] at cb hF
        exact MC a b t k' ha hb ht ca cb hF
  · intro a b ha hb hs
    by_cases ea : a = i
    · by_cases eb : b = i
      · subst ea; subst eb
        rw [bi_up_s]
        show u ≠ bi_S (ρ b)
        omega
      · subst ea
        rw [bi_up_s, bi_up_n eb] at hs ⊢
        show u ≠ bi_S (ρ b)
        intro z
        have wb := (MW b hb).2.2.2.2.1
        exact hD (by omega) b hb eb hs (by omega)
    · by_cases eb : b = i
      · subst eb
        rw [bi_up_s, bi_up_n ea] at hs ⊢
        exact MD a b ha hb hs
      · rw [bi_up_n ea, bi_up_n eb] at hs ⊢
        exact MD a b ha hb hs
/-- a row of this tick is dropped: the last one takes its place -/
theorem bi_mid_drop {P k R : Nat} {ρ : Nat → bi_Rw} {G : Nat → Nat} (M : bi_Mid P k (R + 1) ρ G) {i : Nat} (hi : i < R + 1) (hK : bi_K (ρ i) = k) (hS : bi_S (ρ i) = P) :
    bi_Mid P k R (bi_up ρ i (ρ R)) G := by
  obtain ⟨MW, MA, MB, MC, MD⟩ := M
  have key : ∀ j, j < R → ∃ j', j' < R + 1 ∧ bi_up ρ i (ρ R) j = ρ j' ∧ j' = (if j = i then R else j) := by
    intro j hj
    by_cases e : j = i
    · exact ⟨R, by omega, by rw [e, bi_up_s], (if_pos e).symm⟩
    · exact ⟨j, by omega, bi_up_n e, (if_neg e).symm⟩
  refine ⟨?_, ?_, ?_, ?_, ?_⟩
  · intro j hj
    obtain ⟨j', h1, h2, _⟩ := key j hj
    rw [h2]
    exact MW j' h1
  · intro j t k' hj ht hk hc
    obtain ⟨j', h1, h2, _⟩ := key j hj
    rw [h2] at hc ⊢
    exact MA j' t k' h1 ht hk hc
  · intro t k' d ht hk h4 hd hg
    obtain ⟨j, hj, hc, h1, h2⟩ := MB t k' d ht hk h4 hd hg
    have hne : j ≠ i := by
      intro e
      rw [e] at hc
      have c1 := hc.1
      have c2 := hc.2.1
      rcases hk with z | z
      · omega
      · exact z (c1.symm.trans hK)
    by_cases e : j = R
    · refine ⟨i, by omega, ?_⟩
      rw [bi_up_s, ← e]
      exact ⟨hc, h1, h2⟩
    · refine ⟨j, by omega, ?_⟩
      rw [bi_up_n hne]
      exact ⟨hc, h1, h2⟩
  · intro a b t k' ha hb ht ca cb hF
    obtain ⟨a', a1, a2, a3⟩ := key a ha
    obtain ⟨b', b1, b2, b3⟩ := key b hb
    rw [a2] at ca hF
    rw [b2] at cb hF
    have := MC a' b' t k' a1 b1 ht ca cb hF
    by_cases ea : a = i
    · by_cases eb : b = i
      · rw [ea, eb]
      · rw [if_pos ea] at a3
        rw [if_neg eb] at b3
        omega
    · by_cases eb : b = i
      · rw [if_neg ea] at a3
        rw [if_pos eb] at b3
        omega
      · rw [if_neg ea] at a3
        rw [if_neg eb] at b3
        omega
  · intro a b ha hb hs
    obtain ⟨a', a1, a2, a3⟩ := key a ha
    obtain ⟨b', b1, b2, b3⟩ := key b hb
    rw [a2, b2] at hs ⊢
    exact MD a' b' a1 b1 hs
/-- a new row -/
theorem bi_mid_new {P k R : Nat} {ρ : Nat → bi_Rw} {G : Nat → Nat} (M : bi_Mid P k R ρ G) {d e v : Nat} (hP : P ≤ 60) (hk : k < 4) (hd : d < e) (he : e ≤ 16) (hv : v ≤ 9)
    (hC : ∀ j, j < R → bi_K (ρ j) = k → bi_U (ρ j) = 100 → bi_F (ρ j) = d → False)
    (hD : ∀ j, j < R → bi_same (ρ j) (k, d, e, v, P, 100) → bi_U (ρ j) = P → False) :
    bi_Mid P k (R + 1) (bi_up ρ R (k, d, e, v, P, 100)) G := by
  obtain ⟨MW, MA, MB, MC, MD⟩ := M
  refine ⟨?_, ?_, ?_, ?_, ?_⟩
  · intro j hj
    by_cases c : j = R
    · rw [c, bi_up_s]
      exact ⟨hk, hd, he, hv, Nat.le_refl P, by show P < 100; omega, Or.inr rfl⟩
    · rw [bi_up_n c]
      exact MW j (by omega)
  · intro j t k' hj ht hkk hc
    by_cases c : j = R
    · rw [c, bi_up_s] at hc
      have c1 : k = k' := hc.1
      have c2 : P ≤ t := hc.2.1
      exfalso
      rcases hkk with z | z
      · omega
      · exact z c1.symm
    · rw [bi_up_n c] at hc ⊢
      exact MA j t k' (by omega) ht hkk hc
  · intro t k' d' ht hkk h4 hd' hg
    obtain ⟨j, hj, hc, h1, h2⟩ := MB t k' d' ht hkk h4 hd' hg
    refine ⟨j, by omega, ?_⟩
    rw [bi_up_n (by omega)]
    exact ⟨hc, h1, h2⟩
  · have key : ∀ j t k', j < R → t ≤ P → bi_Cov (k, d, e, v, P, 100) k' t → bi_Cov (ρ j) k' t → bi_F (ρ j) = d → False := by
      intro j t k' hj ht c1 c2 hF
      have e1 : k = k' := c1.1
      have e2 : P ≤ t := c1.2.1
      have e3 := c2.2.2
      have wj := (MW j hj).2.2.2.2.2.2
      exact hC j hj (c2.1.trans e1.symm) (by omega) hF
    intro a b t k' ha hb ht ca cb hF
    by_cases ea : a = R
    · by_cases eb : b = R
      · rw [ea, eb]
      · rw [ea, bi_up_s] at ca hF
        rw [bi_up_n eb] at cb hF
        exact (key b t k' (by omega) ht ca cb hF.symm).elim
    · by_cases eb : b = R
      · rw [eb, bi_up_s] at cb hF
        rw [bi_up_n ea] at ca hF
        exact (key a t k' (by omega) ht cb ca hF).elim
      · rw [bi_up_n ea] at ca hF
        rw [bi_up_n eb] at cb hF
        exact MC a b t k' (by omega) (by omega) ht ca cb hF
  · intro a b ha hb hs
    by_cases ea : a = R
    · by_cases eb : b = R
      · rw [ea, eb, bi_up_s]
        show 100 ≠ P
        omega
      · rw [ea, bi_up_s, bi_up_n eb] at hs ⊢
        show 100 ≠ bi_S (ρ b)
        have := (MW b (by omega)).2.2.2.2.1
        omega
    · by_cases eb : b = R
      · rw [eb, bi_up_s, bi_up_n ea] at hs ⊢
        show bi_U (ρ a) ≠ P
        exact fun z => hD a (by omega) hs z
      · rw [bi_up_n ea, bi_up_n eb] at hs ⊢
        exact MD a b (by omega) (by omega) hs
/-! the two passes of match; L0 the line before, L the line now -/
/-- the open rows of key k from index r on are periods of L -/
def bi_Op (k : Nat) (L : Nat → Nat) (R : Nat) (ρ : Nat → bi_Rw) (r : Nat) : Prop := ∀ i, i < R → r ≤ i → bi_K (ρ i) = k → bi_U (ρ i) = 100 → bi_PR L (ρ i)
/-- a period of both lines -/
def bi_Old (L0 L : Nat → Nat) (d : Nat) : Prop := ∃ e, bi_Per L0 d e ∧ bi_Per L d e ∧ L0 d = L d
def bi_Has (k : Nat) (R : Nat) (ρ : Nat → bi_Rw) (L : Nat → Nat) (d : Nat) : Prop := ∃ i, i < R ∧ bi_K (ρ i) = k ∧ bi_U (ρ i) = 100 ∧ bi_F (ρ i) = d ∧ bi_PR L (ρ i)
def bi_Kept (k : Nat) (L0 L : Nat → Nat) (R : Nat) (ρ : Nat → bi_Rw) : Prop := ∀ d, bi_Old L0 L d → bi_Has k R ρ L d
theorem bi_kept_0 {P k R : Nat} {ρ : Nat → bi_Rw} {G L0 L : Nat → Nat} (I : bi_Inv P R ρ G) (hP : P ≤ 60) (hk : k < 4) (h0 : ∀ x, x < 16 → L0 x = bi_gl G P k x) : bi_Kept k L0 L R ρ := by
  intro d h
  obtain ⟨e, h1, h2, h3⟩ := h
  obtain ⟨i, hi, hc, iF, iT, iV⟩ := bi_inv_row I (Nat.le_refl P) hk (bi_Per_congr h0 h1)
  have w := (I.1 i hi).2.2.2.2.2.2
  have hc3 := hc.2.2
  refine ⟨i, hi, hc.1, by omega, iF, ?_, ?_⟩
  · rw [iF, iT]; exact h2
  · rw [iF, ← h3, h0 d (bi_Per_lt h1)]; exact iV
theorem bi_has_U {k R : Nat} {ρ : Nat → bi_Rw} {L : Nat → Nat} {d i u : Nat} (h : bi_Has k R ρ L d) (hi : u ≠ 100 → bi_PR L (ρ i) → False) : bi_Has k R (bi_up ρ i (bi_wU (ρ i) u)) L d := by
  obtain ⟨j, hj, h1, h2, h3, h4⟩ := h
  refine ⟨j, hj, ?_⟩
  by_cases e : j = i
  · by_cases hu : u = 100
    · subst e
      rw [bi_up_s]
      exact ⟨h1, hu, h3, h4⟩
    · rw [e] at h4
      exact (hi hu h4).elim
  · rw [bi_up_n e]
    exact ⟨h1, h2, h3, h4⟩
theorem bi_has_drop {k R : Nat} {ρ : Nat → bi_Rw} {L : Nat → Nat} {d i : Nat} (h : bi_Has k (R + 1) ρ L d) (hi : i < R + 1) (hn : ¬ bi_PR L (ρ i)) : bi_Has k R (bi_up ρ i (ρ R)) L d := by
  obtain ⟨j, hj, h1, h2, h3, h4⟩ := h
  have hne : j ≠ i := by
    intro e
    rw [e] at h4
    exact hn h4
  by_cases e : j = R
  · refine ⟨i, by omega, ?_⟩
    rw [bi_up_s, ← e]
    exact ⟨h1, h2, h3, h4⟩
  · refine ⟨j, by omega, ?_⟩
    rw [bi_up_n hne]
    exact ⟨h1, h2, h3, h4⟩
/-- what the closing pass keeps -/
def bi_P1 (P k R : Nat) (ρ : Nat → bi_Rw) (G L0 L : Nat → Nat) (r : Nat) : Prop := r ≤ R ∧ bi_Mid P k R ρ G ∧ bi_Op k L R ρ r ∧ bi_Kept k L0 L R ρ
theorem bi_P1_skip {P k R : Nat} {ρ : Nat → bi_Rw} {G L0 L : Nat → Nat} {r : Nat} (h : bi_P1 P k R ρ G L0 L (r + 1)) (hr : bi_K (ρ r) = k → bi_U (ρ r) = 100 → bi_PR L (ρ r)) : bi_P1 P k R ρ G L0 L r := by
  obtain ⟨h1, h2, h3, h4⟩ := h
  refine ⟨by omega, h2, ?_, h4⟩
  intro i hi hri
  by_cases e : i = r
  · rw [e]; exact hr
  · exact h3 i hi (by omega)
theorem bi_P1_close {P k R : Nat} {ρ : Nat → bi_Rw} {G L0 L : Nat → Nat} {r : Nat} (h : bi_P1 P k R ρ G L0 L (r + 1)) (hP : P ≤ 60) (hK : bi_K (ρ r) = k) (hU : bi_U (ρ r) = 100) (hn : ¬ bi_PR L (ρ r)) (hS : bi_S (ρ r) ≠ P) :
    bi_P1 P k R (bi_up ρ r (bi_wU (ρ r) P)) G L0 L r := by
  obtain ⟨h1, h2, h3, h4⟩ := h
  have wr := h2.1 r (by omega)
  have hS' : bi_S (ρ r) < P := by have := wr.2.2.2.2.1; omega
  refine ⟨by omega, ?_, ?_, ?_⟩
  · refine bi_mid_U h2 hP (by omega) hK (Or.inr hU) hS' (Or.inl rfl) (fun z => by omega) (fun _ j hj hne hs hSj => ?_)
    have wj := h2.1 j hj
    have hUj : bi_U (ρ j) = 100 := by
      have a := wj.2.2.2.2.2.1
      have b := wj.2.2.2.2.2.2
      omega
    exact hne (h2.2.2.2.1 j r P k hj (by omega) (Nat.le_refl P) ⟨hs.1.symm.trans hK, by omega, by omega⟩ ⟨hK, by omega, by omega⟩ hs.2.1.symm)
  · intro i hi hri
    by_cases e : i = r
    · rw [e, bi_up_s]
      intro _ z
      exfalso
      have z' : P = 100 := z
      omega
    · rw [bi_up_n e]
      exact h3 i hi (by omega)
  · intro d hd
    exact bi_has_U (h4 d hd) (fun _ => hn)
theorem bi_P1_drop {P k R : Nat} {ρ : Nat → bi_Rw} {G L0 L : Nat → Nat} {r : Nat} (h : bi_P1 P k (R + 1) ρ G L0 L (r + 1)) (hK : bi_K (ρ r) = k) (hn : ¬ bi_PR L (ρ r)) (hS : bi_S (ρ r) = P) :
    bi_P1 P k R (bi_up ρ r (ρ R)) G L0 L r := by
  obtain ⟨h1, h2, h3, h4⟩ := h
  refine ⟨by omega, bi_mid_drop h2 (by omega) hK hS, ?_, fun d hd => bi_has_drop (h4 d hd) (by omega) hn⟩
  intro i hi hri
  by_cases e : i = r
  · rw [e, bi_up_s]
    exact h3 R (by omega) (by omega)
  · rw [bi_up_n e]
    exact h3 i (by omega) (by omega)
/-! the second pass -/
def bi_New (L0 L : Nat → Nat) (d : Nat) : Prop := bi_bg L d ∧ ¬ bi_Old L0 L d
def bi_P2 (P k R : Nat) (ρ : Nat → bi_Rw) (G L0 L : Nat → Nat) (N d : Nat) : Prop :=
  bi_Mid P k R ρ G ∧ bi_Op k L R ρ 0 ∧ bi_Kept k L0 L R ρ ∧ (∀ d', d' < d → bi_bg L d' → bi_Has k R ρ L d') ∧ R ≤ N + bi_cnt (bi_New L0 L) d
theorem bi_P2_0 {P k R : Nat} {ρ : Nat → bi_Rw} {G L0 L : Nat → Nat} {N : Nat} (h : bi_P1 P k R ρ G L0 L 0) (hN : R ≤ N) : bi_P2 P k R ρ G L0 L N 0 :=
  ⟨h.2.1, h.2.2.1, h.2.2.2, fun d' z => by omega, by rw [bi_cnt_0]; omega⟩
theorem bi_P2_skip {P k R : Nat} {ρ : Nat → bi_Rw} {G L0 L : Nat → Nat} {N d : Nat} (h : bi_P2 P k R ρ G L0 L N d) (hb : bi_bg L d → bi_Has k R ρ L d) : bi_P2 P k R ρ G L0 L N (d + 1) := by
  obtain ⟨h1, h2, h3, h4, h5⟩ := h
  refine ⟨h1, h2, h3, fun d' hd' hb' => ?_, ?_⟩
  · by_cases e : d' = d
    · rw [e] at hb' ⊢; exact hb hb'
    · exact h4 d' (by omega) hb'
  · have := bi_cnt_mono (p := bi_New L0 L) (a := d) (d + 1) (by omega)
    omega
/-- a row of the same period, open or closed at this tick, is open now -/
theorem bi_P2_open {P k R : Nat} {ρ : Nat → bi_Rw} {G L0 L : Nat → Nat} {N d e i : Nat} (h : bi_P2 P k R ρ G L0 L N d) (hP : P ≤ 60) (hp : bi_Per L d e) (hi : i < R)
    (hK : bi_K (ρ i) = k) (hF : bi_F (ρ i) = d) (hT : bi_T (ρ i) = e) (hV : L d = bi_V (ρ i) + 1) (hU : bi_U (ρ i) = 100 ∨ bi_U (ρ i) = P) :
    bi_P2 P k R (bi_up ρ i (bi_wU (ρ i) 100)) G L0 L N (d + 1) := by
  obtain ⟨h1, h2, h3, h4, h5⟩ := h
  have hPR : bi_PR L (ρ i) := ⟨by rw [hF, hT]; exact hp, by rw [hF]; exact hV⟩
  have hM : bi_Mid P k R (bi_up ρ i (bi_wU (ρ i) 100)) G := by
    rcases hU with z | z
    · have e : bi_up ρ i (bi_wU (ρ i) 100) = ρ := by
        funext j
        by_cases c : j = i
        · rw [c, bi_up_s, ← z]; rfl
        · rw [bi_up_n c]
      rw [e]; exact h1
    · have wi := h1.1 i hi
      have hS : bi_S (ρ i) < P := by have := wi.2.2.2.2.2.1; omega
      refine bi_mid_U h1 hP hi hK (Or.inl z) hS (Or.inr rfl) (fun _ j hj hne jK jU jF => ?_) (fun z => by omega)
      have hj2 := bi_PR_un (h2 j hj (Nat.zero_le j) jK jU) hp (jF.trans hF)
      have wj := h1.1 j hj
      by_cases c : bi_S (ρ j) = P
      · exact h1.2.2.2.2 i j hi hj ⟨hK.trans jK.symm, jF.symm, hT.trans hj2.1.symm, by omega⟩ (z.trans c.symm)
      · have := wj.2.2.2.2.1
        exact hne (h1.2.2.2.1 j i (P - 1) k hj hi (by omega) ⟨jK, by omega, by omega⟩ ⟨hK, by omega, by omega⟩ jF)
  refine ⟨hM, ?_, fun d' hd' => bi_has_U (h3 d' hd') (fun z => absurd rfl z), fun d' hd' hb => ?_, ?_⟩
  · intro j hj hr
    by_cases c : j = i
    · rw [c, bi_up_s]
      intro _ _
      exact hPR
    · rw [bi_up_n c]
      exact h2 j hj hr
  · by_cases c : d' = d
    · refine ⟨i, hi, ?_⟩
      rw [bi_up_s, c]
      exact ⟨hK, rfl, hF, hPR⟩
    · exact bi_has_U (h4 d' (by omega) hb) (fun z => absurd rfl z)
  · have := bi_cnt_mono (p := bi_New L0 L) (a := d) (d + 1) (by omega)
    omega
theorem bi_P2_new {P k R : Nat} {ρ : Nat → bi_Rw} {G L0 L : Nat → Nat} {N d e v : Nat} (h : bi_P2 P k R ρ G L0 L N d) (hP : P ≤ 60) (hk : k < 4) (hp : bi_Per L d e) (hv : L d = v + 1) (hv9 : v ≤ 9)
    (hn : ∀ i, i < R → bi_K (ρ i) = k → bi_F (ρ i) = d → bi_T (ρ i) = e → L d = bi_V (ρ i) + 1 → (bi_U (ρ i) = 100 ∨ bi_U (ρ i) = P) → False) :
    bi_P2 P k (R + 1) (bi_up ρ R (k, d, e, v, P, 100)) G L0 L N (d + 1) := by
  obtain ⟨h1, h2, h3, h4, h5⟩ := h
  have hC : ∀ j, j < R → bi_K (ρ j) = k → bi_U (ρ j) = 100 → bi_F (ρ j) = d → False := by
    intro j hj jK jU jF
    have hj2 := bi_PR_un (h2 j hj (Nat.zero_le j) jK jU) hp jF
    exact hn j hj jK jF hj2.1 hj2.2 (Or.inl jU)
  have hmk : ∀ d', bi_Has k R ρ L d' → bi_Has k (R + 1) (bi_up ρ R (k, d, e, v, P, 100)) L d' := by
    intro d' z
    obtain ⟨j, hj, z1⟩ := z
    refine ⟨j, by omega, ?_⟩
    rw [bi_up_n (by omega)]
    exact z1
  have hnew : bi_New L0 L d := by
    refine ⟨hp.2.1, fun z => ?_⟩
    obtain ⟨j, hj, jK, jU, jF, _⟩ := h3 d z
    exact hC j hj jK jU jF
  refine ⟨bi_mid_new h1 hP hk hp.1 hp.2.2.2.1 hv9 hC (fun j hj hs jU => ?_), ?_, fun d' hd' => hmk d' (h3 d' hd'), fun d' hd' hb => ?_, ?_⟩
  · have e4 : bi_V (ρ j) = v := hs.2.2.2
    exact hn j hj hs.1 hs.2.1 hs.2.2.1 (by omega) (Or.inr jU)
  · intro j hj hr
    by_cases c : j = R
    · rw [c, bi_up_s]
      intro _ _
      exact ⟨hp, hv⟩
    · rw [bi_up_n c]
      exact h2 j (by omega) hr
  · by_cases c : d' = d
    · refine ⟨R, by omega, ?_⟩
      rw [bi_up_s, c]
      exact ⟨rfl, rfl, rfl, hp, hv⟩
    · exact hmk d' (h4 d' (by omega) hb)
  · rw [bi_cnt_t hnew]
    omega
/-- at the end: the table of the new grid -/
theorem bi_P2_end {P k R : Nat} {ρ : Nat → bi_Rw} {G L0 L G' : Nat → Nat} {N : Nat} (h : bi_P2 P k R ρ G L0 L N 16) (hP : P ≤ 60) (hk : k < 4)
    (hL : ∀ x, x < 16 → L x = bi_gl G' P k x) (hG : ∀ t k' x, t ≤ P → k' < 4 → x < 16 → (t < P ∨ k' ≠ k) → bi_gl G t k' x = bi_gl G' t k' x) : bi_Inv P R ρ G' := by
  obtain ⟨⟨MW, MA, MB, MC, MD⟩, h2, h3, h4, h5⟩ := h
  refine ⟨MW, ?_, ?_, MC, MD⟩
  · intro i t k' hi ht hc
    have w := MW i hi
    have hk' : k' < 4 := by rw [← hc.1]; exact w.1
    by_cases c : t < P ∨ k' ≠ k
    · exact bi_PR_congr (fun x hx => hG t k' x ht hk' hx c) (MA i t k' hi ht c hc)
    · have e1 : t = P := by omega
      have e2 : k' = k := by omega
      subst e1
      subst e2
      have h6 := hc.2.2
      exact bi_PR_congr hL (h2 i hi (Nat.zero_le i) hc.1 (by have := w.2.2.2.2.2.2; omega))
  · intro t k' d ht hk' hd hg
    by_cases c : t < P ∨ k' ≠ k
    · rw [← hG t k' d ht hk' hd c] at hg
      exact MB t k' d ht c hk' hd hg
    · have e1 : t = P := by omega
      have e2 : k' = k := by omega
      subst e1
      subst e2
      rw [← hL d hd] at hg
      obtain ⟨a, b, hp, h6, h7⟩ := bi_Per_at d hd hg
      obtain ⟨i, hi, iK, iU, iF, iP⟩ := h4 a (bi_Per_lt hp) hp.2.1
      have hT := bi_PR_un iP hp iF
      have w := (MW i hi).2.2.2.2.1
      exact ⟨i, hi, ⟨iK, w, by have := (MW i hi).2.2.2.2.2.1; omega⟩, by omega, by omega⟩
/-- at most three periods are new -/
theorem bi_new_3 {L0 L : Nat → Nat} {a b c : Nat} (hab : a < b) (hb : b ≤ 16) (hin : ∀ x, a ≤ x → x < b → L x = c) (hout : ∀ x, x < a ∨ b ≤ x → L x = L0 x) : bi_cnt (bi_New L0 L) 16 ≤ 3 := by
  refine bi_cnt_3 (a := a) (b := b) (r := fun d => d < a ∧ ∃ e, bi_Per L d e ∧ a ≤ e) ?_ ?_
  · intro d hd hn
    obtain ⟨hbg, hno⟩ := hn
    obtain ⟨e, he⟩ := bi_Per_ex hd hbg
    have hp := he
    obtain ⟨p1, ⟨p2, p3⟩, p4, p5, p6, p7⟩ := he
    have old : (∀ x, d ≤ x + 1 → x ≤ e → L x = L0 x) → False := by
      intro hx
      apply hno
      have ed := hx d (by omega) (by omega)
      refine ⟨e, ⟨p1, ⟨by rw [← ed]; exact p2, ?_⟩, p4, p5, ?_, ?_⟩, hp, ed.symm⟩
      · by_cases z : d = 0
        · exact Or.inl z
        · right
          rcases p3 with y | y
          · exact absurd y z
          · rw [← ed, ← hx (d - 1) (by omega) (by omega)]; exact y
      · intro x h1 h2
        rw [← ed, ← hx x (by omega) (by omega)]
        exact p6 x h1 h2
      · rcases p7 with y | y
        · exact Or.inl y
        · right
          rw [← ed, ← hx e (by omega) (by omega)]; exact y
    by_cases h1 : e < a
    · exact (old (fun x _ h => hout x (Or.inl (by omega)))).elim
    · by_cases h2 : b < d
      · exact (old (fun x h _ => hout x (Or.inr (by omega)))).elim
      · by_cases h3 : d = b
        · exact Or.inr (Or.inl h3)
        · by_cases h4 : d < a
          · exact Or.inr (Or.inr ⟨h4, e, hp, by omega⟩)
          · by_cases h5 : d = a
            · exact Or.inl h5
            · exfalso
              rcases p3 with y | y
              · omega
              · exact y ((hin (d - 1) (by omega) (by omega)).trans (hin d (by omega) (by omega)).symm)
  · intro i j _ _ hi hj
    obtain ⟨h1, e, h2, h3⟩ := hi
    obtain ⟨h4, e', h5, h6⟩ := hj
    exact (bi_Per_un (x := a - 1) h2 h5 (by omega) (by omega) (by omega) (by omega)).1
/-! a tick: the last line is copied -/
theorem bi_inv_tick {P R : Nat} {ρ : Nat → bi_Rw} {G G' : Nat → Nat} (I : bi_Inv P R ρ G) (hP : P < 60)
    (h1 : ∀ t k x, t ≤ P → k < 4 → x < 16 → bi_gl G t k x = bi_gl G' t k x) (h2 : ∀ k x, k < 4 → x < 16 → bi_gl G P k x = bi_gl G' (P + 1) k x) : bi_Inv (P + 1) R ρ G' := by
  obtain ⟨MW, MA, MB, MC, MD⟩ := I
  have cv : ∀ i k, i < R → bi_Cov (ρ i) k (P + 1) → bi_Cov (ρ i) k P := by
    intro i k hi hc
    have w := MW i hi
    exact ⟨hc.1, w.2.2.2.2.1, by have := hc.2.2; omega⟩
  have cu : ∀ i k, i < R → bi_Cov (ρ i) k P → bi_Cov (ρ i) k (P + 1) := by
    intro i k hi hc
    have w := (MW i hi).2.2.2.2.2.2
    have := hc.2.2
    have := hc.2.1
    exact ⟨hc.1, by omega, by omega⟩
  refine ⟨?_, ?_, ?_, ?_, MD⟩
  · intro i hi
    obtain ⟨w1, w2, w3, w4, w5, w6, w7⟩ := MW i hi
    exact ⟨w1, w2, w3, w4, by omega, w6, by omega⟩
  · intro i t k hi ht hc
    have hk : k < 4 := by rw [← hc.1]; exact (MW i hi).1
    by_cases e : t = P + 1
    · rw [e] at hc ⊢
      exact bi_PR_congr (fun x hx => h2 k x hk hx) (MA i P k hi (Nat.le_refl P) (cv i k hi hc))
    · exact bi_PR_congr (fun x hx => h1 t k x (by omega) hk hx) (MA i t k hi (by omega) hc)
  · intro t k d ht hk hd hg
    by_cases e : t = P + 1
    · rw [e] at hg ⊢
      rw [← h2 k d hk hd] at hg
      obtain ⟨i, hi, hc, h3, h4⟩ := MB P k d (Nat.le_refl P) hk hd hg
      exact ⟨i, hi, cu i k hi hc, h3, h4⟩
    · rw [← h1 t k d (by omega) hk hd] at hg
      exact MB t k d (by omega) hk hd hg
  · intro i j t k hi hj ht ci cj hF
    by_cases e : t = P + 1
    · rw [e] at ci cj
      exact MC i j P k hi hj (Nat.le_refl P) (cv i k hi ci) (cv j k hj cj) hF
    · exact MC i j t k hi hj (by omega) ci cj hF
end
section
/-! the pictures of both states -/
def bi_lv (c : Nat) : Int32 := nI c - 1
theorem bi_lv_0 : bi_lv 0 = -1 := by decide
theorem bi_lv_s (v : Nat) : bi_lv (v + 1) = nI v := nI_pred v
theorem bi_lv_int {c : Nat} (h : c ≤ 1000) : (bi_lv c).toInt = (c : Int) - 1 := by
  cases c with
  | zero => decide
  | succ v => rw [bi_lv_s, nI_toInt (by omega)]; omega
theorem bi_lv_inj {a b : Nat} (ha : a ≤ 1000) (hb : b ≤ 1000) : bi_lv a = bi_lv b ↔ a = b := by
  constructor
  · intro h
    have e : (bi_lv a).toInt = (bi_lv b).toInt := by rw [h]
    rw [bi_lv_int ha, bi_lv_int hb] at e
    omega
  · intro h; rw [h]
theorem bi_lv_neg {a : Nat} (ha : a ≤ 1000) : bi_lv a < 0 ↔ a = 0 := by
  rw [Int32.lt_iff_toInt_lt, bi_lv_int ha, show (0 : Int32).toInt = 0 from by decide]
  omega
theorem bi_b8 : ∀ n, n < 128 → (nI n).toInt8.toInt32 = nI n := by decide +kernel
theorem bi_l8 : ∀ n, n < 11 → (bi_lv n).toInt8.toInt32 = bi_lv n := by decide +kernel
theorem bi_nb {n : Nat} (h : n < 128) : vp_nar .byte (nI n) = nI n := by rw [vp_nar_byte]; exact bi_b8 n h
theorem bi_nl {n : Nat} (h : n ≤ 10) : vp_nar .byte (bi_lv n) = bi_lv n := by rw [vp_nar_byte]; exact bi_l8 n (by omega)
theorem bi_nb8 {n : Nat} (h : n < 128) : vp_nar .byte (nI n).toInt8.toInt32 = nI n := by rw [bi_b8 n h]; exact bi_nb h
theorem bi_nl8 {n : Nat} (h : n ≤ 10) : vp_nar .byte (bi_lv n).toInt8.toInt32 = bi_lv n := by rw [bi_l8 n (by omega)]; exact bi_nl h
def bi_aK (ρ : Nat → bi_Rw) : Nat → Int32 := fun i => nI (bi_K (ρ i))
def bi_aF (ρ : Nat → bi_Rw) : Nat → Int32 := fun i => nI (bi_F (ρ i))
def bi_aT (ρ : Nat → bi_Rw) : Nat → Int32 := fun i => nI (bi_T (ρ i))
def bi_aV (ρ : Nat → bi_Rw) : Nat → Int32 := fun i => nI (bi_V (ρ i))
def bi_aS (ρ : Nat → bi_Rw) : Nat → Int32 := fun i => nI (bi_S (ρ i))
def bi_aU (ρ : Nat → bi_Rw) : Nat → Int32 := fun i => nI (bi_U (ρ i))
def bi_aL (L : Nat → Nat) : Nat → Int32 := fun d => bi_lv (L d)
def bi_aG (G : Nat → Nat) : Nat → Int32 := fun c => nI (G c)
theorem bi_rK {ρ : Nat → bi_Rw} {i : Nat} (h : i < 1000) : bi_aK ρ (nI i).toNatClampNeg = nI (bi_K (ρ i)) := by rw [nI_clamp (by omega)]; rfl
theorem bi_rF {ρ : Nat → bi_Rw} {i : Nat} (h : i < 1000) : bi_aF ρ (nI i).toNatClampNeg = nI (bi_F (ρ i)) := by rw [nI_clamp (by omega)]; rfl
theorem bi_rT {ρ : Nat → bi_Rw} {i : Nat} (h : i < 1000) : bi_aT ρ (nI i).toNatClampNeg = nI (bi_T (ρ i)) := by rw [nI_clamp (by omega)]; rfl
theorem bi_rV {ρ : Nat → bi_Rw} {i : Nat} (h : i < 1000) : bi_aV ρ (nI i).toNatClampNeg = nI (bi_V (ρ i)) := by rw [nI_clamp (by omega)]; rfl
theorem bi_rVl {ρ : Nat → bi_Rw} {i : Nat} (h : i < 1000) : bi_aV ρ (nI i).toNatClampNeg = bi_lv (bi_V (ρ i) + 1) := by rw [bi_rV h, bi_lv_s]
theorem bi_rS {ρ : Nat → bi_Rw} {i : Nat} (h : i < 1000) : bi_aS ρ (nI i).toNatClampNeg = nI (bi_S (ρ i)) := by rw [nI_clamp (by omega)]; rfl
theorem bi_rU {ρ : Nat → bi_Rw} {i : Nat} (h : i < 1000) : bi_aU ρ (nI i).toNatClampNeg = nI (bi_U (ρ i)) := by rw [nI_clamp (by omega)]; rfl
theorem bi_rL {L : Nat → Nat} {d : Nat} (h : d < 1000) : bi_aL L (nI d).toNatClampNeg = bi_lv (L d) := by rw [nI_clamp (by omega)]; rfl
theorem bi_rG {G : Nat → Nat} {c : Nat} (h : c < 10000) : bi_aG G (nI c).toNatClampNeg = nI (G c) := by rw [nI_clamp (by omega)]; rfl
def bi_un (L : Nat → Nat) (d c : Nat) : Nat → Nat := fun x => if x = d then c else L x
theorem bi_un_s {L : Nat → Nat} {d c : Nat} : bi_un L d c d = c := if_pos rfl
theorem bi_un_n {L : Nat → Nat} {d c x : Nat} (h : x ≠ d) : bi_un L d c x = L x := if_neg h
theorem bi_un_le {L : Nat → Nat} {d c : Nat} (h : ∀ x, L x ≤ 10) (hc : c ≤ 10) : ∀ x, bi_un L d c x ≤ 10 := by
  intro x
  by_cases e : x = d
  · rw [e, bi_un_s]; exact hc
  · rw [bi_un_n e]; exact h x
theorem bi_wL {L : Nat → Nat} {d c : Nat} (h : d < 1000) : upd (bi_aL L) (nI d).toNatClampNeg (bi_lv c) = bi_aL (bi_un L d c) := by
  rw [nI_clamp (by omega)]
  funext x
  by_cases e : x = d
  · rw [e, pk_us]; show _ = bi_lv (bi_un L d c d); rw [bi_un_s]
  · rw [pk_un e]; show _ = bi_lv (bi_un L d c x); rw [bi_un_n e]; rfl
theorem bi_wG {G : Nat → Nat} {d c : Nat} (h : d < 10000) : upd (bi_aG G) (nI d).toNatClampNeg (nI c) = bi_aG (bi_un G d c) := by
  rw [nI_clamp (by omega)]
  funext x
  by_cases e : x = d
  · rw [e, pk_us]; show _ = nI (bi_un G d c d); rw [bi_un_s]
  · rw [pk_un e]; show _ = nI (bi_un G d c x); rw [bi_un_n e]; rfl
theorem bi_wK {ρ : Nat → bi_Rw} {i : Nat} {r : bi_Rw} (h : i < 1000) : upd (bi_aK ρ) (nI i).toNatClampNeg (nI (bi_K r)) = bi_aK (bi_up ρ i r) := by
  rw [nI_clamp (by omega)]
  funext x
  by_cases e : x = i
  · rw [e, pk_us]; show _ = nI (bi_K (bi_up ρ i r i)); rw [bi_up_s]
  · rw [pk_un e]; show _ = nI (bi_K (bi_up ρ i r x)); rw [bi_up_n e]; rfl
theorem bi_wF {ρ : Nat → bi_Rw} {i : Nat} {r : bi_Rw} (h : i < 1000) : upd (bi_aF ρ) (nI i).toNatClampNeg (nI (bi_F r)) = bi_aF (bi_up ρ i r) := by
  rw [nI_clamp (by omega)]
  funext x
  by_cases e : x = i
  · rw [e, pk_us]; show _ = nI (bi_F (bi_up ρ i r i)); rw [bi_up_s]
  · rw [pk_un e]; show _ = nI (bi_F (bi_up ρ i r x)); rw [bi_up_n e]; rfl
theorem bi_wT {ρ : Nat → bi_Rw} {i : Nat} {r : bi_Rw} (h : i < 1000) : upd (bi_aT ρ) (nI i).toNatClampNeg (nI (bi_T r)) = bi_aT (bi_up ρ i r) := by
  rw [nI_clamp (by omega)]
  funext x
  by_cases e : x = i
  · rw [e, pk_us]; show _ = nI (bi_T (bi_up ρ i r i)); rw [bi_up_s]
  · rw [pk_un e]; show _ = nI (bi_T (bi_up ρ i r x)); rw [bi_up_n e]; rfl
theorem bi_wV {ρ : Nat → bi_Rw} {i : Nat} {r : bi_Rw} (h : i < 1000) : upd (bi_aV ρ) (nI i).toNatClampNeg (nI (bi_V r)) = bi_aV (bi_up ρ i r) := by
  rw [nI_clamp (by omega)]
  funext x
  by_cases e : x = i
  · rw [e, pk_us]; show _ = nI (bi_V (bi_up ρ i r i)); rw [bi_up_s]
  · rw [pk_un e]; show _ = nI (bi_V (bi_up ρ i r x)); rw [bi_up_n e]; rfl
theorem bi_wS {ρ : Nat → bi_Rw} {i : Nat} {r : bi_Rw} (h : i < 1000) : upd (bi_aS ρ) (nI i).toNatClampNeg (nI (bi_S r)) = bi_aS (bi_up ρ i r) := by
  rw [nI_clamp (by omega)]
  funext x
  by_cases e : x = i
  · rw [e, pk_us]; show _ = nI (bi_S (bi_up ρ i r i)); rw [bi_up_s]
  · rw [pk_un e]; show _ = nI (bi_S (bi_up ρ i r x)); rw [bi_up_n e]; rfl
theorem bi_wUu {ρ : Nat → bi_Rw} {i : Nat} {r : bi_Rw} (h : i < 1000) : upd (bi_aU ρ) (nI i).toNatClampNeg (nI (bi_U r)) = bi_aU (bi_up ρ i r) := by
  rw [nI_clamp (by omega)]
  funext x
  by_cases e : x = i
  · rw [e, pk_us]; show _ = nI (bi_U (bi_up ρ i r i)); rw [bi_up_s]
  · rw [pk_un e]; show _ = nI (bi_U (bi_up ρ i r x)); rw [bi_up_n e]; rfl
/-- the state of the component -/
abbrev bi_xs (P C R : Nat) (ρ : Nat → bi_Rw) (L O : Nat → Nat) : SX :=
  (nI P, nI C, nI R, bi_aK ρ, bi_aF ρ, bi_aT ρ, bi_aV ρ, bi_aS ρ, bi_aU ρ, bi_aL L, bi_aL O)
abbrev bi_ys (P C : Nat) (G : Nat → Nat) : SY := (nI P, nI C, bi_aG G)
/-- a row with another end, as arrays -/
theorem bi_aUp {ρ : Nat → bi_Rw} {i u : Nat} : bi_aK (bi_up ρ i (bi_wU (ρ i) u)) = bi_aK ρ ∧ bi_aF (bi_up ρ i (bi_wU (ρ i) u)) = bi_aF ρ ∧ bi_aT (bi_up ρ i (bi_wU (ρ i) u)) = bi_aT ρ ∧ bi_aV (bi_up ρ i (bi_wU (ρ i) u)) = bi_aV ρ ∧ bi_aS (bi_up ρ i (bi_wU (ρ i) u)) = bi_aS ρ := by
  refine ⟨?_, ?_, ?_, ?_, ?_⟩
  · funext x
    show nI (bi_K (bi_up ρ i (bi_wU (ρ i) u) x)) = nI (bi_K (ρ x))
    by_cases e : x = i
    · rw [e, bi_up_s]; rfl
    · rw [bi_up_n e]
  · funext x
    show nI (bi_F (bi_up ρ i (bi_wU (ρ i) u) x)) = nI (bi_F (ρ x))
    by_cases e : x = i
    · rw [e, bi_up_s]; rfl
    · rw [bi_up_n e]
  · funext x
    show nI (bi_T (bi_up ρ i (bi_wU (ρ i) u) x)) = nI (bi_T (ρ x))
    by_cases e : x = i
    · rw [e, bi_up_s]; rfl
    · rw [bi_up_n e]
  · funext x
    show nI (bi_V (bi_up ρ i (bi_wU (ρ i) u) x)) = nI (bi_V (ρ x))
    by_cases e : x = i
    · rw [e, bi_up_s]; rfl
    · rw [bi_up_n e]
  · funext x
    show nI (bi_S (bi_up ρ i (bi_wU (ρ i) u) x)) = nI (bi_S (ρ x))
    by_cases e : x = i
    · rw [e, bi_up_s]; rfl
    · rw [bi_up_n e]
theorem bi_xsU (P C R : Nat) (ρ : Nat → bi_Rw) (L O : Nat → Nat) (i u : Nat) :
    bi_xs P C R (bi_up ρ i (bi_wU (ρ i) u)) L O = (nI P, nI C, nI R, bi_aK ρ, bi_aF ρ, bi_aT ρ, bi_aV ρ, bi_aS ρ, bi_aU (bi_up ρ i (bi_wU (ρ i) u)), bi_aL L, bi_aL O) := by
  obtain ⟨h1, h2, h3, h4, h5⟩ := bi_aUp (ρ := ρ) (i := i) (u := u)
  show (nI P, nI C, nI R, bi_aK (bi_up ρ i (bi_wU (ρ i) u)), bi_aF (bi_up ρ i (bi_wU (ρ i) u)), bi_aT (bi_up ρ i (bi_wU (ρ i) u)), bi_aV (bi_up ρ i (bi_wU (ρ i) u)), bi_aS (bi_up ρ i (bi_wU (ρ i) u)), bi_aU (bi_up ρ i (bi_wU (ρ i) u)), bi_aL L, bi_aL O) = _
  rw [h1, h2, h3, h4, h5]
/-! branches over line values -/
theorem bi_b_neg {x : Int32} {A B : Prop} (c : Nat) (hx : x = bi_lv c) (hc : c ≤ 10) (f : c = 0 → A) (g : 0 < c → B) : (x < 0 → A) ∧ (¬ x < 0 → B) := by
  subst hx
  rw [bi_lv_neg (by omega)]
  exact ⟨f, fun z => g (by omega)⟩
theorem bi_b_lv {x y : Int32} {A B : Prop} (a b : Nat) (hx : x = bi_lv a) (hy : y = bi_lv b) (ha : a ≤ 10) (hb : b ≤ 10) (f : a = b → A) (g : a ≠ b → B) : (x = y → A) ∧ (¬ x = y → B) := by
  subst hx hy
  rw [bi_lv_inj (by omega) (by omega)]
  exact ⟨f, g⟩
theorem bi_10 : ¬ (1 : Int32) = 0 := by decide
/-! arguments -/
theorem bi_argT (P : Nat) (hP : P ≤ 60) (p : Int32) : (∃ t, t ≤ P ∧ p = nI t) ∨ (p < 0 ∨ nI P < p) := by
  rcases pk_ix p (n := P + 1) (by omega) with h | h | h
  · exact Or.inr (Or.inl h)
  · right; right
    rw [Int32.le_iff_toInt_le, nI_toInt (by omega)] at h
    rw [Int32.lt_iff_toInt_lt, nI_toInt (by omega)]
    omega
  · obtain ⟨j, hj, e⟩ := h
    exact Or.inl ⟨j, by omega, e⟩
theorem bi_argN (n : Nat) (hn : n < 1000) (p : Int32) : (∃ k, k < n ∧ p = nI k) ∨ (p < 0 ∨ nI n ≤ p) := by
  rcases pk_ix p (n := n) (by omega) with h | h | h
  · exact Or.inr (Or.inl h)
  · exact Or.inr (Or.inr h)
  · exact Or.inl h
theorem bi_arg_ne {p : Int32} {n k : Nat} (h : p < 0 ∨ nI n ≤ p) (hk : k < n) (hn : n < 1000) : ¬ nI k = p := by
  intro e
  rw [← e] at h
  rcases h with h | h
  · exact nI_pos (by omega) h
  · rw [nI_leI (by omega) (by omega)] at h
    omega
theorem bi_le_lt {a b : Nat} {p : Int32} (hb : b = a + 1) (ha : a < 1000) : nI b ≤ p ↔ nI a < p := by
  rw [Int32.le_iff_toInt_le, Int32.lt_iff_toInt_lt, nI_toInt (by omega), nI_toInt (by omega)]
  omega
/-! the component's small methods -/
theorem bi_x_key {post : Int32 → Prop} {k : Nat} (hk : k < 4) (h : post 1) : wpX_isKey post (nI k) :=
  br_f (nI_pos (by omega)) (br_f (nI_ge (b := 4) hk (by decide)) h)
theorem bi_x_keyF {post : Int32 → Prop} {p : Int32} (hp : p < 0 ∨ nI 4 ≤ p) (h : post 0) : wpX_isKey post p := by
  by_cases c : p < 0
  · exact br_t c h
  · exact br_f c (br_t (hp.resolve_left c) h)
theorem bi_x_day {post : Int32 → Prop} {k : Nat} (hk : k < 16) (h : post 1) : wpX_isDay post (nI k) :=
  br_f (nI_pos (by omega)) (br_f (nI_ge (b := 16) hk (by decide)) h)
theorem bi_x_dayF {post : Int32 → Prop} {p : Int32} (hp : p < 0 ∨ nI 16 ≤ p) (h : post 0) : wpX_isDay post p := by
  by_cases c : p < 0
  · exact br_t c h
  · exact br_f c (br_t (hp.resolve_left c) h)
theorem bi_x_tick {post : Int32 → Prop} {P C R : Nat} {ρ : Nat → bi_Rw} {L O : Nat → Nat} {t : Nat} (hP : P ≤ 60) (ht : t ≤ P) (h : post 1) : wpX_isTick post (bi_xs P C R ρ L O) (nI t) :=
  br_f (nI_pos (by omega)) (br_f (nI_nlt ht (by omega)) h)
theorem bi_x_tickF {post : Int32 → Prop} {P C R : Nat} {ρ : Nat → bi_Rw} {L O : Nat → Nat} {p : Int32} (hp : p < 0 ∨ nI P < p) (h : post 0) : wpX_isTick post (bi_xs P C R ρ L O) p := by
  by_cases c : p < 0
  · exact br_t c h
  · exact br_f c (br_t (hp.resolve_left c) h)
theorem bi_x_cov {post : Int32 → Prop} {P C R : Nat} {ρ : Nat → bi_Rw} {L O : Nat → Nat} {i k t : Nat} (hP : P ≤ 60) (hw : bi_Wf P (ρ i)) (hi : i < 160) (hk : k < 4) (ht : t ≤ P)
    (h1 : bi_Cov (ρ i) k t → post 1) (h0 : ¬ bi_Cov (ρ i) k t → post 0) : wpX_covers post (bi_xs P C R ρ L O) (nI i) (nI k) (nI t) := by
  obtain ⟨w1, w2, w3, w4, w5, w6, w7⟩ := hw
  have hv : vp_in (nI i) 160 := vp_in_nI hi (by decide)
  refine And.intro hv (pk_eq (bi_K (ρ i)) k (fun e1 => ⟨hv, pk_lt t (bi_S (ρ i)) (fun e2 => h0 (fun z => ?_)) (fun e2 => ⟨hv, pk_le (bi_U (ρ i)) t (fun e3 => h0 (fun z => ?_)) (fun e3 => h1 ⟨e1, e2, e3⟩) (bi_rU (by omega)) rfl (by omega) (by omega)⟩) rfl (bi_rS (by omega)) (by omega) (by omega)⟩) (fun e1 => h0 (fun z => e1 z.1)) (bi_rK (by omega)) rfl (by omega) (by omega))
  · have := z.2.1; omega
  · have := z.2.2; omega
theorem bi_x_covF {post : Int32 → Prop} {P C R : Nat} {ρ : Nat → bi_Rw} {L O : Nat → Nat} {i : Nat} {p q : Int32} (hw : bi_Wf P (ρ i)) (hi : i < 160) (hp : p < 0 ∨ nI 4 ≤ p)
    (h0 : post 0) : wpX_covers post (bi_xs P C R ρ L O) (nI i) p q := by
  refine And.intro (vp_in_nI hi (by decide)) (br_f ?_ h0)
  rw [bi_rK (by omega)]
  exact bi_arg_ne hp hw.1 (by decide)
theorem bi_x_bg {post : Int32 → Prop} {P C R : Nat} {ρ : Nat → bi_Rw} {L O : Nat → Nat} {d : Nat} (hd : d < 17) (hL : ∀ x, L x ≤ 10)
    (h1 : bi_bg L d → post 1) (h0 : ¬ bi_bg L d → post 0) : wpX_begins post (bi_xs P C R ρ L O) (nI d) := by
  have hv : vp_in (nI d) 17 := vp_in_nI hd (by decide)
  refine And.intro hv (bi_b_neg (L d) (bi_rL (by omega)) (hL d) (fun e => h0 (fun z => ?_)) (fun e => pk_eq d 0 (fun e2 => h1 ⟨e, Or.inl e2⟩) (fun e2 => ?_) rfl rfl (by omega) (by decide)))
  · have := z.1; omega
  · obtain ⟨d', rfl⟩ : ∃ d', d = d' + 1 := ⟨d - 1, by omega⟩
    rw [nI_pred]
    refine ⟨vp_in_nI (by omega) (by decide), hv, bi_b_lv (L d') (L (d' + 1)) (bi_rL (by omega)) (bi_rL (by omega)) (hL _) (hL _) (fun e3 => h0 (fun z => ?_)) (fun e3 => h1 ⟨e, Or.inr e3⟩)⟩
    rcases z.2 with y | y
    · omega
    · exact y e3
theorem bi_x_end2 {post : Int32 → Prop} {p c r : Int32} {K F T V S U O : Nat → Int32} {L : Nat → Nat} {d : Nat} (hd : d < 17) (hL : ∀ x, L x ≤ 10)
    (h : ∀ e, bi_run L d e → post (nI e)) : ∀ n e, d ≤ e → e ≤ 16 → 16 - e < n → (∀ x, d ≤ x → x < e → L x = L d) → wX_endFrom_2 post (nI d) p c r K F T V S U (bi_aL L) O n (nI e) := by
  intro n
  induction n with
  | zero => intro e _ _ hn; omega
  | succ n ih =>
    intro e h1 h2 hn hx
    rw [wX_endFrom_2]
    refine pk_le 16 e (fun z => h e ⟨h1, h2, hx, Or.inl (by omega)⟩) (fun z => ⟨vp_in_nI (by omega) (by decide), vp_in_nI hd (by decide), bi_b_lv (L e) (L d) (bi_rL (by omega)) (bi_rL (by omega)) (hL _) (hL _) (fun y => nm_r (nI_1 e) (ih (e + 1) (by omega) (by omega) (by omega) (fun x a b => ?_))) (fun y => h e ⟨h1, h2, hx, Or.inr y⟩)⟩) rfl rfl (by decide) (by omega)
    by_cases c : x = e
    · rw [c]; exact y
    · exact hx x a (by omega)
theorem bi_x_end {post : Int32 → Prop} {P C R : Nat} {ρ : Nat → bi_Rw} {L O : Nat → Nat} {d : Nat} (hd : d < 17) (hL : ∀ x, L x ≤ 10)
    (h : ∀ e, bi_run L d e → post (nI e)) : wpX_endFrom post (bi_xs P C R ρ L O) (nI d) :=
  Exists.intro 17 (bi_x_end2 hd hL h 17 d (Nat.le_refl d) (by omega) (by omega) (fun x a b => by omega))
end
section
/-! the component's lines -/
theorem bi_x_rl49 {post : SX → Prop} {J23 : Int32 → (Nat → Int32) → (Nat → Int32) → (Nat → Int32) → (Nat → Int32) → (Nat → Int32) → (Nat → Int32) → (Nat → Int32) → (Nat → Int32) → Prop}
    {x1 x2 p c r : Int32} {K F S U O : Nat → Int32} {ρ : Nat → bi_Rw} {i : Nat} (hi : i < 160) (hT : bi_T (ρ i) ≤ 16) (hV : bi_V (ρ i) ≤ 9) :
    ∀ n d L, bi_T (ρ i) - d < n → d ≤ bi_T (ρ i) → (∀ x, L x ≤ 10) →
      (∀ L', (∀ x, d ≤ x → x < bi_T (ρ i) → L' x = bi_V (ρ i) + 1) → (∀ x, x < d ∨ bi_T (ρ i) ≤ x → L' x = L x) → (∀ x, L' x ≤ 10) → J23 (nI (i + 1)) K F (bi_aT ρ) (bi_aV ρ) S U (bi_aL L') O) →
      wX_readLine_49 post J23 x1 x2 (nI i) p c r n (nI d) K F (bi_aT ρ) (bi_aV ρ) S U (bi_aL L) O := by
  intro n
  induction n with
  | zero => intro d L hn; omega
  | succ n ih =>
    intro d L hn hd hL h
    rw [wX_readLine_49]
    have hv : vp_in (nI i) 160 := vp_in_nI hi (by decide)
    refine ⟨hv, pk_le (bi_T (ρ i)) d (fun z => nm_r (nI_1 i) (h L (fun x a b => by omega) (fun x _ => rfl) hL)) (fun z => ⟨hv, vp_in_nI (by omega) (by decide), nm_r (e' := bi_aL (bi_un L d (bi_V (ρ i) + 1))) ?_ (nm_r (nI_1 d) (ih (d + 1) _ (by omega) (by omega) (bi_un_le hL (by omega)) (fun L' h1 h2 h3 => h L' ?_ ?_ h3)))⟩) (bi_rT (by omega)) rfl (by omega) (by omega)⟩
    · rw [bi_rVl (by omega), bi_nl (by omega), bi_wL (by omega)]
    · intro x a b
      by_cases e : x = d
      · rw [h2 x (Or.inl (by omega)), e, bi_un_s]
      · exact h1 x (by omega) b
    · intro x a
      rw [h2 x (by omega), bi_un_n (by omega)]
theorem bi_x_rl23 {post : SX → Prop} {P C R : Nat} {ρ : Nat → bi_Rw} {O g : Nat → Nat} {k t : Nat} (hP : P ≤ 60) (hR : R ≤ 160) (hW : bi_IW P R ρ) (hk : k < 4) (ht : t ≤ P)
    (hA : ∀ i, i < R → bi_Cov (ρ i) k t → bi_PR g (ρ i)) (hB : ∀ d, d < 16 → 0 < g d → ∃ i, i < R ∧ bi_Cov (ρ i) k t ∧ bi_F (ρ i) ≤ d ∧ d < bi_T (ρ i))
    (h : ∀ L', (∀ d, d < 16 → L' d = g d) → L' 16 = 0 → (∀ x, L' x ≤ 10) → post (bi_xs P C R ρ L' O)) :
    ∀ n i L, i ≤ R → R - i < n → (∀ x, L x ≤ 10) → L 16 = 0 → (∀ d, d < 16 → L d = 0 ∨ L d = g d) →
      (∀ j, j < i → bi_Cov (ρ j) k t → ∀ d, bi_F (ρ j) ≤ d → d < bi_T (ρ j) → L d = g d) →
      wX_readLine_23 post (nI k) (nI t) (nI P) (nI C) (nI R) n (nI i) (bi_aK ρ) (bi_aF ρ) (bi_aT ρ) (bi_aV ρ) (bi_aS ρ) (bi_aU ρ) (bi_aL L) (bi_aL O) := by
  intro n
  induction n with
  | zero => intro i L _ hn; omega
  | succ n ih =>
    intro i L hi hn hL h16 hz hj
    rw [wX_readLine_23]
    refine pk_le R i (fun z => h L (fun d hd => ?_) h16 hL) (fun z => ?_) rfl rfl (by omega) (by omega)
    · rcases hz d hd with e | e
      · by_cases c : 0 < g d
        · obtain ⟨j, h1, h2, h3, h4⟩ := hB d hd c
          exact hj j (by omega) h2 d h3 h4
        · omega
      · exact e
    · obtain ⟨w1, w2, w3, w4, w5, w6, w7⟩ := hW i z
      refine bi_x_cov hP (hW i z) (by omega) hk ht (fun hc => ?_) (fun hc => ?_)
      · refine br_f bi_10 ⟨vp_in_nI (by omega) (by decide), nm_r (bi_rF (by omega)) ⟨17, bi_x_rl49 (by omega) w3 w4 17 (bi_F (ρ i)) L (by omega) (by omega) hL (fun L' h1 h2 h3 => ?_)⟩⟩
        have hp := hA i z hc
        have hg : ∀ x, bi_F (ρ i) ≤ x → x < bi_T (ρ i) → L' x = g x := by
          intro x a b
          rw [h1 x a b, hp.1.2.2.2.2.1 x a b, hp.2]
        refine ih (i + 1) L' (by omega) (by omega) h3 ?_ ?_ ?_
        · rw [h2 16 (Or.inr w3)]; exact h16
        · intro d hd
          by_cases c : bi_F (ρ i) ≤ d ∧ d < bi_T (ρ i)
          · exact Or.inr (hg d c.1 c.2)
          · rw [h2 d (by omega)]; exact hz d hd
        · intro j hj' hc' d a b
          by_cases c : bi_F (ρ i) ≤ d ∧ d < bi_T (ρ i)
          · exact hg d c.1 c.2
          · rw [h2 d (by omega)]
            by_cases e : j = i
            · rw [e] at a b; omega
            · exact hj j (by omega) hc' d a b
      · refine br_t rfl (nm_r (nI_1 i) (ih (i + 1) L (by omega) (by omega) hL h16 hz (fun j hj' hc' => ?_)))
        by_cases e : j = i
        · rw [e] at hc'; exact absurd hc' hc
        · exact hj j (by omega) hc'
theorem bi_x_rl2 {post : SX → Prop} {x1 x2 p c r : Int32} {K F T V S U O : Nat → Int32}
    (h : ∀ L', (∀ d, d ≤ 16 → L' d = 0) → (∀ x, L' x ≤ 10) → ∃ n, wX_readLine_23 post x1 x2 p c r n 0 K F T V S U (bi_aL L') O) :
    ∀ n i L, i ≤ 17 → 17 - i < n → (∀ x, L x ≤ 10) → (∀ d, d < i → L d = 0) → wX_readLine_2 post x1 x2 p c r n (nI i) K F T V S U (bi_aL L) O := by
  intro n
  induction n with
  | zero => intro i L _ hn; omega
  | succ n ih =>
    intro i L hi hn hL hz
    rw [wX_readLine_2]
    refine pk_lt 16 i (fun z => h L (fun d hd => hz d (by omega)) hL) (fun z => ⟨vp_in_nI (by omega) (by decide), nm_r (e' := bi_aL (bi_un L i 0)) ?_ (nm_r (nI_1 i) (ih (i + 1) _ (by omega) (by omega) (bi_un_le hL (by omega)) (fun d hd => ?_)))⟩) rfl rfl (by decide) (by omega)
    · rw [← bi_lv_0, bi_nl (by omega), bi_wL (by omega)]
    · by_cases e : d = i
      · rw [e, bi_un_s]
      · rw [bi_un_n e]; exact hz d (by omega)
theorem bi_x_readLine {post : SX → Prop} {P C R : Nat} {ρ : Nat → bi_Rw} {L O G : Nat → Nat} {k t : Nat} (I : bi_Inv P R ρ G) (hP : P ≤ 60) (hR : R ≤ 160) (hk : k < 4) (ht : t ≤ P) (hL : ∀ x, L x ≤ 10)
    (h : ∀ L', (∀ d, d < 16 → L' d = bi_gl G t k d) → L' 16 = 0 → (∀ x, L' x ≤ 10) → post (bi_xs P C R ρ L' O)) :
    wpX_readLine post (bi_xs P C R ρ L O) (nI k) (nI t) := by
  refine Exists.intro 18 (bi_x_rl2 (fun L' h1 h2 => ⟨R + 1, ?_⟩) 18 0 L (by omega) (by omega) hL (fun d hd => by omega))
  exact bi_x_rl23 hP hR I.1 hk ht (fun i hi hc => I.2.1 i t k hi ht hc) (fun d hd hg => I.2.2.1 t k d ht hk hd hg) h (R + 1) 0 L' (by omega) (by omega) h2 (h1 16 (by omega)) (fun d hd => Or.inl (h1 d (by omega))) (fun j hj => by omega)
theorem bi_x_keep2 {post : SX → Prop} {p c r : Int32} {K F T V S U : Nat → Int32} {L : Nat → Nat} (hL : ∀ x, L x ≤ 10)
    (h : ∀ O', (∀ d, d ≤ 16 → O' d = L d) → (∀ x, O' x ≤ 10) → post (p, c, r, K, F, T, V, S, U, bi_aL L, bi_aL O')) :
    ∀ n i O, i ≤ 17 → 17 - i < n → (∀ x, O x ≤ 10) → (∀ d, d < i → O d = L d) → wX_keepLine_2 post p c r n (nI i) K F T V S U (bi_aL L) (bi_aL O) := by
  intro n
  induction n with
  | zero => intro i L _ hn; omega
  | succ n ih =>
    intro i O hi hn hO hz
    rw [wX_keepLine_2]
    refine pk_lt 16 i (fun z => h O (fun d hd => hz d (by omega)) hO) (fun z => ⟨vp_in_nI (by omega) (by decide), vp_in_nI (by omega) (by decide), nm_r (e' := bi_aL (bi_un O i (L i))) ?_ (nm_r (nI_1 i) (ih (i + 1) _ (by omega) (by omega) (bi_un_le hO (hL i)) (fun d hd => ?_)))⟩) rfl rfl (by decide) (by omega)
    · rw [bi_rL (by omega), bi_nl (hL i), bi_wL (by omega)]
    · by_cases e : d = i
      · rw [e, bi_un_s]
      · rw [bi_un_n e]; exact hz d (by omega)
theorem bi_x_keepLine {post : SX → Prop} {P C R : Nat} {ρ : Nat → bi_Rw} {L O : Nat → Nat} (hL : ∀ x, L x ≤ 10) (hO : ∀ x, O x ≤ 10)
    (h : ∀ O', (∀ d, d ≤ 16 → O' d = L d) → (∀ x, O' x ≤ 10) → post (bi_xs P C R ρ L O')) : wpX_keepLine post (bi_xs P C R ρ L O) :=
  Exists.intro 18 (bi_x_keep2 hL h 18 0 O (by omega) (by omega) hO (fun d hd => by omega))
/-- the value of a day at a tick -/
theorem bi_x_val3 {post : Int32 → Prop} {P C R : Nat} {ρ : Nat → bi_Rw} {L O : Nat → Nat} {k t d : Nat} (hP : P ≤ 60) (hR : R ≤ 160) (hW : bi_IW P R ρ) (hk : k < 4) (ht : t ≤ P) (hd : d < 16)
    (h1 : ∀ i, i < R → bi_Cov (ρ i) k t → bi_F (ρ i) ≤ d → d < bi_T (ρ i) → post (nI (bi_V (ρ i))))
    (h0 : (∀ i, i < R → bi_Cov (ρ i) k t → bi_F (ρ i) ≤ d → d < bi_T (ρ i) → False) → post (-1)) :
    ∀ n i, i ≤ R → R - i < n → (∀ j, j < i → bi_Cov (ρ j) k t → bi_F (ρ j) ≤ d → d < bi_T (ρ j) → False) →
      wX_valueAt_3 post (nI t) (nI k) (nI d) (nI P) (nI C) (nI R) (bi_aK ρ) (bi_aF ρ) (bi_aT ρ) (bi_aV ρ) (bi_aS ρ) (bi_aU ρ) (bi_aL L) (bi_aL O) n (nI i) := by
  intro n
  induction n with
  | zero => intro i _ hn; omega
  | succ n ih =>
    intro i hi hn hj
    rw [wX_valueAt_3]
    refine pk_le R i (fun z => h0 (fun j hjR => hj j (by omega))) (fun z => ?_) rfl rfl (by omega) (by omega)
    obtain ⟨w1, w2, w3, w4, w5, w6, w7⟩ := hW i z
    have hv : vp_in (nI i) 160 := vp_in_nI (by omega) (by decide)
    have next : (bi_Cov (ρ i) k t → bi_F (ρ i) ≤ d → d < bi_T (ρ i) → False) → ∀ x, x = nI i + 1 → wX_valueAt_3 post (nI t) (nI k) (nI d) (nI P) (nI C) (nI R) (bi_aK ρ) (bi_aF ρ) (bi_aT ρ) (bi_aV ρ) (bi_aS ρ) (bi_aU ρ) (bi_aL L) (bi_aL O) n x := by
      intro hc
      refine nm_r (nI_1 i) (ih (i + 1) (by omega) (by omega) (fun j hj' => ?_))
      by_cases e : j = i
      · rw [e]; exact hc
      · exact hj j (by omega)
    refine bi_x_cov hP (hW i z) (by omega) hk ht (fun hc => ?_) (fun hc => ?_)
    · refine br_f bi_10 ⟨hv, pk_lt d (bi_F (ρ i)) (fun y => next (fun _ _ _ => by omega)) (fun y => ⟨hv, pk_le (bi_T (ρ i)) d (fun y2 => next (fun _ _ _ => by omega)) (fun y2 => ⟨hv, ?_⟩) (bi_rT (by omega)) rfl (by omega) (by omega)⟩) rfl (bi_rF (by omega)) (by omega) (by omega)⟩
      rw [bi_rV (by omega)]
      exact h1 i z hc y y2
    · exact br_t rfl (next (fun z2 => absurd z2 hc))
theorem bi_x_val {post : Int32 → Prop} {P C R : Nat} {ρ : Nat → bi_Rw} {L O G : Nat → Nat} {k t d : Nat} (I : bi_Inv P R ρ G) (hP : P ≤ 60) (hR : R ≤ 160) (hk : k < 4) (ht : t ≤ P) (hd : d < 16)
    (h : post (bi_lv (bi_gl G t k d))) : wpX_valueAt post (bi_xs P C R ρ L O) (nI t) (nI k) (nI d) := by
  refine Exists.intro (R + 1) (bi_x_val3 hP hR I.1 hk ht hd (fun i hi hc h1 h2 => ?_) (fun hno => ?_) (R + 1) 0 (by omega) (by omega) (fun j hj => by omega))
  · have hp := I.2.1 i t k hi ht hc
    rw [hp.1.2.2.2.2.1 d h1 h2, hp.2, bi_lv_s] at h
    exact h
  · have hz : bi_gl G t k d = 0 := by
      by_cases c : 0 < bi_gl G t k d
      · obtain ⟨i, hi, hc, h1, h2⟩ := I.2.2.1 t k d ht hk hd c
        exact (hno i hi hc h1 h2).elim
      · omega
    rw [hz, bi_lv_0] at h
    exact h
end
section
/-! the component's questions -/
theorem bi_x_per5 {post : Int32 → Prop} {P C R : Nat} {ρ : Nat → bi_Rw} {L O : Nat → Nat} {k t : Nat} (hP : P ≤ 60) (hR : R ≤ 160) (hW : bi_IW P R ρ) (hk : k < 4) (ht : t ≤ P)
    (h : post (nI (bi_cnt (fun i => bi_Cov (ρ i) k t) R))) :
    ∀ n i, i ≤ R → R - i < n → wX_periods_5 post (nI t) (nI k) (nI P) (nI C) (nI R) (bi_aK ρ) (bi_aF ρ) (bi_aT ρ) (bi_aV ρ) (bi_aS ρ) (bi_aU ρ) (bi_aL L) (bi_aL O) n (nI (bi_cnt (fun i => bi_Cov (ρ i) k t) i)) (nI i) := by
  intro n
  induction n with
  | zero => intro i _ hn; omega
  | succ n ih =>
    intro i hi hn
    rw [wX_periods_5]
    refine pk_le R i (fun z => ?_) (fun z => ?_) rfl rfl (by omega) (by omega)
    · have e : i = R := by omega
      rw [e]; exact h
    · have hs := ih (i + 1) (by omega) (by omega)
      refine bi_x_tick hP ht (br_f bi_10 (bi_x_cov hP (hW i z) (by omega) hk ht (fun hc => br_f bi_10 ?_) (fun hc => br_t rfl ?_)))
      · rw [bi_cnt_t (p := fun i => bi_Cov (ρ i) k t) hc] at hs
        exact nm_r (nI_1 _) (nm_r (nI_1 i) hs)
      · rw [bi_cnt_f (p := fun i => bi_Cov (ρ i) k t) hc] at hs
        exact nm_r (Int32.add_zero _) (nm_r (nI_1 i) hs)
theorem bi_x_per5F {post : Int32 → Prop} {P C R : Nat} {ρ : Nat → bi_Rw} {L O : Nat → Nat} {p q : Int32} (hP : P ≤ 60) (hR : R ≤ 160) (hW : bi_IW P R ρ)
    (hp : (p < 0 ∨ nI P < p) ∨ (∃ t, t ≤ P ∧ p = nI t) ∧ (q < 0 ∨ nI 4 ≤ q)) (h : post 0) :
    ∀ n i, i ≤ R → R - i < n → wX_periods_5 post p q (nI P) (nI C) (nI R) (bi_aK ρ) (bi_aF ρ) (bi_aT ρ) (bi_aV ρ) (bi_aS ρ) (bi_aU ρ) (bi_aL L) (bi_aL O) n 0 (nI i) := by
  intro n
  induction n with
  | zero => intro i _ hn; omega
  | succ n ih =>
    intro i hi hn
    rw [wX_periods_5]
    refine pk_le R i (fun z => h) (fun z => ?_) rfl rfl (by omega) (by omega)
    have hs := ih (i + 1) (by omega) (by omega)
    rcases hp with hp | ⟨⟨t, ht, rfl⟩, hq⟩
    · exact bi_x_tickF hp (br_t rfl (nm_r (Int32.add_zero _) (nm_r (nI_1 i) hs)))
    · exact bi_x_tick hP ht (br_f bi_10 (bi_x_covF (hW i z) (by omega) hq (br_t rfl (nm_r (Int32.add_zero _) (nm_r (nI_1 i) hs)))))
theorem bi_x_ear6 {post : Int32 → Prop} {P C R : Nat} {ρ : Nat → bi_Rw} {L O : Nat → Nat} {k t j : Nat} (hP : P ≤ 60) (hR : R ≤ 160) (hW : bi_IW P R ρ) (hk : k < 4) (ht : t ≤ P) (hj : j < R)
    (h : post (nI (bi_cnt (fun i => bi_Cov (ρ i) k t ∧ bi_F (ρ i) < bi_F (ρ j)) R))) :
    ∀ n i, i ≤ R → R - i < n → wX_earlier_6 post (nI j) (nI k) (nI t) (nI P) (nI C) (nI R) (bi_aK ρ) (bi_aF ρ) (bi_aT ρ) (bi_aV ρ) (bi_aS ρ) (bi_aU ρ) (bi_aL L) (bi_aL O) n (nI (bi_cnt (fun i => bi_Cov (ρ i) k t ∧ bi_F (ρ i) < bi_F (ρ j)) i)) (nI i) := by
  intro n
  induction n with
  | zero => intro i _ hn; omega
  | succ n ih =>
    intro i hi hn
    rw [wX_earlier_6]
    refine pk_le R i (fun z => ?_) (fun z => ?_) rfl rfl (by omega) (by omega)
    · have e : i = R := by omega
      rw [e]; exact h
    · have hs := ih (i + 1) (by omega) (by omega)
      obtain ⟨w1, w2, w3, w4, w5, w6, w7⟩ := hW i z
      obtain ⟨v1, v2, v3, v4, v5, v6, v7⟩ := hW j hj
      refine bi_x_cov hP (hW i z) (by omega) hk ht (fun hc => br_f bi_10 ⟨vp_in_nI (by omega) (by decide), vp_in_nI (by omega) (by decide), pk_le (bi_F (ρ j)) (bi_F (ρ i)) (fun y => ?_) (fun y => ?_) (bi_rF (by omega)) (bi_rF (by omega)) (by omega) (by omega)⟩) (fun hc => br_t rfl ?_)
      · rw [bi_cnt_f (p := fun i => bi_Cov (ρ i) k t ∧ bi_F (ρ i) < bi_F (ρ j)) (fun x => by have := x.2; omega)] at hs
        exact nm_r (Int32.add_zero _) (nm_r (nI_1 i) hs)
      · rw [bi_cnt_t (p := fun i => bi_Cov (ρ i) k t ∧ bi_F (ρ i) < bi_F (ρ j)) ⟨hc, y⟩] at hs
        exact nm_r (nI_1 _) (nm_r (nI_1 i) hs)
      · rw [bi_cnt_f (p := fun i => bi_Cov (ρ i) k t ∧ bi_F (ρ i) < bi_F (ρ j)) (fun x => hc x.1)] at hs
        exact nm_r (Int32.add_zero _) (nm_r (nI_1 i) hs)
theorem bi_x_ear {post : Int32 → Prop} {P C R : Nat} {ρ : Nat → bi_Rw} {L O G : Nat → Nat} {k t j : Nat} (I : bi_Inv P R ρ G) (hP : P ≤ 60) (hR : R ≤ 160) (hk : k < 4) (ht : t ≤ P) (hj : j < R)
    (h : post (nI (bi_cnt (bi_bg (bi_gl G t k)) (bi_F (ρ j))))) : wpX_earlier post (bi_xs P C R ρ L O) (nI j) (nI k) (nI t) := by
  have w := I.1 j hj
  rw [← bi_inv_cnt I ht hk (show bi_F (ρ j) ≤ 16 by have := w.2.1; have := w.2.2.1; omega)] at h
  exact Exists.intro (R + 1) (bi_x_ear6 hP hR I.1 hk ht hj h (R + 1) 0 (by omega) (by omega))
/-- the row of period number p -/
theorem bi_x_row3 {post : Int32 → Prop} {P C R : Nat} {ρ : Nat → bi_Rw} {L O G : Nat → Nat} {k t : Nat} {p : Int32} (I : bi_Inv P R ρ G) (hP : P ≤ 60) (hR : R ≤ 160) (hk : k < 4) (ht : t ≤ P)
    (h1 : ∀ i, i < R → bi_Cov (ρ i) k t → nI (bi_cnt (bi_bg (bi_gl G t k)) (bi_F (ρ i))) = p → post (nI i))
    (h0 : (∀ i, i < R → bi_Cov (ρ i) k t → nI (bi_cnt (bi_bg (bi_gl G t k)) (bi_F (ρ i))) = p → False) → post (-1)) :
    ∀ n i, i ≤ R → R - i < n → (∀ j, j < i → bi_Cov (ρ j) k t → nI (bi_cnt (bi_bg (bi_gl G t k)) (bi_F (ρ j))) = p → False) →
      wX_rowOf_3 post (nI t) (nI k) p (nI P) (nI C) (nI R) (bi_aK ρ) (bi_aF ρ) (bi_aT ρ) (bi_aV ρ) (bi_aS ρ) (bi_aU ρ) (bi_aL L) (bi_aL O) n (nI i) := by
  intro n
  induction n with
  | zero => intro i _ hn; omega
  | succ n ih =>
    intro i hi hn hj
    rw [wX_rowOf_3]
    refine pk_le R i (fun z => h0 (fun j hjR => hj j (by omega))) (fun z => ?_) rfl rfl (by omega) (by omega)
    have next : (bi_Cov (ρ i) k t → nI (bi_cnt (bi_bg (bi_gl G t k)) (bi_F (ρ i))) = p → False) → ∀ x, x = nI i + 1 → wX_rowOf_3 post (nI t) (nI k) p (nI P) (nI C) (nI R) (bi_aK ρ) (bi_aF ρ) (bi_aT ρ) (bi_aV ρ) (bi_aS ρ) (bi_aU ρ) (bi_aL L) (bi_aL O) n x := by
      intro hc
      refine nm_r (nI_1 i) (ih (i + 1) (by omega) (by omega) (fun j hj' => ?_))
      by_cases e : j = i
      · rw [e]; exact hc
      · exact hj j (by omega)
    refine bi_x_tick hP ht (br_f bi_10 (bi_x_cov hP (I.1 i z) (by omega) hk ht (fun hc => br_f bi_10 (bi_x_ear I hP hR hk ht z (br_c (fun y => h1 i z hc y) (fun y => next (fun _ y2 => y y2))))) (fun hc => br_t rfl (next (fun z2 => absurd z2 hc)))))
theorem bi_x_row3F {post : Int32 → Prop} {P C R : Nat} {ρ : Nat → bi_Rw} {L O : Nat → Nat} {p q v : Int32} (hP : P ≤ 60) (hR : R ≤ 160) (hW : bi_IW P R ρ)
    (hp : (p < 0 ∨ nI P < p) ∨ (∃ t, t ≤ P ∧ p = nI t) ∧ (q < 0 ∨ nI 4 ≤ q)) (h : post (-1)) :
    ∀ n i, i ≤ R → R - i < n → wX_rowOf_3 post p q v (nI P) (nI C) (nI R) (bi_aK ρ) (bi_aF ρ) (bi_aT ρ) (bi_aV ρ) (bi_aS ρ) (bi_aU ρ) (bi_aL L) (bi_aL O) n (nI i) := by
  intro n
  induction n with
  | zero => intro i _ hn; omega
  | succ n ih =>
    intro i hi hn
    rw [wX_rowOf_3]
    refine pk_le R i (fun z => h) (fun z => ?_) rfl rfl (by omega) (by omega)
    have hs := ih (i + 1) (by omega) (by omega)
    rcases hp with hp | ⟨⟨t, ht, rfl⟩, hq⟩
    · exact bi_x_tickF hp (br_t rfl (nm_r (nI_1 i) hs))
    · exact bi_x_tick hP ht (br_f bi_10 (bi_x_covF (hW i z) (by omega) hq (br_t rfl (nm_r (nI_1 i) hs))))
theorem bi_x_row {post : Int32 → Prop} {P C R : Nat} {ρ : Nat → bi_Rw} {L O G : Nat → Nat} {k t : Nat} {p : Int32} (I : bi_Inv P R ρ G) (hP : P ≤ 60) (hR : R ≤ 160) (hk : k < 4) (ht : t ≤ P)
    (h1 : ∀ i, i < R → bi_Cov (ρ i) k t → nI (bi_cnt (bi_bg (bi_gl G t k)) (bi_F (ρ i))) = p → post (nI i))
    (h0 : (∀ i, i < R → bi_Cov (ρ i) k t → nI (bi_cnt (bi_bg (bi_gl G t k)) (bi_F (ρ i))) = p → False) → post (-1)) : wpX_rowOf post (bi_xs P C R ρ L O) (nI t) (nI k) p :=
  Exists.intro (R + 1) (bi_x_row3 I hP hR hk ht h1 h0 (R + 1) 0 (by omega) (by omega) (fun j hj => by omega))
theorem bi_x_rowF {post : Int32 → Prop} {P C R : Nat} {ρ : Nat → bi_Rw} {L O : Nat → Nat} {p q v : Int32} (hP : P ≤ 60) (hR : R ≤ 160) (hW : bi_IW P R ρ)
    (hp : (p < 0 ∨ nI P < p) ∨ (∃ t, t ≤ P ∧ p = nI t) ∧ (q < 0 ∨ nI 4 ≤ q)) (h : post (-1)) : wpX_rowOf post (bi_xs P C R ρ L O) p q v :=
  Exists.intro (R + 1) (bi_x_row3F hP hR hW hp h (R + 1) 0 (by omega) (by omega))
/-! eras -/
def bi_chg (g : Nat → Nat) (t : Nat) : Prop := t = 0 ∨ g t ≠ g (t - 1)
theorem bi_x_nt14 {post : Int32 → Prop} {P C R : Nat} {ρ : Nat → bi_Rw} {L O G : Nat → Nat} {k d t : Nat} (I : bi_Inv P R ρ G) (hP : P ≤ 60) (hR : R ≤ 160) (hG : ∀ c, G c ≤ 10) (hk : k < 4) (hd : d < 16) (ht : t ≤ P)
    (h1 : ∀ u, t < u → u ≤ P → bi_chg (fun t => bi_gl G t k d) u → (∀ x, t < x → x < u → ¬ bi_chg (fun t => bi_gl G t k d) x) → post (nI u))
    (h0 : (∀ x, t < x → x ≤ P → ¬ bi_chg (fun t => bi_gl G t k d) x) → post (-1)) :
    ∀ n u, t < u → u ≤ P + 1 → P + 1 - u < n → (∀ x, t ≤ x → x < u → bi_gl G x k d = bi_gl G t k d) →
      wX_nextTurn_14 post (nI k) (nI d) (bi_lv (bi_gl G t k d)) (nI P) (nI C) (nI R) (bi_aK ρ) (bi_aF ρ) (bi_aT ρ) (bi_aV ρ) (bi_aS ρ) (bi_aU ρ) (bi_aL L) (bi_aL O) n (nI u) := by
  intro n
  induction n with
  | zero => intro u _ _ hn; omega
  | succ n ih =>
    intro u hu hu2 hn hx
    have flat : ∀ x, t < x → x < u → ¬ bi_chg (fun t => bi_gl G t k d) x := by
      intro x a b c
      rcases c with c | c
      · omega
      · exact c ((hx x (by omega) b).trans (hx (x - 1) (by omega) (by omega)).symm)
    rw [wX_nextTurn_14]
    refine pk_lt P u (fun z => h0 (fun x a b => flat x a (by omega))) (fun z => ?_) rfl rfl (by omega) (by omega)
    refine bi_x_val I hP hR hk z hd (bi_b_lv (bi_gl G u k d) (bi_gl G t k d) rfl rfl (hG _) (hG _) (fun y => nm_r (nI_1 u) (ih (u + 1) (by omega) (by omega) (by omega) (fun x a b => ?_))) (fun y => h1 u hu z (Or.inr ?_) flat))
    · by_cases e : x = u
      · rw [e]; exact y
      · exact hx x a (by omega)
    · show bi_gl G u k d ≠ bi_gl G (u - 1) k d
      rw [hx (u - 1) (by omega) (by omega)]
      exact y
theorem bi_x_nt {post : Int32 → Prop} {P C R : Nat} {ρ : Nat → bi_Rw} {L O G : Nat → Nat} {k d t : Nat} (I : bi_Inv P R ρ G) (hP : P ≤ 60) (hR : R ≤ 160) (hG : ∀ c, G c ≤ 10) (hk : k < 4) (hd : d < 16) (ht : t ≤ P)
    (h1 : ∀ u, t < u → u ≤ P → bi_chg (fun t => bi_gl G t k d) u → (∀ x, t < x → x < u → ¬ bi_chg (fun t => bi_gl G t k d) x) → post (nI u))
    (h0 : (∀ x, t < x → x ≤ P → ¬ bi_chg (fun t => bi_gl G t k d) x) → post (-1)) : wpX_nextTurn post (bi_xs P C R ρ L O) (nI k) (nI d) (nI t) := by
  unfold wpX_nextTurn
  dsimp only
  refine bi_x_val I hP hR hk ht hd (nm_r (nI_1 t) ⟨P + 1, bi_x_nt14 I hP hR hG hk hd ht h1 h0 (P + 1) (t + 1) (by omega) (by omega) (by omega) (fun x a b => ?_)⟩)
  have e : x = t := by omega
  rw [e]
/-- one step: era number r begins at t -/
theorem bi_x_ntE {post : Int32 → Prop} {P C R : Nat} {ρ : Nat → bi_Rw} {L O G : Nat → Nat} {k d t r : Nat} (I : bi_Inv P R ρ G) (hP : P ≤ 60) (hR : R ≤ 160) (hG : ∀ c, G c ≤ 10) (hk : k < 4) (hd : d < 16) (ht : t ≤ P)
    (hc : bi_chg (fun t => bi_gl G t k d) t) (hr : bi_cnt (bi_chg (fun t => bi_gl G t k d)) t = r)
    (h1 : ∀ u, u ≤ P → bi_chg (fun t => bi_gl G t k d) u → bi_cnt (bi_chg (fun t => bi_gl G t k d)) u = r + 1 → post (nI u))
    (h0 : bi_cnt (bi_chg (fun t => bi_gl G t k d)) (P + 1) = r + 1 → post (-1)) : wpX_nextTurn post (bi_xs P C R ρ L O) (nI k) (nI d) (nI t) := by
  refine bi_x_nt I hP hR hG hk hd ht (fun u a b c f => h1 u b c ?_) (fun f => h0 ?_)
  · rw [bi_cnt_flat (a := t + 1) u (by omega) (fun x p q => f x (by omega) q), bi_cnt_t hc, hr]
  · rw [bi_cnt_flat (a := t + 1) (P + 1) (by omega) (fun x p q => f x (by omega) (by omega)), bi_cnt_t hc, hr]
theorem bi_x_eras24 {post : Int32 → Prop} {P C R : Nat} {ρ : Nat → bi_Rw} {L O G : Nat → Nat} {k d : Nat} (I : bi_Inv P R ρ G) (hP : P ≤ 60) (hR : R ≤ 160) (hG : ∀ c, G c ≤ 10) (hk : k < 4) (hd : d < 16)
    (h : post (nI (bi_cnt (bi_chg (fun t => bi_gl G t k d)) (P + 1)))) :
    ∀ n r t, r ≤ 60 → 62 - r < n → t ≤ P → bi_chg (fun t => bi_gl G t k d) t → bi_cnt (bi_chg (fun t => bi_gl G t k d)) t = r →
      wX_eras_24 post (nI k) (nI d) (nI P) (nI C) (nI R) (bi_aK ρ) (bi_aF ρ) (bi_aT ρ) (bi_aV ρ) (bi_aS ρ) (bi_aU ρ) (bi_aL L) (bi_aL O) n (nI r) (nI t) (nI r) := by
  intro n
  induction n with
  | zero => intro r t _ hn; omega
  | succ n ih =>
    intro r t hr hn ht hc hcr
    rw [wX_eras_24]
    refine pk_lt 60 r (fun z => by omega) (fun z => br_f (nI_pos (by omega)) (nm_r (nI_1 r) (bi_x_ntE I hP hR hG hk hd ht hc hcr (fun u a b c => nm_r (nI_1 r) ?_) (fun e => nm_r (nI_1 r) ?_)))) rfl rfl (by decide) (by omega)
    · have hu : bi_cnt (bi_chg (fun t => bi_gl G t k d)) u ≤ u := bi_cnt_le _ u
      exact ih (r + 1) u (by omega) (by omega) a b c
    · rw [e] at h
      cases n with
      | zero => omega
      | succ m =>
        rw [wX_eras_24]
        refine br_c (fun _ => h) (fun _ => br_t (by decide) h)
theorem bi_x_eraF60 {post : Int32 → Prop} {p t : Int32} {a b c : Int32} {K F T V S U L O : Nat → Int32} (hp : 60 < p) (h : post (-1)) : wX_eraFrom_60 post p t a b c K F T V S U L O := by
  refine br_c (fun _ => h) (fun _ => br_f ?_ h)
  rw [Int32.le_iff_toInt_le]
  rw [Int32.lt_iff_toInt_lt] at hp
  omega
theorem bi_x_eraF26 {post : Int32 → Prop} {P C R : Nat} {ρ : Nat → bi_Rw} {L O G : Nat → Nat} {k d i : Nat} (I : bi_Inv P R ρ G) (hP : P ≤ 60) (hR : R ≤ 160) (hG : ∀ c, G c ≤ 10) (hk : k < 4) (hd : d < 16) (hi : i ≤ 60)
    (h1 : ∀ t, t ≤ P → bi_chg (fun t => bi_gl G t k d) t → bi_cnt (bi_chg (fun t => bi_gl G t k d)) t = i → post (nI t))
    (h0 : bi_cnt (bi_chg (fun t => bi_gl G t k d)) (P + 1) ≤ i → post (-1)) :
    ∀ n r t, r ≤ i → 62 - r < n → t ≤ P → bi_chg (fun t => bi_gl G t k d) t → bi_cnt (bi_chg (fun t => bi_gl G t k d)) t = r →
      wX_eraFrom_26 post (nI k) (nI d) (nI i) (nI P) (nI C) (nI R) (bi_aK ρ) (bi_aF ρ) (bi_aT ρ) (bi_aV ρ) (bi_aS ρ) (bi_aU ρ) (bi_aL L) (bi_aL O) n (nI t) (nI r) := by
  intro n
  induction n with
  | zero => intro r t _ hn; omega
  | succ n ih =>
    intro r t hr hn ht hc hcr
    rw [wX_eraFrom_26]
    refine pk_le i r (fun z => ?_) (fun z => pk_lt 60 r (fun y => by omega) (fun y => br_f (nI_pos (by omega)) (bi_x_ntE I hP hR hG hk hd ht hc hcr (fun u a b c => nm_r (nI_1 r) (ih (r + 1) u (by omega) (by omega) a b c)) (fun e => nm_r (nI_1 r) ?_))) rfl rfl (by decide) (by omega)) rfl rfl (by omega) (by omega)
    · exact br_f (nI_pos (by omega)) (br_t (nI_le (b := 60) hi (by decide)) (h1 t ht hc (by omega)))
    · have hpost : post (-1) := h0 (by omega)
      have hj : wX_eraFrom_60 post (nI i) (-1) (nI P) (nI C) (nI R) (bi_aK ρ) (bi_aF ρ) (bi_aT ρ) (bi_aV ρ) (bi_aS ρ) (bi_aU ρ) (bi_aL L) (bi_aL O) := br_t (by decide) hpost
      cases n with
      | zero => omega
      | succ m =>
        rw [wX_eraFrom_26]
        exact br_c (fun _ => hj) (fun _ => br_c (fun _ => hj) (fun _ => br_t (by decide) hj))
/-- a number beyond 60: whatever the loop finds, the answer is none -/
theorem bi_x_eraF26b {post : Int32 → Prop} {P C R : Nat} {ρ : Nat → bi_Rw} {L O G : Nat → Nat} {k d : Nat} {p : Int32} (I : bi_Inv P R ρ G) (hP : P ≤ 60) (hR : R ≤ 160) (hG : ∀ c, G c ≤ 10) (hk : k < 4) (hd : d < 16) (hp : 60 < p)
    (h : post (-1)) :
    ∀ n r t, r ≤ 61 → 62 - r < n → t ≤ P →
      wX_eraFrom_26 post (nI k) (nI d) p (nI P) (nI C) (nI R) (bi_aK ρ) (bi_aF ρ) (bi_aT ρ) (bi_aV ρ) (bi_aS ρ) (bi_aU ρ) (bi_aL L) (bi_aL O) n (nI t) (nI r) := by
  intro n
  induction n with
  | zero => intro r t _ hn; omega
  | succ n ih =>
    intro r t hr hn ht
    rw [wX_eraFrom_26]
    have hj : ∀ x, wX_eraFrom_60 post p x (nI P) (nI C) (nI R) (bi_aK ρ) (bi_aF ρ) (bi_aT ρ) (bi_aV ρ) (bi_aS ρ) (bi_aU ρ) (bi_aL L) (bi_aL O) := fun x => bi_x_eraF60 hp h
    refine br_c (fun _ => hj _) (fun _ => pk_lt 60 r (fun _ => hj _) (fun y => br_f (nI_pos (by omega)) (bi_x_nt I hP hR hG hk hd ht (fun u a b _ _ => nm_r (nI_1 r) (ih (r + 1) u (by omega) (by omega) b)) (fun _ => nm_r (nI_1 r) ?_))) rfl rfl (by decide) (by omega))
    cases n with
    | zero => omega
    | succ m =>
      rw [wX_eraFrom_26]
      exact br_c (fun _ => hj _) (fun _ => br_c (fun _ => hj _) (fun _ => br_t (by decide) (hj _)))
/-! difference, count, agree, rectangles -/
theorem bi_x_dif48 {post : Int32 → SX → Prop} {p c r : Int32} {K F T V S U : Nat → Int32} {L O : Nat → Nat} (hL : ∀ x, L x ≤ 10) (hO : ∀ x, O x ≤ 10)
    (h : post (nI (bi_cnt (fun d => L d ≠ O d) 16)) (p, c, r, K, F, T, V, S, U, bi_aL L, bi_aL O)) :
    ∀ n i, i ≤ 16 → 16 - i < n → wX_difference_48 post p c r K F T V S U (bi_aL L) (bi_aL O) n (nI (bi_cnt (fun d => L d ≠ O d) i)) (nI i) := by
  intro n
  induction n with
  | zero => intro i _ hn; omega
  | succ n ih =>
    intro i hi hn
    rw [wX_difference_48]
    refine pk_le 16 i (fun z => ?_) (fun z => ?_) rfl rfl (by decide) (by omega)
    · have e : i = 16 := by omega
      rw [e]; exact h
    · have hs := ih (i + 1) (by omega) (by omega)
      refine ⟨vp_in_nI (by omega) (by decide), vp_in_nI (by omega) (by decide), bi_b_lv (L i) (O i) (bi_rL (by omega)) (bi_rL (by omega)) (hL i) (hO i) (fun y => ?_) (fun y => ?_)⟩
      · rw [bi_cnt_f (p := fun d => L d ≠ O d) (fun x => x y)] at hs
        exact nm_r (Int32.add_zero _) (nm_r (nI_1 i) hs)
      · rw [bi_cnt_t (p := fun d => L d ≠ O d) y] at hs
        exact nm_r (nI_1 _) (nm_r (nI_1 i) hs)
noncomputable def bi_bits (p : Nat → Prop) : Nat → Int32
  | 0 => 0
  | n + 1 => @ite Int32 (p n) (Classical.propDecidable _) (bi_bits p n ||| ((1 : Int32) <<< (nI n &&& 31))) (bi_bits p n)
theorem bi_bits_t {p : Nat → Prop} {n : Nat} (h : p n) : bi_bits p (n + 1) = bi_bits p n ||| ((1 : Int32) <<< (nI n &&& 31)) := by
  rw [bi_bits, if_pos h]
theorem bi_bits_f {p : Nat → Prop} {n : Nat} (h : ¬ p n) : bi_bits p (n + 1) = bi_bits p n := by
  rw [bi_bits, if_neg h]
theorem bi_bits_congr {p q : Nat → Prop} : ∀ n, (∀ i, i < n → (p i ↔ q i)) → bi_bits p n = bi_bits q n := by
  intro n
  induction n with
  | zero => intro _; rfl
  | succ n ih =>
    intro h
    have e := ih (fun i hi => h i (by omega))
    by_cases hp : p n
    · rw [bi_bits_t hp, bi_bits_t ((h n (by omega)).mp hp), e]
    · rw [bi_bits_f hp, bi_bits_f (fun z => hp ((h n (by omega)).mpr z)), e]
theorem bi_or0 (x : Int32) : x ||| 0 = x := Int32.or_zero
theorem bi_x_agr46 {post : Int32 → SX → Prop} {p c r : Int32} {K F T V S U : Nat → Int32} {L O : Nat → Nat} (hL : ∀ x, L x ≤ 10) (hO : ∀ x, O x ≤ 10)
    (h : post (bi_bits (fun d => 0 < L d ∧ L d = O d) 16) (p, c, r, K, F, T, V, S, U, bi_aL L, bi_aL O)) :
    ∀ n i, i ≤ 16 → 16 - i < n → wX_agree_46 post p c r K F T V S U (bi_aL L) (bi_aL O) n (bi_bits (fun d => 0 < L d ∧ L d = O d) i) (nI i) := by
  intro n
  induction n with
  | zero => intro i _ hn; omega
  | succ n ih =>
    intro i hi hn
    rw [wX_agree_46]
    refine pk_le 16 i (fun z => ?_) (fun z => ?_) rfl rfl (by decide) (by omega)
    · have e : i = 16 := by omega
      rw [e]; exact h
    · have hs := ih (i + 1) (by omega) (by omega)
      have hv : vp_in (nI i) 17 := vp_in_nI (by omega) (by decide)
      refine ⟨hv, bi_b_neg (L i) (bi_rL (by omega)) (hL i) (fun y => ?_) (fun y => ⟨hv, hv, bi_b_lv (L i) (O i) (bi_rL (by omega)) (bi_rL (by omega)) (hL i) (hO i) (fun y2 => ?_) (fun y2 => ?_)⟩)⟩
      · rw [bi_bits_f (p := fun d => 0 < L d ∧ L d = O d) (fun x => by have := x.1; omega)] at hs
        exact nm_r (bi_or0 _) (nm_r (nI_1 i) hs)
      · rw [bi_bits_t (p := fun d => 0 < L d ∧ L d = O d) ⟨y, y2⟩] at hs
        exact nm_e (nm_r (nI_1 i) hs)
      · rw [bi_bits_f (p := fun d => 0 < L d ∧ L d = O d) (fun x => y2 x.2)] at hs
        exact nm_r (bi_or0 _) (nm_r (nI_1 i) hs)
theorem bi_x_rec4 {post : Int32 → Prop} {P C R : Nat} {ρ : Nat → bi_Rw} {L O : Nat → Nat} {k : Nat} (hR : R ≤ 160) (hW : bi_IW P R ρ) (hk : k < 4)
    (h : post (nI (bi_cnt (fun i => bi_K (ρ i) = k) R))) :
    ∀ n i, i ≤ R → R - i < n → wX_rectangles_4 post (nI k) (nI P) (nI C) (nI R) (bi_aK ρ) (bi_aF ρ) (bi_aT ρ) (bi_aV ρ) (bi_aS ρ) (bi_aU ρ) (bi_aL L) (bi_aL O) n (nI (bi_cnt (fun i => bi_K (ρ i) = k) i)) (nI i) := by
  intro n
  induction n with
  | zero => intro i _ hn; omega
  | succ n ih =>
    intro i hi hn
    rw [wX_rectangles_4]
    refine pk_le R i (fun z => ?_) (fun z => ?_) rfl rfl (by omega) (by omega)
    · have e : i = R := by omega
      rw [e]; exact h
    · have hs := ih (i + 1) (by omega) (by omega)
      have w := (hW i z).1
      refine ⟨vp_in_nI (by omega) (by decide), pk_eq (bi_K (ρ i)) k (fun y => ?_) (fun y => ?_) (bi_rK (by omega)) rfl (by omega) (by omega)⟩
      · rw [bi_cnt_t (p := fun i => bi_K (ρ i) = k) y] at hs
        exact nm_r (nI_1 _) (nm_r (nI_1 i) hs)
      · rw [bi_cnt_f (p := fun i => bi_K (ρ i) = k) y] at hs
        exact nm_r (Int32.add_zero _) (nm_r (nI_1 i) hs)
theorem bi_x_rec4F {post : Int32 → Prop} {P C R : Nat} {ρ : Nat → bi_Rw} {L O : Nat → Nat} {p : Int32} (hR : R ≤ 160) (hW : bi_IW P R ρ) (hp : p < 0 ∨ nI 4 ≤ p) (h : post 0) :
    ∀ n i, i ≤ R → R - i < n → wX_rectangles_4 post p (nI P) (nI C) (nI R) (bi_aK ρ) (bi_aF ρ) (bi_aT ρ) (bi_aV ρ) (bi_aS ρ) (bi_aU ρ) (bi_aL L) (bi_aL O) n 0 (nI i) := by
  intro n
  induction n with
  | zero => intro i _ hn; omega
  | succ n ih =>
    intro i hi hn
    rw [wX_rectangles_4]
    refine pk_le R i (fun z => h) (fun z => ?_) rfl rfl (by omega) (by omega)
    have hs := ih (i + 1) (by omega) (by omega)
    refine ⟨vp_in_nI (by omega) (by decide), br_f ?_ (nm_r (Int32.add_zero _) (nm_r (nI_1 i) hs))⟩
    rw [bi_rK (by omega)]
    exact bi_arg_ne hp (hW i z).1 (by decide)
theorem bi_len_t {t v : Nat} {r : bi_Rw} (h : bi_q t v r) : bi_len t v r = bi_T r - bi_F r := by rw [bi_len, if_pos h]
theorem bi_len_f {t v : Nat} {r : bi_Rw} (h : ¬ bi_q t v r) : bi_len t v r = 0 := by rw [bi_len, if_neg h]
theorem bi_x_cnt25 {post : Int32 → Prop} {P C R : Nat} {ρ : Nat → bi_Rw} {L O : Nat → Nat} {t v : Nat} (hP : P ≤ 60) (hR : R ≤ 160) (hW : bi_IW P R ρ) (ht : t ≤ P) (hv : v ≤ 9)
    (h : post (nI (bi_sum (fun i => bi_len t v (ρ i)) R))) :
    ∀ n i, i ≤ R → R - i < n → wX_count_25 post (nI t) (nI v) (nI P) (nI C) (nI R) (bi_aK ρ) (bi_aF ρ) (bi_aT ρ) (bi_aV ρ) (bi_aS ρ) (bi_aU ρ) (bi_aL L) (bi_aL O) n (nI (bi_sum (fun i => bi_len t v (ρ i)) i)) (nI i) := by
  intro n
  induction n with
  | zero => intro i _ hn; omega
  | succ n ih =>
    intro i hi hn
    rw [wX_count_25]
    refine pk_le R i (fun z => ?_) (fun z => ?_) rfl rfl (by omega) (by omega)
    · have e : i = R := by omega
      rw [e]; exact h
    · have hs := ih (i + 1) (by omega) (by omega)
      rw [bi_sum] at hs
      obtain ⟨w1, w2, w3, w4, w5, w6, w7⟩ := hW i z
      have hin : vp_in (nI i) 160 := vp_in_nI (by omega) (by decide)
      have no : ¬ bi_q t v (ρ i) → wX_count_72 post (wX_count_25 post (nI t) (nI v) (nI P) (nI C) (nI R) (bi_aK ρ) (bi_aF ρ) (bi_aT ρ) (bi_aV ρ) (bi_aS ρ) (bi_aU ρ) (bi_aL L) (bi_aL O) n) (nI t) (nI v) (nI (bi_sum (fun i => bi_len t v (ρ i)) i)) (nI i) 0 (nI P) (nI C) (nI R) (bi_aK ρ) (bi_aF ρ) (bi_aT ρ) (bi_aV ρ) (bi_aS ρ) (bi_aU ρ) (bi_aL L) (bi_aL O) := by
        intro hq
        rw [bi_len_f hq] at hs
        exact br_t rfl (nm_r (Int32.add_zero _) (nm_r (nI_1 i) hs))
      refine ⟨hin, pk_lt t (bi_S (ρ i)) (fun y => no (fun q => by have := q.1; omega)) (fun y => ⟨hin, pk_le (bi_U (ρ i)) t (fun y2 => no (fun q => by have := q.2.1; omega)) (fun y2 => ⟨hin, pk_eq (bi_V (ρ i)) v (fun y3 => ?_) (fun y3 => no (fun q => y3 q.2.2)) (bi_rV (by omega)) rfl (by omega) (by omega)⟩) (bi_rU (by omega)) rfl (by omega) (by omega)⟩) rfl (bi_rS (by omega)) (by omega) (by omega)⟩
      rw [bi_len_t ⟨y, y2, y3⟩] at hs
      refine br_f bi_10 ⟨hin, hin, nm_r ?_ (nm_r (nI_1 i) hs)⟩
      rw [bi_rT (by omega), bi_rF (by omega), pk_sub (by omega), nI_add]
end
section
/-! the reference's methods over the grid -/
theorem bi_n3 {p : Int32} : nI 3 < p ↔ nI 4 ≤ p := (bi_le_lt rfl (by decide)).symm
theorem bi_n15 {p : Int32} : nI 15 < p ↔ nI 16 ≤ p := (bi_le_lt rfl (by decide)).symm
theorem bi_nk {k n : Nat} (hk : k ≤ n) (hn : n < 1000) : ¬ nI n < nI k := by
  rw [nI_ltI (by omega) (by omega)]; omega
theorem bi_y_key {post : Int32 → Prop} {P C : Nat} {G : Nat → Nat} {k : Nat} (hk : k < 4) (h : post 1) : wpY_key post (bi_ys P C G) (nI k) :=
  br_f (nI_pos (by omega)) (br_f (bi_nk (n := 3) (by omega) (by decide)) h)
theorem bi_y_keyF {post : Int32 → Prop} {P C : Nat} {G : Nat → Nat} {p : Int32} (hp : p < 0 ∨ nI 4 ≤ p) (h : post 0) : wpY_key post (bi_ys P C G) p := by
  by_cases c : p < 0
  · exact br_t c h
  · exact br_f c (br_t (bi_n3.mpr (hp.resolve_left c)) h)
theorem bi_y_time {post : Int32 → Prop} {P C : Nat} {G : Nat → Nat} {t : Nat} (hP : P ≤ 60) (ht : t ≤ P) (h : post 1) : wpY_time post (bi_ys P C G) (nI t) :=
  br_f (nI_pos (by omega)) (br_f (nI_nlt ht (by omega)) h)
theorem bi_y_timeF {post : Int32 → Prop} {P C : Nat} {G : Nat → Nat} {p : Int32} (hp : p < 0 ∨ nI P < p) (h : post 0) : wpY_time post (bi_ys P C G) p := by
  by_cases c : p < 0
  · exact br_t c h
  · exact br_f c (br_t (hp.resolve_left c) h)
theorem bi_ix (t k d : Nat) : ((64 * nI t) + (16 * nI k)) + nI d = nI (64 * t + 16 * k + d) := by
  rw [show (64 : Int32) = nI 64 from rfl, show (16 : Int32) = nI 16 from rfl, pk_mul, pk_mul, nI_add, nI_add]
theorem bi_y_cell {post : Int32 → Prop} {P C : Nat} {G : Nat → Nat} {t k d : Nat} (ht : t ≤ 60) (hk : k < 4) (hd : d < 16) (h : post (nI (bi_gl G t k d))) : wpY_cell post (bi_ys P C G) (nI t) (nI k) (nI d) := by
  unfold wpY_cell
  dsimp only
  rw [bi_ix, bi_rG (by omega)]
  exact ⟨vp_in_nI (by omega) (by decide), h⟩
theorem bi_y_bg {post : Int32 → Prop} {P C : Nat} {G : Nat → Nat} {t k d : Nat} (ht : t ≤ 60) (hk : k < 4) (hd : d < 16) (hG : ∀ c, G c ≤ 10)
    (h1 : bi_bg (bi_gl G t k) d → post 1) (h0 : ¬ bi_bg (bi_gl G t k) d → post 0) : wpY_begins post (bi_ys P C G) (nI t) (nI k) (nI d) := by
  have hg : ∀ t k d, bi_gl G t k d ≤ 10 := fun t k d => hG _
  have g1 := hg t k d
  have g2 := hg t k (d - 1)
  unfold wpY_begins
  dsimp only
  refine bi_y_cell ht hk hd (pk_le (bi_gl G t k d) 0 (fun e => h0 (fun z => ?_)) (fun e => pk_eq d 0 (fun e2 => h1 ⟨e, Or.inl e2⟩) (fun e2 => ?_) rfl rfl (by omega) (by decide)) rfl rfl (by omega) (by decide))
  · have := z.1; omega
  · have e3 : nI d - 1 = nI (d - 1) := by
      obtain ⟨d', rfl⟩ : ∃ d', d = d' + 1 := ⟨d - 1, by omega⟩
      rw [nI_pred]; rfl
    rw [e3]
    refine bi_y_cell ht hk (by omega) (bi_y_cell ht hk hd (pk_eq (bi_gl G t k (d - 1)) (bi_gl G t k d) (fun e4 => h0 (fun z => ?_)) (fun e4 => h1 ⟨e, Or.inr e4⟩) rfl rfl (by omega) (by omega)))
    rcases z.2 with y | y
    · omega
    · exact y e4
theorem bi_y_end3 {post : Int32 → Prop} {P C : Nat} {G : Nat → Nat} {t k d : Nat} (ht : t ≤ 60) (hk : k < 4) (hd : d < 16) (hG : ∀ c, G c ≤ 10)
    (h : ∀ e, bi_run (bi_gl G t k) d e → post (nI e)) : ∀ n e, d ≤ e → e ≤ 16 → 16 - e < n → (∀ x, d ≤ x → x < e → bi_gl G t k x = bi_gl G t k d) → wY_end_3 post (nI t) (nI k) (nI d) (nI P) (nI C) (bi_aG G) n (nI e) := by
  have hg : ∀ t k d, bi_gl G t k d ≤ 10 := fun t k d => hG _
  intro n
  induction n with
  | zero => intro e _ _ hn; omega
  | succ n ih =>
    intro e h1 h2 hn hx
    have g1 := hg t k d
    have g2 := hg t k e
    rw [wY_end_3]
    refine pk_le 16 e (fun z => h e ⟨h1, h2, hx, Or.inl (by omega)⟩) (fun z => bi_y_cell ht hk z (bi_y_cell ht hk hd (pk_eq (bi_gl G t k e) (bi_gl G t k d) (fun y => nm_r (nI_1 e) (ih (e + 1) (by omega) (by omega) (by omega) (fun x a b => ?_))) (fun y => h e ⟨h1, h2, hx, Or.inr y⟩) rfl rfl (by omega) (by omega)))) rfl rfl (by decide) (by omega)
    by_cases c : x = e
    · rw [c]; exact y
    · exact hx x a (by omega)
theorem bi_y_end {post : Int32 → Prop} {P C : Nat} {G : Nat → Nat} {t k d : Nat} (ht : t ≤ 60) (hk : k < 4) (hd : d < 16) (hG : ∀ c, G c ≤ 10)
    (h : ∀ e, bi_run (bi_gl G t k) d e → post (nI e)) : wpY_end post (bi_ys P C G) (nI t) (nI k) (nI d) :=
  Exists.intro 17 (bi_y_end3 ht hk hd hG h 17 d (Nat.le_refl d) (by omega) (by omega) (fun x a b => by omega))
theorem bi_y_per5 {post : Int32 → Prop} {P C : Nat} {G : Nat → Nat} {t k : Nat} (hP : P ≤ 60) (ht : t ≤ P) (hk : k < 4) (hG : ∀ c, G c ≤ 10)
    (h : post (nI (bi_cnt (bi_bg (bi_gl G t k)) 16))) :
    ∀ n d, d ≤ 16 → 16 - d < n → wY_periods_5 post (nI t) (nI k) (nI P) (nI C) (bi_aG G) n (nI (bi_cnt (bi_bg (bi_gl G t k)) d)) (nI d) := by
  intro n
  induction n with
  | zero => intro d _ hn; omega
  | succ n ih =>
    intro d hd hn
    rw [wY_periods_5]
    refine pk_le 16 d (fun z => ?_) (fun z => ?_) rfl rfl (by decide) (by omega)
    · have e : d = 16 := by omega
      rw [e]; exact h
    · have hs := ih (d + 1) (by omega) (by omega)
      refine bi_y_time hP ht (br_f bi_10 (bi_y_key hk (br_f bi_10 (bi_y_bg (by omega) hk z hG (fun hb => br_f bi_10 ?_) (fun hb => br_t rfl ?_)))))
      · rw [bi_cnt_t hb] at hs
        exact nm_r (nI_1 _) (nm_r (nI_1 d) hs)
      · rw [bi_cnt_f hb] at hs
        exact nm_r (nI_1 d) hs
theorem bi_y_perF {post : Int32 → Prop} {P C : Nat} {G : Nat → Nat} {p q : Int32} (hP : P ≤ 60)
    (hp : (p < 0 ∨ nI P < p) ∨ (∃ t, t ≤ P ∧ p = nI t) ∧ (q < 0 ∨ nI 4 ≤ q)) (h : post 0) : wpY_periods post (bi_ys P C G) p q := by
  refine Exists.intro 1 ?_
  rw [wY_periods_5]
  refine br_f (by decide) ?_
  rcases hp with hp | ⟨⟨t, ht, rfl⟩, hq⟩
  · exact bi_y_timeF hp (br_t rfl h)
  · exact bi_y_time hP ht (br_f bi_10 (bi_y_keyF hq (br_t rfl h)))
theorem bi_y_pf6 {post : Int32 → Prop} {P C : Nat} {G : Nat → Nat} {t k : Nat} {p : Int32} (hP : P ≤ 60) (ht : t ≤ P) (hk : k < 4) (hG : ∀ c, G c ≤ 10)
    (h1 : ∀ d, d < 16 → bi_bg (bi_gl G t k) d → nI (bi_cnt (bi_bg (bi_gl G t k)) d) = p → post (nI d))
    (h0 : (∀ d, d < 16 → bi_bg (bi_gl G t k) d → nI (bi_cnt (bi_bg (bi_gl G t k)) d) = p → False) → post (-1)) :
    ∀ n d, d ≤ 16 → 16 - d < n → (∀ x, x < d → bi_bg (bi_gl G t k) x → nI (bi_cnt (bi_bg (bi_gl G t k)) x) = p → False) →
      wY_periodFrom_6 post (nI t) (nI k) p (nI P) (nI C) (bi_aG G) n (nI (bi_cnt (bi_bg (bi_gl G t k)) d)) (nI d) := by
  intro n
  induction n with
  | zero => intro d _ hn; omega
  | succ n ih =>
    intro d hd hn hx
    rw [wY_periodFrom_6]
    refine pk_le 16 d (fun z => h0 (fun x hx16 => hx x (by omega))) (fun z => ?_) rfl rfl (by decide) (by omega)
    have hs := ih (d + 1) (by omega) (by omega)
    refine bi_y_time hP ht (br_f bi_10 (bi_y_key hk (br_f bi_10 (bi_y_bg (by omega) hk z hG (fun hb => br_f bi_10 (br_c (fun y => h1 d z hb y) (fun y => ?_))) (fun hb => br_t rfl ?_)))))
    · rw [bi_cnt_t hb] at hs
      refine nm_r (nI_1 _) (nm_r (nI_1 d) (hs (fun x a b c => ?_)))
      by_cases e : x = d
      · rw [e] at c; exact y c
      · exact hx x (by omega) b c
    · rw [bi_cnt_f hb] at hs
      refine nm_r (nI_1 d) (hs (fun x a b c => ?_))
      by_cases e : x = d
      · rw [e] at b; exact hb b
      · exact hx x (by omega) b c
theorem bi_y_pf {post : Int32 → Prop} {P C : Nat} {G : Nat → Nat} {t k : Nat} {p : Int32} (hP : P ≤ 60) (ht : t ≤ P) (hk : k < 4) (hG : ∀ c, G c ≤ 10)
    (h1 : ∀ d, d < 16 → bi_bg (bi_gl G t k) d → nI (bi_cnt (bi_bg (bi_gl G t k)) d) = p → post (nI d))
    (h0 : (∀ d, d < 16 → bi_bg (bi_gl G t k) d → nI (bi_cnt (bi_bg (bi_gl G t k)) d) = p → False) → post (-1)) : wpY_periodFrom post (bi_ys P C G) (nI t) (nI k) p :=
  Exists.intro 17 (bi_y_pf6 hP ht hk hG h1 h0 17 0 (by omega) (by omega) (fun x hx => by omega))
theorem bi_y_pfF {post : Int32 → Prop} {P C : Nat} {G : Nat → Nat} {p q v : Int32} (hP : P ≤ 60)
    (hp : (p < 0 ∨ nI P < p) ∨ (∃ t, t ≤ P ∧ p = nI t) ∧ (q < 0 ∨ nI 4 ≤ q)) (h : post (-1)) : wpY_periodFrom post (bi_ys P C G) p q v := by
  refine Exists.intro 1 ?_
  rw [wY_periodFrom_6]
  refine br_f (by decide) ?_
  rcases hp with hp | ⟨⟨t, ht, rfl⟩, hq⟩
  · exact bi_y_timeF hp (br_t rfl h)
  · exact bi_y_time hP ht (br_f bi_10 (bi_y_keyF hq (br_t rfl h)))
/-! eras -/
theorem bi_y_era5 {post : Int32 → Prop} {P C : Nat} {G : Nat → Nat} {k d : Nat} (hP : P ≤ 60) (hk : k < 4) (hd : d < 16) (hG : ∀ c, G c ≤ 10)
    (h : post (nI (bi_cnt (bi_chg (fun t => bi_gl G t k d)) (P + 1)))) :
    ∀ n t, t ≤ P + 1 → P + 1 - t < n → wY_eras_5 post (nI k) (nI d) (nI P) (nI C) (bi_aG G) n (nI (bi_cnt (bi_chg (fun t => bi_gl G t k d)) t)) (nI t) := by
  have hg : ∀ t k d, bi_gl G t k d ≤ 10 := fun t k d => hG _
  intro n
  induction n with
  | zero => intro t _ hn; omega
  | succ n ih =>
    intro t ht hn
    rw [wY_eras_5]
    refine pk_lt P t (fun z => ?_) (fun z => ?_) rfl rfl (by omega) (by omega)
    · have e : t = P + 1 := by omega
      rw [e]; exact h
    · have hs := ih (t + 1) (by omega) (by omega)
      have g1 := hg t k d
      have g2 := hg (t - 1) k d
      refine bi_y_key hk (br_f bi_10 (br_f (nI_pos (by omega)) (br_f (bi_nk (n := 15) (by omega) (by decide)) (pk_eq t 0 (fun y => ?_) (fun y => ?_) rfl rfl (by omega) (by decide)))))
      · rw [bi_cnt_t (p := bi_chg (fun t => bi_gl G t k d)) (Or.inl y)] at hs
        exact nm_r (nI_1 _) (nm_r (nI_1 t) hs)
      · have e3 : nI t - 1 = nI (t - 1) := by
          obtain ⟨t', rfl⟩ : ∃ t', t = t' + 1 := ⟨t - 1, by omega⟩
          rw [nI_pred]; rfl
        rw [e3]
        refine bi_y_cell (by omega) hk hd (bi_y_cell (by omega) hk hd (pk_eq (bi_gl G t k d) (bi_gl G (t - 1) k d) (fun y2 => ?_) (fun y2 => ?_) rfl rfl (by omega) (by omega)))
        · rw [bi_cnt_f (p := bi_chg (fun t => bi_gl G t k d)) (fun x => x.elim y (fun x2 => x2 y2))] at hs
          exact nm_r (nI_1 t) hs
        · rw [bi_cnt_t (p := bi_chg (fun t => bi_gl G t k d)) (Or.inr y2)] at hs
          exact nm_r (nI_1 _) (nm_r (nI_1 t) hs)
theorem bi_y_eraF {post : Int32 → Prop} {P C : Nat} {G : Nat → Nat} {p q : Int32} (hP : P ≤ 60)
    (hp : (p < 0 ∨ nI 4 ≤ p) ∨ (∃ k, k < 4 ∧ p = nI k) ∧ (q < 0 ∨ nI 16 ≤ q)) (h : post 0) : wpY_eras post (bi_ys P C G) p q := by
  refine Exists.intro 1 ?_
  rw [wY_eras_5]
  refine br_f (nI_pos (by omega)) ?_
  rcases hp with hp | ⟨⟨k, hk, rfl⟩, hq⟩
  · exact bi_y_keyF hp (br_t rfl h)
  · refine bi_y_key hk (br_f bi_10 (br_c (fun _ => h) (fun z => br_t ?_ h)))
    exact bi_n15.mpr (hq.resolve_left z)
theorem bi_y_ef6 {post : Int32 → Prop} {P C : Nat} {G : Nat → Nat} {k d : Nat} {p : Int32} (hP : P ≤ 60) (hk : k < 4) (hd : d < 16) (hG : ∀ c, G c ≤ 10)
    (h1 : ∀ t, t ≤ P → bi_chg (fun t => bi_gl G t k d) t → nI (bi_cnt (bi_chg (fun t => bi_gl G t k d)) t) = p → post (nI t))
    (h0 : (∀ t, t ≤ P → bi_chg (fun t => bi_gl G t k d) t → nI (bi_cnt (bi_chg (fun t => bi_gl G t k d)) t) = p → False) → post (-1)) :
    ∀ n t, t ≤ P + 1 → P + 1 - t < n → (∀ x, x < t → bi_chg (fun t => bi_gl G t k d) x → nI (bi_cnt (bi_chg (fun t => bi_gl G t k d)) x) = p → False) →
      wY_eraFrom_6 post (nI k) (nI d) p (nI P) (nI C) (bi_aG G) n (nI (bi_cnt (bi_chg (fun t => bi_gl G t k d)) t)) (nI t) := by
  have hg : ∀ t k d, bi_gl G t k d ≤ 10 := fun t k d => hG _
  intro n
  induction n with
  | zero => intro t _ hn; omega
  | succ n ih =>
    intro t ht hn hx
    rw [wY_eraFrom_6]
    refine pk_lt P t (fun z => h0 (fun x hxP => hx x (by omega))) (fun z => ?_) rfl rfl (by omega) (by omega)
    have hs := ih (t + 1) (by omega) (by omega)
    have g1 := hg t k d
    have g2 := hg (t - 1) k d
    have yes : bi_chg (fun t => bi_gl G t k d) t → wY_eraFrom_59 post (wY_eraFrom_6 post (nI k) (nI d) p (nI P) (nI C) (bi_aG G) n) (nI k) (nI d) p (nI (bi_cnt (bi_chg (fun t => bi_gl G t k d)) t)) (nI t) (nI P) (nI C) (bi_aG G) := by
      intro hc
      refine br_c (fun y => h1 t z hc y) (fun y => ?_)
      rw [bi_cnt_t hc] at hs
      refine nm_r (nI_1 _) (nm_r (nI_1 t) (hs (fun x a b c => ?_)))
      by_cases e : x = t
      · rw [e] at c; exact y c
      · exact hx x (by omega) b c
    refine bi_y_key hk (br_f bi_10 (br_f (nI_pos (by omega)) (br_f (bi_nk (n := 15) (by omega) (by decide)) (pk_eq t 0 (fun y => yes (Or.inl y)) (fun y => ?_) rfl rfl (by omega) (by decide)))))
    have e3 : nI t - 1 = nI (t - 1) := by
      obtain ⟨t', rfl⟩ : ∃ t', t = t' + 1 := ⟨t - 1, by omega⟩
      rw [nI_pred]; rfl
    rw [e3]
    refine bi_y_cell (by omega) hk hd (bi_y_cell (by omega) hk hd (pk_eq (bi_gl G t k d) (bi_gl G (t - 1) k d) (fun y2 => ?_) (fun y2 => yes (Or.inr y2)) rfl rfl (by omega) (by omega)))
    have hno : ¬ bi_chg (fun t => bi_gl G t k d) t := fun x => x.elim y (fun x2 => x2 y2)
    rw [bi_cnt_f hno] at hs
    refine nm_r (nI_1 t) (hs (fun x a b c => ?_))
    by_cases e : x = t
    · rw [e] at b; exact hno b
    · exact hx x (by omega) b c
theorem bi_y_ef {post : Int32 → Prop} {P C : Nat} {G : Nat → Nat} {k d : Nat} {p : Int32} (hP : P ≤ 60) (hk : k < 4) (hd : d < 16) (hG : ∀ c, G c ≤ 10)
    (h1 : ∀ t, t ≤ P → bi_chg (fun t => bi_gl G t k d) t → nI (bi_cnt (bi_chg (fun t => bi_gl G t k d)) t) = p → post (nI t))
    (h0 : (∀ t, t ≤ P → bi_chg (fun t => bi_gl G t k d) t → nI (bi_cnt (bi_chg (fun t => bi_gl G t k d)) t) = p → False) → post (-1)) : wpY_eraFrom post (bi_ys P C G) (nI k) (nI d) p :=
  Exists.intro (P + 2) (bi_y_ef6 hP hk hd hG h1 h0 (P + 2) 0 (by omega) (by omega) (fun x hx => by omega))
theorem bi_y_efF {post : Int32 → Prop} {P C : Nat} {G : Nat → Nat} {p q v : Int32} (hP : P ≤ 60)
    (hp : (p < 0 ∨ nI 4 ≤ p) ∨ (∃ k, k < 4 ∧ p = nI k) ∧ (q < 0 ∨ nI 16 ≤ q)) (h : post (-1)) : wpY_eraFrom post (bi_ys P C G) p q v := by
  refine Exists.intro 1 ?_
  rw [wY_eraFrom_6]
  refine br_f (nI_pos (by omega)) ?_
  rcases hp with hp | ⟨⟨k, hk, rfl⟩, hq⟩
  · exact bi_y_keyF hp (br_t rfl h)
  · refine bi_y_key hk (br_f bi_10 (br_c (fun _ => h) (fun z => br_t ?_ h)))
    exact bi_n15.mpr (hq.resolve_left z)
/-! difference, count, agree, rectangles -/
theorem bi_y_dif33 {post : Int32 → Prop} {P C : Nat} {G : Nat → Nat} {t u k : Nat} (ht : t ≤ 60) (hu : u ≤ 60) (hk : k < 4) (hG : ∀ c, G c ≤ 10)
    (h : post (nI (bi_cnt (fun d => bi_gl G t k d ≠ bi_gl G u k d) 16))) :
    ∀ n d, d ≤ 16 → 16 - d < n → wY_difference_33 post (nI t) (nI u) (nI k) (nI P) (nI C) (bi_aG G) n (nI (bi_cnt (fun d => bi_gl G t k d ≠ bi_gl G u k d) d)) (nI d) := by
  have hg : ∀ t k d, bi_gl G t k d ≤ 10 := fun t k d => hG _
  intro n
  induction n with
  | zero => intro d _ hn; omega
  | succ n ih =>
    intro d hd hn
    rw [wY_difference_33]
    refine pk_le 16 d (fun z => ?_) (fun z => ?_) rfl rfl (by decide) (by omega)
    · have e : d = 16 := by omega
      rw [e]; exact h
    · have hs := ih (d + 1) (by omega) (by omega)
      have g1 := hg t k d
      have g2 := hg u k d
      refine bi_y_cell ht hk z (bi_y_cell hu hk z (pk_eq (bi_gl G t k d) (bi_gl G u k d) (fun y => ?_) (fun y => ?_) rfl rfl (by omega) (by omega)))
      · rw [bi_cnt_f (p := fun d => bi_gl G t k d ≠ bi_gl G u k d) (fun x => x y)] at hs
        exact nm_r (nI_1 d) hs
      · rw [bi_cnt_t (p := fun d => bi_gl G t k d ≠ bi_gl G u k d) y] at hs
        exact nm_r (nI_1 _) (nm_r (nI_1 d) hs)
theorem bi_y_cnt5 {post : Int32 → Prop} {P C : Nat} {G : Nat → Nat} {t v : Nat} (hP : P ≤ 60) (ht : t ≤ P) (hv : v ≤ 9) (hG : ∀ c, G c ≤ 10)
    (h : post (nI (bi_cnt (fun c => G (64 * t + c) = v + 1) 64))) :
    ∀ n c, c ≤ 64 → 64 - c < n → wY_count_5 post (nI t) (nI v) (nI P) (nI C) (bi_aG G) n (nI (bi_cnt (fun c => G (64 * t + c) = v + 1) c)) (nI c) := by
  intro n
  induction n with
  | zero => intro c _ hn; omega
  | succ n ih =>
    intro c hc hn
    rw [wY_count_5]
    refine pk_le 64 c (fun z => ?_) (fun z => ?_) rfl rfl (by decide) (by omega)
    · have e : c = 64 := by omega
      rw [e]; exact h
    · have hs := ih (c + 1) (by omega) (by omega)
      have e3 : (64 * nI t) + nI c = nI (64 * t + c) := by
        rw [show (64 : Int32) = nI 64 from rfl, pk_mul, nI_add]
      rw [e3]
      have g1 := hG (64 * t + c)
      refine bi_y_time hP ht (br_f bi_10 (br_f (nI_pos (by omega)) (br_f (bi_nk (n := 9) (by omega) (by decide)) ⟨vp_in_nI (by omega) (by decide), pk_eq (G (64 * t + c)) (v + 1) (fun y => ?_) (fun y => ?_) (bi_rG (by omega)) (nI_1 v) (by omega) (by omega)⟩)))
      · rw [bi_cnt_t (p := fun c => G (64 * t + c) = v + 1) y] at hs
        exact nm_r (nI_1 _) (nm_r (nI_1 c) hs)
      · rw [bi_cnt_f (p := fun c => G (64 * t + c) = v + 1) y] at hs
        exact nm_r (nI_1 c) hs
theorem bi_y_cntF {post : Int32 → Prop} {P C : Nat} {G : Nat → Nat} {p q : Int32} (hP : P ≤ 60)
    (hp : (p < 0 ∨ nI P < p) ∨ (∃ t, t ≤ P ∧ p = nI t) ∧ (q < 0 ∨ nI 9 < q)) (h : post 0) : wpY_count post (bi_ys P C G) p q := by
  refine Exists.intro 1 ?_
  rw [wY_count_5]
  refine br_f (by decide) ?_
  rcases hp with hp | ⟨⟨t, ht, rfl⟩, hq⟩
  · exact bi_y_timeF hp (br_t rfl h)
  · exact bi_y_time hP ht (br_f bi_10 (br_c (fun _ => h) (fun z => br_t (hq.resolve_left z) h)))
theorem bi_y_agr6 {post : Int32 → Prop} {P C : Nat} {G : Nat → Nat} {t k m : Nat} (hP : P ≤ 60) (ht : t ≤ P) (hk : k < 4) (hm : m < 4) (hG : ∀ c, G c ≤ 10)
    (h : post (bi_bits (fun d => 0 < bi_gl G t k d ∧ bi_gl G t k d = bi_gl G t m d) 16)) :
    ∀ n d, d ≤ 16 → 16 - d < n → wY_agree_6 post (nI t) (nI k) (nI m) (nI P) (nI C) (bi_aG G) n (bi_bits (fun d => 0 < bi_gl G t k d ∧ bi_gl G t k d = bi_gl G t m d) d) (nI d) := by
  have hg : ∀ t k d, bi_gl G t k d ≤ 10 := fun t k d => hG _
  intro n
  induction n with
  | zero => intro d _ hn; omega
  | succ n ih =>
    intro d hd hn
    rw [wY_agree_6]
    refine pk_le 16 d (fun z => ?_) (fun z => ?_) rfl rfl (by decide) (by omega)
    · have e : d = 16 := by omega
      rw [e]; exact h
    · have hs := ih (d + 1) (by omega) (by omega)
      have g1 := hg t k d
      have g2 := hg t m d
      refine bi_y_time hP ht (br_f bi_10 (bi_y_key hk (br_f bi_10 (bi_y_key hm (br_f bi_10 (bi_y_cell (by omega) hk z (pk_le (bi_gl G t k d) 0 (fun y => ?_) (fun y => bi_y_cell (by omega) hk z (bi_y_cell (by omega) hm z (pk_eq (bi_gl G t k d) (bi_gl G t m d) (fun y2 => ?_) (fun y2 => ?_) rfl rfl (by omega) (by omega)))) rfl rfl (by omega) (by decide))))))))
      · rw [bi_bits_f (p := fun d => 0 < bi_gl G t k d ∧ bi_gl G t k d = bi_gl G t m d) (fun x => by have := x.1; omega)] at hs
        exact nm_r (nI_1 d) hs
      · rw [bi_bits_t (p := fun d => 0 < bi_gl G t k d ∧ bi_gl G t k d = bi_gl G t m d) ⟨y, y2⟩] at hs
        exact nm_e (nm_r (nI_1 d) hs)
      · rw [bi_bits_f (p := fun d => 0 < bi_gl G t k d ∧ bi_gl G t k d = bi_gl G t m d) (fun x => y2 x.2)] at hs
        exact nm_r (nI_1 d) hs
theorem bi_y_agrF {post : Int32 → Prop} {P C : Nat} {G : Nat → Nat} {p q r : Int32} (hP : P ≤ 60)
    (hp : (p < 0 ∨ nI P < p) ∨ (∃ t, t ≤ P ∧ p = nI t) ∧ ((q < 0 ∨ nI 4 ≤ q) ∨ (∃ k, k < 4 ∧ q = nI k) ∧ (r < 0 ∨ nI 4 ≤ r))) (h : post 0) : wpY_agree post (bi_ys P C G) p q r := by
  refine Exists.intro 1 ?_
  rw [wY_agree_6]
  refine br_f (by decide) ?_
  rcases hp with hp | ⟨⟨t, ht, rfl⟩, hq⟩
  · exact bi_y_timeF hp (br_t rfl h)
  · refine bi_y_time hP ht (br_f bi_10 ?_)
    rcases hq with hq | ⟨⟨k, hk, rfl⟩, hr⟩
    · exact bi_y_keyF hq (br_t rfl h)
    · exact bi_y_key hk (br_f bi_10 (bi_y_keyF hr (br_t rfl h)))
theorem bi_y_lst {post : Int32 → Prop} {P C : Nat} {G : Nat → Nat} {t k d : Nat} (ht : t ≤ 60) (hk : k < 4) (hd : d < 16) (hG : ∀ c, G c ≤ 10)
    (h1 : bi_lst G k t d → post 1) (h0 : ¬ bi_lst G k t d → post 0) : wpY_lasts post (bi_ys P C G) (nI t) (nI k) (nI d) := by
  have hg : ∀ t k d, bi_gl G t k d ≤ 10 := fun t k d => hG _
  have g1 := hg t k d
  have g2 := hg (t - 1) k d
  unfold wpY_lasts
  dsimp only
  refine pk_le t 0 (fun y => h0 (fun z => by have := z.1; omega)) (fun y => ?_) rfl rfl (by omega) (by decide)
  have e3 : nI t - 1 = nI (t - 1) := by
    obtain ⟨t', rfl⟩ : ∃ t', t = t' + 1 := ⟨t - 1, by omega⟩
    rw [nI_pred]; rfl
  rw [e3]
  refine bi_y_bg (by omega) hk hd hG (fun hb => br_f bi_10 ?_) (fun hb => br_t rfl (h0 (fun z => hb z.2.1)))
  refine bi_y_cell (by omega) hk hd (bi_y_cell ht hk hd (pk_eq (bi_gl G (t - 1) k d) (bi_gl G t k d) (fun y2 => ?_) (fun y2 => h0 (fun z => y2 z.2.2.1)) rfl rfl (by omega) (by omega)))
  refine bi_y_end (by omega) hk hd hG (fun e he => bi_y_end ht hk hd hG (fun e' he' => ?_))
  have b1 := he.2.1
  have b2 := he'.2.1
  refine pk_eq e e' (fun y3 => h1 ⟨y, hb, y2, e, he, by rw [y3]; exact he'⟩) (fun y3 => h0 (fun z => ?_)) rfl rfl (by omega) (by omega)
  obtain ⟨x, hx, hx'⟩ := z.2.2.2
  exact y3 ((bi_run_un he hx).trans (bi_run_un hx' he'))
theorem bi_y_rec23 {post : Int32 → Prop} {J4 : Int32 → Int32 → Prop} {P C : Nat} {G : Nat → Nat} {t k : Nat} (ht : t ≤ 60) (hk : k < 4) (hG : ∀ c, G c ≤ 10)
    (h : J4 (nI (bi_cnt (fun c => bi_bg (bi_gl G (c / 16) k) (c % 16) ∧ ¬ bi_lst G k (c / 16) (c % 16)) (16 * (t + 1)))) (nI (t + 1))) :
    ∀ n d, d ≤ 16 → 16 - d < n → wY_rectangles_23 post J4 (nI k) (nI t) (nI P) (nI C) (bi_aG G) n (nI (bi_cnt (fun c => bi_bg (bi_gl G (c / 16) k) (c % 16) ∧ ¬ bi_lst G k (c / 16) (c % 16)) (16 * t + d))) (nI d) := by
  intro n
  induction n with
  | zero => intro d _ hn; omega
  | succ n ih =>
    intro d hd hn
    rw [wY_rectangles_23]
    refine pk_le 16 d (fun z => ?_) (fun z => ?_) rfl rfl (by decide) (by omega)
    · have e : 16 * t + d = 16 * (t + 1) := by omega
      rw [e]
      exact nm_r (nI_1 t) h
    · have hs := ih (d + 1) (by omega) (by omega)
      have q1 : (16 * t + d) / 16 = t := by omega
      have q2 : (16 * t + d) % 16 = d := by omega
      have no : ¬ (bi_bg (bi_gl G t k) d ∧ ¬ bi_lst G k t d) → ∀ x, x = nI d + 1 → wY_rectangles_23 post J4 (nI k) (nI t) (nI P) (nI C) (bi_aG G) n (nI (bi_cnt (fun c => bi_bg (bi_gl G (c / 16) k) (c % 16) ∧ ¬ bi_lst G k (c / 16) (c % 16)) (16 * t + d))) x := by
        intro hq
        rw [show 16 * t + (d + 1) = (16 * t + d) + 1 from rfl, bi_cnt_f (p := fun c => bi_bg (bi_gl G (c / 16) k) (c % 16) ∧ ¬ bi_lst G k (c / 16) (c % 16)) (n := 16 * t + d) (by rw [q1, q2]; exact hq)] at hs
        exact nm_r (nI_1 d) hs
      refine bi_y_bg ht hk z hG (fun hb => br_f bi_10 (bi_y_lst ht hk z hG (fun hl => br_f bi_10 (no (fun x => x.2 hl))) (fun hl => br_t rfl ?_))) (fun hb => br_t rfl (no (fun x => hb x.1)))
      rw [show 16 * t + (d + 1) = (16 * t + d) + 1 from rfl, bi_cnt_t (p := fun c => bi_bg (bi_gl G (c / 16) k) (c % 16) ∧ ¬ bi_lst G k (c / 16) (c % 16)) (n := 16 * t + d) (by rw [q1, q2]; exact ⟨hb, hl⟩)] at hs
      exact nm_r (nI_1 _) (nm_r (nI_1 d) hs)
theorem bi_y_rec4 {post : Int32 → Prop} {P C : Nat} {G : Nat → Nat} {k : Nat} (hP : P ≤ 60) (hk : k < 4) (hG : ∀ c, G c ≤ 10)
    (h : post (nI (bi_cnt (fun c => bi_bg (bi_gl G (c / 16) k) (c % 16) ∧ ¬ bi_lst G k (c / 16) (c % 16)) (16 * (P + 1))))) :
    ∀ n t, t ≤ P + 1 → P + 1 - t < n → wY_rectangles_4 post (nI k) (nI P) (nI C) (bi_aG G) n (nI (bi_cnt (fun c => bi_bg (bi_gl G (c / 16) k) (c % 16) ∧ ¬ bi_lst G k (c / 16) (c % 16)) (16 * t))) (nI t) := by
  intro n
  induction n with
  | zero => intro t _ hn; omega
  | succ n ih =>
    intro t ht hn
    rw [wY_rectangles_4]
    refine pk_lt P t (fun z => ?_) (fun z => ?_) rfl rfl (by omega) (by omega)
    · have e : t = P + 1 := by omega
      rw [e]; exact h
    · have hs := ih (t + 1) (by omega) (by omega)
      exact bi_y_key hk (br_f bi_10 ⟨17, bi_y_rec23 (by omega) hk hG hs 17 0 (by omega) (by omega)⟩)
theorem bi_y_recF {post : Int32 → Prop} {P C : Nat} {G : Nat → Nat} {p : Int32} (hP : P ≤ 60) (hp : p < 0 ∨ nI 4 ≤ p) (h : post 0) : wpY_rectangles post (bi_ys P C G) p := by
  refine Exists.intro 1 ?_
  rw [wY_rectangles_4]
  exact br_f (nI_pos (by omega)) (bi_y_keyF hp (br_t rfl h))
end
section
/-! match: closing and providing rows -/
theorem bi_x_isPer {post : Int32 → Prop} {P C R : Nat} {ρ : Nat → bi_Rw} {L O : Nat → Nat} {i : Nat} (hw : bi_Wf P (ρ i)) (hi : i < 160) (hL : ∀ x, L x ≤ 10)
    (h1 : bi_PR L (ρ i) → post 1) (h0 : ¬ bi_PR L (ρ i) → post 0) : wpX_isPeriod post (bi_xs P C R ρ L O) (nI i) := by
  obtain ⟨w1, w2, w3, w4, w5, w6, w7⟩ := hw
  have hv : vp_in (nI i) 160 := vp_in_nI hi (by decide)
  unfold wpX_isPeriod
  dsimp only
  refine ⟨hv, nm_r (bi_rF (by omega)) (bi_x_bg (by omega) hL (fun hb => br_f bi_10 ⟨vp_in_nI (by omega) (by decide), hv, bi_b_lv (L (bi_F (ρ i))) (bi_V (ρ i) + 1) (bi_rL (by omega)) (bi_rVl (by omega)) (hL _) (by omega) (fun y => bi_x_end (by omega) hL (fun e he => ⟨hv, ?_⟩)) (fun y => h0 (fun z => y z.2))⟩) (fun hb => br_t rfl (h0 (fun z => hb z.1.2.1))))⟩
  have b1 := he.2.1
  refine pk_eq e (bi_T (ρ i)) (fun y2 => h1 ⟨bi_Per_mk (by omega) hb (by rw [← y2]; exact he), y⟩) (fun y2 => h0 (fun z => y2 (bi_run_un he z.1.2.2))) rfl (bi_rT (by omega)) (by omega) (by omega)
theorem bi_x_drop {post : SX → Prop} {P C R : Nat} {ρ : Nat → bi_Rw} {L O : Nat → Nat} {i : Nat} (hw : bi_Wf P (ρ R)) (hP : P ≤ 60) (hi : i < 160) (hR : R < 160)
    (h : post (bi_xs P C R (bi_up ρ i (ρ R)) L O)) : wpX_drop post (bi_xs P C (R + 1) ρ L O) (nI i) := by
  obtain ⟨w1, w2, w3, w4, w5, w6, w7⟩ := hw
  have hv : vp_in (nI i) 160 := vp_in_nI hi (by decide)
  have hr : vp_in (nI R) 160 := vp_in_nI hR (by decide)
  unfold wpX_drop
  dsimp only
  refine nm_r (nI_pred R) ⟨hr, hv, nm_r (e' := bi_aK (bi_up ρ i (ρ R))) ?_ ⟨hr, hv, nm_r (e' := bi_aF (bi_up ρ i (ρ R))) ?_ ⟨hr, hv, nm_r (e' := bi_aT (bi_up ρ i (ρ R))) ?_ ⟨hr, hv, nm_r (e' := bi_aV (bi_up ρ i (ρ R))) ?_ ⟨hr, hv, nm_r (e' := bi_aS (bi_up ρ i (ρ R))) ?_ ⟨hr, hv, nm_r (e' := bi_aU (bi_up ρ i (ρ R))) ?_ h⟩⟩⟩⟩⟩⟩
  · rw [bi_rK (by omega), bi_nb (by omega), bi_wK (by omega)]
  · rw [bi_rF (by omega), bi_nb (by omega), bi_wF (by omega)]
  · rw [bi_rT (by omega), bi_nb (by omega), bi_wT (by omega)]
  · rw [bi_rV (by omega), bi_nb (by omega), bi_wV (by omega)]
  · rw [bi_rS (by omega), bi_nb (by omega), bi_wS (by omega)]
  · rw [bi_rU (by omega), bi_nb (by omega), bi_wUu (by omega)]
theorem bi_w100 {ρ : Nat → bi_Rw} {i : Nat} (h : i < 1000) : upd (bi_aU ρ) (nI i).toNatClampNeg (vp_nar .byte 100) = bi_aU (bi_up ρ i (bi_wU (ρ i) 100)) := by
  have e : vp_nar .byte 100 = nI 100 := bi_nb (n := 100) (by decide)
  rw [e]
  exact bi_wUu (r := bi_wU (ρ i) 100) h
theorem bi_wPr {ρ : Nat → bi_Rw} {i P : Nat} (h : i < 1000) (hP : P ≤ 60) : upd (bi_aU ρ) (nI i).toNatClampNeg (vp_nar .byte (nI P).toInt8.toInt32) = bi_aU (bi_up ρ i (bi_wU (ρ i) P)) := by
  rw [bi_nb8 (by omega)]
  exact bi_wUu (r := bi_wU (ρ i) P) h
/-- the same period, key and value, open or closed at this tick -/
def bi_Hit (P k d e : Nat) (L : Nat → Nat) (r : bi_Rw) : Prop := bi_K r = k ∧ bi_F r = d ∧ bi_T r = e ∧ L d = bi_V r + 1 ∧ (bi_U r = 100 ∨ bi_U r = P)
theorem bi_x_prov3 {post : SX → Prop} {P C R : Nat} {ρ : Nat → bi_Rw} {L O : Nat → Nat} {k d e v : Nat} (hP : P ≤ 60) (hR : R < 160) (hW : bi_IW P R ρ) (hk : k < 4) (hd : d < 16) (he : e ≤ 16) (hL : ∀ x, L x ≤ 10) (hv : L d = v + 1)
    (h1 : ∀ i, i < R → bi_Hit P k d e L (ρ i) → post (bi_xs P C R (bi_up ρ i (bi_wU (ρ i) 100)) L O))
    (h0 : (∀ i, i < R → bi_Hit P k d e L (ρ i) → False) → post (bi_xs P C (R + 1) (bi_up ρ R (k, d, e, v, P, 100)) L O)) :
    ∀ n i, i ≤ R → R - i < n → (∀ j, j < i → bi_Hit P k d e L (ρ j) → False) →
      wX_provide_3 post (nI k) (nI d) (nI e) (nI P) (nI C) (nI R) (bi_aK ρ) (bi_aF ρ) (bi_aT ρ) (bi_aV ρ) (bi_aS ρ) (bi_aU ρ) (bi_aL L) (bi_aL O) n (nI i) := by
  have hv9 : v ≤ 9 := by have := hL d; omega
  intro n
  induction n with
  | zero => intro i _ hn; omega
  | succ n ih =>
    intro i hi hn hj
    rw [wX_provide_3]
    refine pk_le R i (fun z => br_f (nI_ge (b := 160) hR (by decide)) ?_) (fun z => ?_) rfl rfl (by omega) (by omega)
    · have hr : vp_in (nI R) 160 := vp_in_nI hR (by decide)
      have hpost := h0 (fun j hjR => hj j (by omega))
      refine ⟨hr, nm_r (e' := bi_aK (bi_up ρ R (k, d, e, v, P, 100))) ?_ ⟨hr, nm_r (e' := bi_aF (bi_up ρ R (k, d, e, v, P, 100))) ?_ ⟨hr, nm_r (e' := bi_aT (bi_up ρ R (k, d, e, v, P, 100))) ?_ ⟨vp_in_nI (by omega) (by decide), hr, nm_r (e' := bi_aV (bi_up ρ R (k, d, e, v, P, 100))) ?_ ⟨hr, nm_r (e' := bi_aS (bi_up ρ R (k, d, e, v, P, 100))) ?_ ⟨hr, nm_r (e' := bi_aU (bi_up ρ R (k, d, e, v, P, 100))) ?_ (nm_r (nI_1 R) hpost)⟩⟩⟩⟩⟩⟩
      · rw [bi_nb8 (by omega)]; exact bi_wK (r := (k, d, e, v, P, 100)) (by omega)
      · rw [bi_nb8 (by omega)]; exact bi_wF (r := (k, d, e, v, P, 100)) (by omega)
      · rw [bi_nb8 (by omega)]; exact bi_wT (r := (k, d, e, v, P, 100)) (by omega)
      · rw [bi_rL (by omega), hv, bi_nl (by omega), bi_lv_s]; exact bi_wV (r := (k, d, e, v, P, 100)) (by omega)
      · rw [bi_nb8 (by omega)]; exact bi_wS (r := (k, d, e, v, P, 100)) (by omega)
      · have e100 : vp_nar .byte 100 = nI 100 := bi_nb (n := 100) (by decide)
        rw [e100]
        exact bi_wUu (r := (k, d, e, v, P, 100)) (by omega)
    · obtain ⟨w1, w2, w3, w4, w5, w6, w7⟩ := hW i z
      have hin : vp_in (nI i) 160 := vp_in_nI (by omega) (by decide)
      have next : (bi_Hit P k d e L (ρ i) → False) → ∀ x, x = nI i + 1 → wX_provide_3 post (nI k) (nI d) (nI e) (nI P) (nI C) (nI R) (bi_aK ρ) (bi_aF ρ) (bi_aT ρ) (bi_aV ρ) (bi_aS ρ) (bi_aU ρ) (bi_aL L) (bi_aL O) n x := by
        intro hc
        refine nm_r (nI_1 i) (ih (i + 1) (by omega) (by omega) (fun j hj' => ?_))
        by_cases e : j = i
        · rw [e]; exact hc
        · exact hj j (by omega)
      have no : (bi_Hit P k d e L (ρ i) → False) → wX_provide_66 post (wX_provide_3 post (nI k) (nI d) (nI e) (nI P) (nI C) (nI R) (bi_aK ρ) (bi_aF ρ) (bi_aT ρ) (bi_aV ρ) (bi_aS ρ) (bi_aU ρ) (bi_aL L) (bi_aL O) n) (nI k) (nI d) (nI e) (nI i) 0 (nI P) (nI C) (nI R) (bi_aK ρ) (bi_aF ρ) (bi_aT ρ) (bi_aV ρ) (bi_aS ρ) (bi_aU ρ) (bi_aL L) (bi_aL O) :=
        fun hc => br_t rfl (next hc)
      refine ⟨hin, pk_eq (bi_K (ρ i)) k (fun y1 => ⟨hin, pk_eq (bi_F (ρ i)) d (fun y2 => ⟨hin, pk_eq (bi_T (ρ i)) e (fun y3 => ⟨hin, vp_in_nI (by omega) (by decide), bi_b_lv (bi_V (ρ i) + 1) (L d) (bi_rVl (by omega)) (bi_rL (by omega)) (by omega) (hL d) (fun y4 => ?_) (fun y4 => no (fun q => y4 q.2.2.2.1.symm))⟩) (fun y3 => no (fun q => y3 q.2.2.1)) (bi_rT (by omega)) rfl (by omega) (by omega)⟩) (fun y2 => no (fun q => y2 q.2.1)) (bi_rF (by omega)) rfl (by omega) (by omega)⟩) (fun y1 => no (fun q => y1 q.1)) (bi_rK (by omega)) rfl (by omega) (by omega)⟩
      have hit : (bi_U (ρ i) = 100 ∨ bi_U (ρ i) = P) → post (nI P, nI C, nI R, bi_aK ρ, bi_aF ρ, bi_aT ρ, bi_aV ρ, bi_aS ρ, bi_aU (bi_up ρ i (bi_wU (ρ i) 100)), bi_aL L, bi_aL O) := by
        intro hu
        have hp := h1 i z ⟨y1, y2, y3, y4.symm, hu⟩
        rw [bi_xsU] at hp
        exact hp
      refine br_f bi_10 ⟨hin, pk_eq (bi_U (ρ i)) 100 (fun y5 => ⟨hin, nm_r (bi_w100 (by omega)) (hit (Or.inl y5))⟩) (fun y5 => ⟨hin, pk_eq (bi_U (ρ i)) P (fun y6 => ⟨hin, nm_r (bi_w100 (by omega)) (hit (Or.inr y6))⟩) (fun y6 => next (fun q => q.2.2.2.2.elim y5 y6)) (bi_rU (by omega)) rfl (by omega) (by omega)⟩) (bi_rU (by omega)) rfl (by omega) (by decide)⟩
theorem bi_x_prov {post : SX → Prop} {P C R : Nat} {ρ : Nat → bi_Rw} {L O : Nat → Nat} {k d e v : Nat} (hP : P ≤ 60) (hR : R < 160) (hW : bi_IW P R ρ) (hk : k < 4) (hd : d < 16) (he : e ≤ 16) (hL : ∀ x, L x ≤ 10) (hv : L d = v + 1)
    (h1 : ∀ i, i < R → bi_Hit P k d e L (ρ i) → post (bi_xs P C R (bi_up ρ i (bi_wU (ρ i) 100)) L O))
    (h0 : (∀ i, i < R → bi_Hit P k d e L (ρ i) → False) → post (bi_xs P C (R + 1) (bi_up ρ R (k, d, e, v, P, 100)) L O)) :
    wpX_provide post (bi_xs P C R ρ L O) (nI k) (nI d) (nI e) :=
  Exists.intro (R + 1) (bi_x_prov3 hP hR hW hk hd he hL hv h1 h0 (R + 1) 0 (by omega) (by omega) (fun j hj => by omega))
theorem bi_x_m90 {post : SX → Prop} {P C k N : Nat} {G L0 L O : Nat → Nat} (hP : P ≤ 60) (hk : k < 4) (hL : ∀ x, L x ≤ 10) (hN : N + bi_cnt (bi_New L0 L) 16 < 160)
    (h : ∀ R ρ, bi_P2 P k R ρ G L0 L N 16 → post (bi_xs P C R ρ L O)) :
    ∀ n d R ρ, d ≤ 16 → 16 - d < n → bi_P2 P k R ρ G L0 L N d →
      wX_match_90 post (nI k) n (nI d) (nI P) (nI C) (nI R) (bi_aK ρ) (bi_aF ρ) (bi_aT ρ) (bi_aV ρ) (bi_aS ρ) (bi_aU ρ) (bi_aL L) (bi_aL O) := by
  intro n
  induction n with
  | zero => intro d R ρ _ hn; omega
  | succ n ih =>
    intro d R ρ hd hn h2
    rw [wX_match_90]
    have hR : R < 160 := by
      have a := h2.2.2.2.2
      have b := bi_cnt_mono (p := bi_New L0 L) (a := d) 16 hd
      omega
    refine pk_le 16 d (fun z => ?_) (fun z => ?_) rfl rfl (by decide) (by omega)
    · have e : d = 16 := by omega
      rw [e] at h2
      exact h R ρ h2
    · refine bi_x_bg (by omega) hL (fun hb => br_f bi_10 (bi_x_end (by omega) hL (fun e he => ?_))) (fun hb => br_t rfl (nm_r (nI_1 d) (ih (d + 1) R ρ (by omega) (by omega) (bi_P2_skip h2 (fun z2 => absurd z2 hb)))))
      have hp := bi_Per_mk z hb he
      obtain ⟨v, hv⟩ : ∃ v, L d = v + 1 := ⟨L d - 1, by have := hb.1; omega⟩
      have hv9 : v ≤ 9 := by have := hL d; omega
      refine bi_x_prov hP hR h2.1.1 hk z he.2.1 hL hv (fun i hi hh => ?_) (fun hno => ?_)
      · exact nm_r (nI_1 d) (ih (d + 1) R _ (by omega) (by omega) (bi_P2_open h2 hP hp hi hh.1 hh.2.1 hh.2.2.1 hh.2.2.2.1 hh.2.2.2.2))
      · exact nm_r (nI_1 d) (ih (d + 1) (R + 1) _ (by omega) (by omega) (bi_P2_new h2 hP hk hp hv hv9 (fun i hi a b c d e => hno i hi ⟨a, b, c, d, e⟩)))
theorem bi_pred (r : Nat) : nI r + (-1) = bi_lv r := (Int32.sub_eq_add_neg _ _).symm
theorem bi_x_m7 {post : SX → Prop} {P C k N : Nat} {G L0 L O : Nat → Nat} (hP : P ≤ 60) (hk : k < 4) (hL : ∀ x, L x ≤ 10) (hN : N < 160)
    (h : ∀ R ρ, R ≤ N → bi_P1 P k R ρ G L0 L 0 → ∃ n, wX_match_90 post (nI k) n 0 (nI P) (nI C) (nI R) (bi_aK ρ) (bi_aF ρ) (bi_aT ρ) (bi_aV ρ) (bi_aS ρ) (bi_aU ρ) (bi_aL L) (bi_aL O)) :
    ∀ n r R ρ, r < n → R ≤ N → bi_P1 P k R ρ G L0 L r →
      wX_match_7 post (nI k) n (bi_lv r) (nI P) (nI C) (nI R) (bi_aK ρ) (bi_aF ρ) (bi_aT ρ) (bi_aV ρ) (bi_aS ρ) (bi_aU ρ) (bi_aL L) (bi_aL O) := by
  intro n
  induction n with
  | zero => intro r R ρ hn; omega
  | succ n ih =>
    intro r R ρ hn hR h1
    rw [wX_match_7]
    cases r with
    | zero => exact br_t (by decide) (h R ρ hR h1)
    | succ r =>
      have hrR : r < R := h1.1
      have w := h1.2.1.1 r hrR
      obtain ⟨w1, w2, w3, w4, w5, w6, w7⟩ := w
      have hin : vp_in (nI r) 160 := vp_in_nI (by omega) (by decide)
      have skip : (bi_K (ρ r) = k → bi_U (ρ r) = 100 → bi_PR L (ρ r)) → ∀ x, x = nI r + (-1) → wX_match_7 post (nI k) n x (nI P) (nI C) (nI R) (bi_aK ρ) (bi_aF ρ) (bi_aT ρ) (bi_aV ρ) (bi_aS ρ) (bi_aU ρ) (bi_aL L) (bi_aL O) :=
        fun hs => nm_r (bi_pred r) (ih r R ρ (by omega) hR (bi_P1_skip h1 hs))
      have no : ¬ (bi_K (ρ r) = k ∧ bi_U (ρ r) = 100) → wX_match_37 post (wX_match_7 post (nI k) n) (nI k) (nI r) 0 (nI P) (nI C) (nI R) (bi_aK ρ) (bi_aF ρ) (bi_aT ρ) (bi_aV ρ) (bi_aS ρ) (bi_aU ρ) (bi_aL L) (bi_aL O) :=
        fun hs => br_t rfl (skip (fun a b => absurd ⟨a, b⟩ hs))
      rw [bi_lv_s]
      refine br_f (nI_pos (by omega)) ⟨hin, pk_eq (bi_K (ρ r)) k (fun y1 => ⟨hin, pk_eq (bi_U (ρ r)) 100 (fun y2 => ?_) (fun y2 => no (fun q => y2 q.2)) (bi_rU (by omega)) rfl (by omega) (by decide)⟩) (fun y1 => no (fun q => y1 q.1)) (bi_rK (by omega)) rfl (by omega) (by omega)⟩
      unfold wX_match_37
      refine br_f bi_10 (bi_x_isPer (h1.2.1.1 r hrR) (by omega) hL (fun hpr => br_f bi_10 (skip (fun _ _ => hpr))) (fun hpr => br_t rfl ⟨hin, pk_eq (bi_S (ρ r)) P (fun y3 => ?_) (fun y3 => ⟨hin, nm_r (bi_wPr (by omega) hP) (nm_r (bi_pred r) ?_)⟩) (bi_rS (by omega)) rfl (by omega) (by omega)⟩))
      · obtain ⟨R', rfl⟩ : ∃ R', R = R' + 1 := ⟨R - 1, by omega⟩
        exact bi_x_drop (h1.2.1.1 R' (by omega)) hP (by omega) (by omega) (nm_r (bi_pred r) (ih r R' _ (by omega) (by omega) (bi_P1_drop h1 y1 hpr y3)))
      · have hs := ih r R _ (by omega) hR (bi_P1_close h1 hP y1 y2 hpr y3)
        obtain ⟨e1, e2, e3, e4, e5⟩ := bi_aUp (ρ := ρ) (i := r) (u := P)
        rw [e1, e2, e3, e4, e5] at hs
        exact hs
theorem bi_x_match {post : SX → Prop} {P C R k N : Nat} {ρ : Nat → bi_Rw} {G L0 L O : Nat → Nat} (hP : P ≤ 60) (hk : k < 4) (hL : ∀ x, L x ≤ 10) (hN : N + bi_cnt (bi_New L0 L) 16 < 160) (hR : R ≤ N)
    (I : bi_Inv P R ρ G) (h0 : ∀ x, x < 16 → L0 x = bi_gl G P k x)
    (h : ∀ R ρ, bi_P2 P k R ρ G L0 L N 16 → post (bi_xs P C R ρ L O)) : wpX_match post (bi_xs P C R ρ L O) (nI k) := by
  unfold wpX_match
  dsimp only
  refine nm_e ⟨R + 1, bi_x_m7 hP hk hL (by omega) (fun R' ρ' hR' h1 => ⟨17, bi_x_m90 hP hk hL hN h 17 0 R' ρ' (by omega) (by omega) (bi_P2_0 h1 hR')⟩) (R + 1) R R ρ (by omega) hR ⟨Nat.le_refl R, bi_mid_of I, fun i a b => by omega, bi_kept_0 I hP hk h0⟩⟩
end
section
/-! a change, on both sides -/
theorem bi_x_ch62 {post : Int32 → SX → Prop} {P C R k N a b c : Nat} {ρ : Nat → bi_Rw} {G L0 O : Nat → Nat} (hP : P ≤ 60) (hk : k < 4) (hN : N ≤ 147) (hR : R ≤ N) (hab : a < b) (hb : b ≤ 16) (hc : c ≤ 10)
    (I : bi_Inv P R ρ G) (h0 : ∀ x, x < 16 → L0 x = bi_gl G P k x)
    (h : ∀ R' ρ' L, (∀ x, a ≤ x → x < b → L x = c) → (∀ x, x < a ∨ b ≤ x → L x = L0 x) → (∀ x, L x ≤ 10) → bi_P2 P k R' ρ' G L0 L N 16 → post (nI (bi_cnt (fun x => a ≤ x ∧ L0 x ≠ c) b)) (bi_xs P C R' ρ' L O)) :
    ∀ n d L, a ≤ d → d ≤ b → b - d < n → (∀ x, a ≤ x → x < d → L x = c) → (∀ x, x < a ∨ d ≤ x → L x = L0 x) → (∀ x, L x ≤ 10) →
      wX_change_62 post (nI k) (nI b) (bi_lv c) (nI P) (nI C) (nI R) n (nI (bi_cnt (fun x => a ≤ x ∧ L0 x ≠ c) d)) (nI d) (bi_aK ρ) (bi_aF ρ) (bi_aT ρ) (bi_aV ρ) (bi_aS ρ) (bi_aU ρ) (bi_aL L) (bi_aL O) := by
  intro n
  induction n with
  | zero => intro d L _ _ hn; omega
  | succ n ih =>
    intro d L hd1 hd2 hn hin hout hL
    rw [wX_change_62]
    refine pk_le b d (fun z => ?_) (fun z => ?_) rfl rfl (by omega) (by omega)
    · have e : d = b := by omega
      subst e
      have h3 := bi_new_3 hab hb hin hout
      exact bi_x_match hP hk hL (by omega) hR I h0 (fun R' ρ' h2 => h R' ρ' L hin hout hL h2)
    · have hv : vp_in (nI d) 17 := vp_in_nI (by omega) (by decide)
      have hs := ih (d + 1) (bi_un L d c) (by omega) (by omega) (by omega) (fun x p q => ?_) (fun x p => ?_) (bi_un_le hL hc)
      · have e0 : L d = L0 d := hout d (Or.inr (Nat.le_refl d))
        have ew : upd (bi_aL L) (nI d).toNatClampNeg (vp_nar .byte (bi_lv c).toInt8.toInt32) = bi_aL (bi_un L d c) := by
          rw [bi_nl8 hc, bi_wL (by omega)]
        refine ⟨hv, bi_b_lv (L d) c (bi_rL (by omega)) rfl (hL d) hc (fun y => ?_) (fun y => ?_)⟩
        · rw [bi_cnt_f (p := fun x => a ≤ x ∧ L0 x ≠ c) (fun q => q.2 (e0.symm.trans y))] at hs
          exact nm_r (Int32.add_zero _) ⟨hv, nm_r ew (nm_r (nI_1 d) hs)⟩
        · rw [bi_cnt_t (p := fun x => a ≤ x ∧ L0 x ≠ c) ⟨hd1, fun q => y (e0.trans q)⟩] at hs
          exact nm_r (nI_1 _) ⟨hv, nm_r ew (nm_r (nI_1 d) hs)⟩
      · by_cases e : x = d
        · rw [e, bi_un_s]
        · rw [bi_un_n e]; exact hin x p (by omega)
      · rw [bi_un_n (by omega)]; exact hout x (by omega)
/-- the change's own checks -/
def bi_okc (p0 p1 p2 : Int32) : Prop := ∃ k a b, k < 4 ∧ a < b ∧ b ≤ 16 ∧ p0 = nI k ∧ p1 = nI a ∧ p2 = nI b
theorem bi_okc_mk {k : Nat} {p1 p2 : Int32} (hk : k < 4) (h1 : ¬ p1 < 0) (h2 : ¬ p2 ≤ p1) (h3 : p2 ≤ 16) : bi_okc (nI k) p1 p2 := by
  obtain ⟨a, ha, rfl⟩ := nI_of h1
  have h4 : ¬ p2 < 0 := by
    intro z
    apply h2
    rw [Int32.lt_iff_toInt_lt] at z
    rw [Int32.le_iff_toInt_le, nI_toInt ha]
    rw [show (0 : Int32).toInt = 0 from by decide] at z
    omega
  obtain ⟨b, hb, rfl⟩ := nI_of2 (M := 16) (n := 16) (by decide) h4 h3
  rw [nI_leI (by omega) ha] at h2
  exact ⟨k, a, b, hk, by omega, hb, rfl, rfl, rfl⟩
theorem bi_x_chBad {post : Int32 → SX → Prop} {P C R : Nat} {ρ : Nat → bi_Rw} {L O : Nat → Nat} {p0 p1 p2 p3 : Int32} (hn : ¬ bi_okc p0 p1 p2) (h : post (-3) (bi_xs P C R ρ L O)) : wpX_change post (bi_xs P C R ρ L O) p0 p1 p2 p3 := by
  unfold wpX_change
  dsimp only
  rcases bi_argN 4 (by decide) p0 with ⟨k, hk, rfl⟩ | hp
  · refine bi_x_key hk (br_f bi_10 (br_c (fun _ => h) (fun c1 => br_c (fun _ => h) (fun c2 => br_c (fun c3 => ?_) (fun _ => h)))))
    exact (hn (bi_okc_mk hk c1 c2 c3)).elim
  · exact bi_x_keyF hp (br_t rfl h)
theorem bi_x_chFull {post : Int32 → SX → Prop} {P C R : Nat} {ρ : Nat → bi_Rw} {L O : Nat → Nat} {k a b : Nat} {p3 : Int32} (hk : k < 4) (hab : a < b) (hb : b ≤ 16) (hC : 50 ≤ C) (hC2 : C ≤ 50) (h : post (-2) (bi_xs P C R ρ L O)) : wpX_change post (bi_xs P C R ρ L O) (nI k) (nI a) (nI b) p3 := by
  unfold wpX_change
  dsimp only
  exact bi_x_key hk (br_f bi_10 (br_f (nI_pos (by omega)) (br_f (nI_ge hab (by omega)) (br_t (nI_le (b := 16) hb (by decide)) (br_f (nI_nlt (b := 50) hC (by omega)) h)))))
theorem bi_x_change {post : Int32 → SX → Prop} {P C R k a b c : Nat} {ρ : Nat → bi_Rw} {G L O : Nat → Nat} (hP : P ≤ 60) (hC : C < 50) (hR : R ≤ 3 * C) (hk : k < 4) (hab : a < b) (hb : b ≤ 16) (hc : c ≤ 10)
    (I : bi_Inv P R ρ G) (hL : ∀ x, L x ≤ 10)
    (h : ∀ R' ρ' L', R' ≤ 3 * (C + 1) → (∀ x, L' x ≤ 10) →
      (∀ G', (∀ x, a ≤ x → x < b → bi_gl G' P k x = c) → (∀ t k' x, t ≤ P → k' < 4 → x < 16 → (t < P ∨ k' ≠ k ∨ x < a ∨ b ≤ x) → bi_gl G' t k' x = bi_gl G t k' x) → bi_Inv P R' ρ' G') →
      post (nI (bi_cnt (fun x => a ≤ x ∧ bi_gl G P k x ≠ c) b)) (bi_xs P (C + 1) R' ρ' L' O)) :
    wpX_change post (bi_xs P C R ρ L O) (nI k) (nI a) (nI b) (bi_lv c) := by
  unfold wpX_change
  dsimp only
  refine bi_x_key hk (br_f bi_10 (br_f (nI_pos (by omega)) (br_f (nI_ge hab (by omega)) (br_t (nI_le (b := 16) hb (by decide)) (br_t (nI_lt (b := 50) hC (by decide)) (nm_r (nI_1 C) ?_))))))
  refine bi_x_readLine I hP (by omega) hk (Nat.le_refl P) hL (fun L0 h0 h16 hL0 => ?_)
  have e0 : bi_cnt (fun x => a ≤ x ∧ L0 x ≠ c) a = 0 := bi_cnt_none a (fun i hi z => by have := z.1; omega)
  have eb : bi_cnt (fun x => a ≤ x ∧ L0 x ≠ c) b = bi_cnt (fun x => a ≤ x ∧ bi_gl G P k x ≠ c) b :=
    bi_cnt_congr b (fun i hi => by rw [h0 i (by omega)])
  have W := bi_x_ch62 (post := post) (C := C + 1) (O := O) hP hk (N := 3 * C) (by omega) hR hab hb hc I h0 (fun R' ρ' L' hin hout hL' h2 => ?_) (b + 1) a L0 (Nat.le_refl a) (by omega) (by omega) (fun x p q => by omega) (fun x _ => rfl) hL0
  · rw [e0] at W
    exact ⟨b + 1, W⟩
  · rw [eb]
    have h3 := bi_new_3 hab hb hin hout
    refine h R' ρ' L' (by have := h2.2.2.2.2; omega) hL' (fun G' g1 g2 => bi_P2_end h2 hP hk (fun x hx => ?_) (fun t k' x ht hk' hx hor => ?_))
    · by_cases q : a ≤ x ∧ x < b
      · rw [hin x q.1 q.2, g1 x q.1 q.2]
      · rw [hout x (by omega), h0 x hx, g2 P k x (Nat.le_refl P) hk hx (by omega)]
    · exact (g2 t k' x ht hk' hx (by omega)).symm
/-! the reference's change -/
theorem bi_y_ch28 {post : Int32 → SY → Prop} {P C k a b c : Nat} {G0 : Nat → Nat} (hP : P ≤ 60) (hk : k < 4) (hb : b ≤ 16) (hc : c ≤ 10)
    (h : ∀ G, (∀ x, a ≤ x → x < b → G (64 * P + 16 * k + x) = c) → (∀ y, y < 64 * P + 16 * k + a ∨ 64 * P + 16 * k + b ≤ y → G y = G0 y) → (∀ x, G x ≤ 10) → post (nI (bi_cnt (fun x => a ≤ x ∧ bi_gl G0 P k x ≠ c) b)) (bi_ys P C G)) :
    ∀ n d G, a ≤ d → d ≤ b → b - d < n → (∀ x, a ≤ x → x < d → G (64 * P + 16 * k + x) = c) → (∀ y, y < 64 * P + 16 * k + a ∨ 64 * P + 16 * k + d ≤ y → G y = G0 y) → (∀ x, G x ≤ 10) →
      wY_change_28 post (nI k) (nI b) (nI c) (nI P) (nI C) n (nI (bi_cnt (fun x => a ≤ x ∧ bi_gl G0 P k x ≠ c) d)) (nI d) (bi_aG G) := by
  intro n
  induction n with
  | zero => intro d G _ _ hn; omega
  | succ n ih =>
    intro d G hd1 hd2 hn hin hout hG
    rw [wY_change_28]
    refine pk_le b d (fun z => ?_) (fun z => ?_) rfl rfl (by omega) (by omega)
    · have e : d = b := by omega
      subst e
      exact h G hin hout hG
    · have hv : vp_in (nI (64 * P + 16 * k + d)) 3904 := vp_in_nI (by omega) (by decide)
      have hs := ih (d + 1) (bi_un G (64 * P + 16 * k + d) c) (by omega) (by omega) (by omega) (fun x p q => ?_) (fun x p => ?_) (bi_un_le hG hc)
      · have e0 : G (64 * P + 16 * k + d) = bi_gl G0 P k d := hout _ (Or.inr (Nat.le_refl _))
        have g1 := hG (64 * P + 16 * k + d)
        have ew : upd (bi_aG G) (nI (64 * P + 16 * k + d)).toNatClampNeg (nI c) = bi_aG (bi_un G (64 * P + 16 * k + d) c) := bi_wG (by omega)
        refine nm_r (bi_ix P k d) ⟨hv, pk_eq (G (64 * P + 16 * k + d)) c (fun y => ?_) (fun y => ?_) (bi_rG (by omega)) rfl (by omega) (by omega)⟩
        · rw [bi_cnt_f (p := fun x => a ≤ x ∧ bi_gl G0 P k x ≠ c) (fun q => q.2 (e0.symm.trans y))] at hs
          exact And.intro hv (nm_r ew (nm_r (nI_1 d) hs))
        · rw [bi_cnt_t (p := fun x => a ≤ x ∧ bi_gl G0 P k x ≠ c) ⟨hd1, fun q => y (e0.trans q)⟩] at hs
          rw [nI_1]
          exact And.intro hv (nm_r ew (nm_r (nI_1 d) hs))
      · by_cases e : x = d
        · rw [e, bi_un_s]
        · rw [bi_un_n (by omega)]; exact hin x p (by omega)
      · rw [bi_un_n (by omega)]; exact hout x (by omega)
theorem bi_y_change {post : Int32 → SY → Prop} {P C k a b c : Nat} {G : Nat → Nat} (hP : P ≤ 60) (hC : C < 50) (hk : k < 4) (hab : a < b) (hb : b ≤ 16) (hc : c ≤ 10) (hG : ∀ x, G x ≤ 10)
    (h : ∀ G', (∀ x, a ≤ x → x < b → bi_gl G' P k x = c) → (∀ t k' x, t ≤ P → k' < 4 → x < 16 → (t < P ∨ k' ≠ k ∨ x < a ∨ b ≤ x) → bi_gl G' t k' x = bi_gl G t k' x) → (∀ x, G' x ≤ 10) →
      post (nI (bi_cnt (fun x => a ≤ x ∧ bi_gl G P k x ≠ c) b)) (bi_ys P (C + 1) G')) :
    wpY_change post (bi_ys P C G) (nI k) (nI a) (nI b) (nI c) := by
  unfold wpY_change
  dsimp only
  refine br_t (nI_lt (b := 50) hC (by decide)) (nm_r (nI_1 C) ⟨b + 1, ?_⟩)
  have e0 : bi_cnt (fun x => a ≤ x ∧ bi_gl G P k x ≠ c) a = 0 := bi_cnt_none a (fun i hi z => by have := z.1; omega)
  have W := bi_y_ch28 (post := post) (C := C + 1) (a := a) (G0 := G) hP hk hb hc (fun G' g1 g2 g3 => ?_) (b + 1) a G (Nat.le_refl a) (by omega) (by omega) (fun x p q => by omega) (fun x _ => rfl) hG
  · rw [e0] at W
    exact W
  · refine h G' g1 (fun t k' x ht hk' hx hor => g2 _ ?_) g3
    omega
theorem bi_y_chFull {post : Int32 → SY → Prop} {P C : Nat} {G : Nat → Nat} {p0 p1 p2 p3 : Int32} (hC : 50 ≤ C) (hC2 : C ≤ 50) (h : post (-2) (bi_ys P C G)) : wpY_change post (bi_ys P C G) p0 p1 p2 p3 :=
  br_f (nI_nlt (b := 50) hC (by omega)) h
/-! a tick -/
theorem bi_y_tick24 {post : Int32 → SY → Prop} {P C : Nat} {G0 : Nat → Nat} (hP : P < 60)
    (h : ∀ G, (∀ x, x < 64 → G (64 * (P + 1) + x) = G0 (64 * P + x)) → (∀ y, y < 64 * (P + 1) → G y = G0 y) → (∀ x, G x ≤ 10) → post (nI (P + 1)) (bi_ys (P + 1) C G)) :
    ∀ n c G, c ≤ 64 → 64 - c < n → (∀ x, x < c → G (64 * (P + 1) + x) = G0 (64 * P + x)) → (∀ y, y < 64 * (P + 1) → G y = G0 y) → (∀ x, G x ≤ 10) →
      wY_tick_24 post (nI (P + 1)) (nI C) n (nI c) (bi_aG G) := by
  intro n
  induction n with
  | zero => intro c G _ hn; omega
  | succ n ih =>
    intro c G hc hn hin hout hG
    rw [wY_tick_24]
    refine pk_le 64 c (fun z => h G (fun x hx => hin x (by omega)) hout hG) (fun z => ?_) rfl rfl (by decide) (by omega)
    have e1 : ((64 * nI (P + 1)) - 64) + nI c = nI (64 * P + c) := by
      rw [show (64 : Int32) = nI 64 from rfl, pk_mul, pk_sub (by omega), nI_add]
      exact congrArg nI (by omega)
    have e2 : (64 * nI (P + 1)) + nI c = nI (64 * (P + 1) + c) := by
      rw [show (64 : Int32) = nI 64 from rfl, pk_mul, nI_add]
    rw [e1, e2]
    have ew : upd (bi_aG G) (nI (64 * (P + 1) + c)).toNatClampNeg (bi_aG G (nI (64 * P + c)).toNatClampNeg) = bi_aG (bi_un G (64 * (P + 1) + c) (G (64 * P + c))) := by
      rw [bi_rG (by omega), bi_wG (by omega)]
    refine ⟨vp_in_nI (by omega) (by decide), vp_in_nI (by omega) (by decide), nm_r ew (nm_r (nI_1 c) (ih (c + 1) _ (by omega) (by omega) (fun x hx => ?_) (fun y hy => ?_) (bi_un_le hG (hG _))))⟩
    · by_cases e : x = c
      · rw [e, bi_un_s]; exact hout _ (by omega)
      · rw [bi_un_n (by omega)]; exact hin x (by omega)
    · rw [bi_un_n (by omega)]; exact hout y hy
end
section
/-- the relation at the head of a turn: one table of rows and the grid that it stands for -/
def i_Rel (k : Nat) (u : SX) (v : SY) : Prop :=
  ∃ (P C R : Nat) (ρ : Nat → bi_Rw) (L O G : Nat → Nat), P ≤ 60 ∧ C ≤ 50 ∧ R ≤ 3 * C ∧ (∀ x, G x ≤ 10) ∧ (∀ x, L x ≤ 10) ∧ (∀ x, O x ≤ 10) ∧ bi_Inv P R ρ G ∧ u = bi_xs P C R ρ L O ∧ v = bi_ys P C G
theorem i_up {k : Nat} {u : SX} {v : SY} (h : i_Rel k u v) : i_Rel (k + 5) u v := h
theorem bi_rel_mk {k P C R : Nat} {ρ : Nat → bi_Rw} {L O G : Nat → Nat} (hP : P ≤ 60) (hC : C ≤ 50) (hR : R ≤ 3 * C) (hG : ∀ x, G x ≤ 10) (hL : ∀ x, L x ≤ 10) (hO : ∀ x, O x ≤ 10) (hI : bi_Inv P R ρ G) : i_Rel k (bi_xs P C R ρ L O) (bi_ys P C G) :=
  ⟨P, C, R, ρ, L, O, G, hP, hC, hR, hG, hL, hO, hI, rfl, rfl⟩
theorem i_vc0 : wpX_init (fun u => wpY_init (fun v => i_Rel 0 u v)) := by
  have eL : bi_aL (fun _ => 1) = fun _ => 0 := funext (fun _ => bi_lv_s 0)
  have e : bi_xs 0 0 0 (fun _ => (0, 0, 0, 0, 0, 0)) (fun _ => 1) (fun _ => 1) = (0, 0, 0, (fun _ => 0), (fun _ => 0), (fun _ => 0), (fun _ => 0), (fun _ => 0), (fun _ => 0), (fun _ => 0), (fun _ => 0)) := by
    show (nI 0, nI 0, nI 0, bi_aK (fun _ => (0, 0, 0, 0, 0, 0)), bi_aF (fun _ => (0, 0, 0, 0, 0, 0)), bi_aT (fun _ => (0, 0, 0, 0, 0, 0)), bi_aV (fun _ => (0, 0, 0, 0, 0, 0)), bi_aS (fun _ => (0, 0, 0, 0, 0, 0)), bi_aU (fun _ => (0, 0, 0, 0, 0, 0)), bi_aL (fun _ => 1), bi_aL (fun _ => 1)) = _
    rw [eL]
    rfl
  have J : i_Rel 0 (bi_xs 0 0 0 (fun _ => (0, 0, 0, 0, 0, 0)) (fun _ => 1) (fun _ => 1)) (bi_ys 0 0 (fun _ => 0)) := by
    refine bi_rel_mk (by decide) (by decide) (by decide) (fun _ => by decide) (fun _ => by decide) (fun _ => by decide) ⟨fun i hi => ?_, fun i t k hi => ?_, fun t k d _ _ _ hg => ?_, fun i j t k hi => ?_, fun i j hi => ?_⟩
    · omega
    · omega
    · exact absurd hg (Nat.lt_irrefl 0)
    · omega
    · omega
  rw [e] at J
  exact J
theorem i_vc_tick {k : Nat} {u : SX} {v : SY} (I : i_Rel k u v) (hk : k + 5 ≤ 2560) : wpX_tick (fun r u' => wpY_tick (fun r' v' => r' = r ∧ i_Rel (k + 5) u' v') v) u := by
  have J := i_up I
  obtain ⟨P, C, R, ρ, L, O, G, hP, hC, hR, hG, hL, hO, hI, rfl, rfl⟩ := I
  unfold wpX_tick
  dsimp only
  by_cases h : P < 60
  · refine br_t (nI_lt (b := 60) h (by decide)) (nm_r (nI_1 P) ?_)
    unfold wpY_tick
    dsimp only
    refine br_t (nI_lt (b := 60) h (by decide)) (nm_r (nI_1 P) ⟨65, bi_y_tick24 (G0 := G) h (fun G' g1 g2 g3 => ⟨rfl, ?_⟩) 65 0 G (by omega) (by omega) (fun x hx => by omega) (fun y _ => rfl) hG⟩)
    refine bi_rel_mk (by omega) hC hR g3 hL hO (bi_inv_tick hI h (fun t k x ht hk hx => ?_) (fun k x hk hx => ?_))
    · exact (g2 (64 * t + 16 * k + x) (by omega)).symm
    · have e := g1 (16 * k + x) (by omega)
      rw [← Nat.add_assoc, ← Nat.add_assoc] at e
      exact e.symm
  · refine br_f (nI_nlt (b := 60) (by omega) (by omega)) ?_
    exact br_f (nI_nlt (b := 60) (by omega) (by omega)) ⟨rfl, J⟩
theorem i_vc_now {k : Nat} {u : SX} {v : SY} (I : i_Rel k u v) (hk : k + 5 ≤ 2560) : wpX_now (fun r => wpY_now (fun r' => r' = r ∧ i_Rel (k + 5) u v) v) u := by
  have J := i_up I
  obtain ⟨P, C, R, ρ, L, O, G, hP, hC, hR, hG, hL, hO, hI, rfl, rfl⟩ := I
  exact ⟨rfl, J⟩
/-! the two changes -/
theorem bi_n9 {p : Int32} : nI 9 < p ↔ nI 10 ≤ p := (bi_le_lt rfl (by decide)).symm
theorem bi_y_sayBad {post : Int32 → SY → Prop} {P C : Nat} {G : Nat → Nat} {p0 p1 p2 p3 : Int32} (hn : ¬ bi_okc p0 p1 p2 ∨ (p3 < 0 ∨ nI 10 ≤ p3)) (h : post (-3) (bi_ys P C G)) : wpY_say post (bi_ys P C G) p0 p1 p2 p3 := by
  unfold wpY_say
  dsimp only
  rcases bi_argN 4 (by decide) p0 with ⟨k, hk, rfl⟩ | hp
  · refine bi_y_key hk (br_f bi_10 (br_c (fun _ => h) (fun c1 => br_c (fun _ => h) (fun c2 => br_c (fun _ => h) (fun c3 => br_c (fun _ => h) (fun c4 => br_c (fun _ => h) (fun c5 => ?_)))))))
    rcases hn with z | z | z
    · exact (z (bi_okc_mk hk c1 c2 (Int32.not_lt.mp c3))).elim
    · exact (c4 z).elim
    · exact (c5 (bi_n9.mpr z)).elim
  · exact bi_y_keyF hp (br_t rfl h)
theorem bi_y_unsayBad {post : Int32 → SY → Prop} {P C : Nat} {G : Nat → Nat} {p0 p1 p2 : Int32} (hn : ¬ bi_okc p0 p1 p2) (h : post (-3) (bi_ys P C G)) : wpY_unsay post (bi_ys P C G) p0 p1 p2 := by
  unfold wpY_unsay
  dsimp only
  rcases bi_argN 4 (by decide) p0 with ⟨k, hk, rfl⟩ | hp
  · refine bi_y_key hk (br_f bi_10 (br_c (fun _ => h) (fun c1 => br_c (fun _ => h) (fun c2 => br_c (fun _ => h) (fun c3 => ?_)))))
    exact (hn (bi_okc_mk hk c1 c2 (Int32.not_lt.mp c3))).elim
  · exact bi_y_keyF hp (br_t rfl h)
theorem i_vc_say {k : Nat} {u : SX} {v : SY} (I : i_Rel k u v) (hk : k + 5 ≤ 2560) (v1 : Int32) (v2 : Int32) (v3 : Int32) (v4 : Int32) : wpX_say (fun r u' => wpY_say (fun r' v' => r' = r ∧ i_Rel (k + 5) u' v') v v1 v2 v3 v4) u v1 v2 v3 v4 := by
  have J := i_up I
  obtain ⟨P, C, R, ρ, L, O, G, hP, hC, hR, hG, hL, hO, hI, rfl, rfl⟩ := I
  unfold wpX_say
  dsimp only
  rcases bi_argN 10 (by decide) v4 with ⟨w, hw, rfl⟩ | b4
  · refine br_f (nI_pos (by omega)) (br_t (nI_le (b := 9) (by omega) (by decide)) ?_)
    by_cases ho : bi_okc v1 v2 v3
    · obtain ⟨kk, a, b, hkk, hab, hb, rfl, rfl, rfl⟩ := ho
      have ysay : ∀ post : Int32 → SY → Prop, wpY_change (fun r u => match u with | (f, c, g) => post r (f, c, g)) (bi_ys P C G) (nI kk) (nI a) (nI b) (nI (w + 1)) → wpY_say post (bi_ys P C G) (nI kk) (nI a) (nI b) (nI w) := by
        intro post hpost
        unfold wpY_say
        dsimp only
        refine bi_y_key hkk (br_f bi_10 (br_f (nI_pos (by omega)) (br_f (nI_ge hab (by omega)) (br_f (bi_nk (n := 16) hb (by decide)) (br_f (nI_pos (by omega)) (br_f (bi_nk (n := 9) (by omega) (by decide)) ?_))))))
        rw [nI_1]
        exact hpost
      by_cases hc : C < 50
      · have ew : nI w = bi_lv (w + 1) := (bi_lv_s w).symm
        have X := bi_x_change (post := fun r_3 u => match u with | (f0, f1, f2, a0, a1, a2, a3, a4, a5, a6, a7) => wpY_say (fun r' v' => r' = r_3 ∧ i_Rel (k + 5) (f0, f1, f2, a0, a1, a2, a3, a4, a5, a6, a7) v') (bi_ys P C G) (nI kk) (nI a) (nI b) (nI w)) (c := w + 1) (O := O) hP hc hR hkk hab hb (by omega) hI hL (fun R' ρ' L' r1 r2 r3 => ?_)
        · rw [← ew] at X
          exact X
        · refine ysay _ (bi_y_change hP hc hkk hab hb (by omega) hG (fun G' g1 g2 g3 => ⟨rfl, ?_⟩))
          exact bi_rel_mk hP (by omega) r1 g3 r2 hO (r3 G' g1 g2)
      · exact bi_x_chFull hkk hab hb (by omega) hC (ysay _ (bi_y_chFull (by omega) hC ⟨rfl, J⟩))
    · exact bi_x_chBad ho (bi_y_sayBad (Or.inl ho) ⟨rfl, J⟩)
  · have bad := bi_y_sayBad (post := fun r' v' => r' = -3 ∧ i_Rel (k + 5) (bi_xs P C R ρ L O) v') (P := P) (C := C) (G := G) (p0 := v1) (p1 := v2) (p2 := v3) (p3 := v4) (Or.inr b4) ⟨rfl, J⟩
    refine br_c (fun _ => bad) (fun z => br_f ?_ bad)
    exact Int32.not_le.mpr (bi_n9.mpr (b4.resolve_left z))
theorem i_vc_unsay {k : Nat} {u : SX} {v : SY} (I : i_Rel k u v) (hk : k + 5 ≤ 2560) (v1 : Int32) (v2 : Int32) (v3 : Int32) : wpX_unsay (fun r u' => wpY_unsay (fun r' v' => r' = r ∧ i_Rel (k + 5) u' v') v v1 v2 v3) u v1 v2 v3 := by
  have J := i_up I
  obtain ⟨P, C, R, ρ, L, O, G, hP, hC, hR, hG, hL, hO, hI, rfl, rfl⟩ := I
  unfold wpX_unsay
  dsimp only
  by_cases ho : bi_okc v1 v2 v3
  · obtain ⟨kk, a, b, hkk, hab, hb, rfl, rfl, rfl⟩ := ho
    have ysay : ∀ post : Int32 → SY → Prop, wpY_change (fun r u => match u with | (f, c, g) => post r (f, c, g)) (bi_ys P C G) (nI kk) (nI a) (nI b) (nI 0) → wpY_unsay post (bi_ys P C G) (nI kk) (nI a) (nI b) := by
      intro post hpost
      unfold wpY_unsay
      dsimp only
      exact bi_y_key hkk (br_f bi_10 (br_f (nI_pos (by omega)) (br_f (nI_ge hab (by omega)) (br_f (bi_nk (n := 16) hb (by decide)) hpost))))
    by_cases hc : C < 50
    · have X := bi_x_change (post := fun r_3 u => match u with | (f0, f1, f2, a0, a1, a2, a3, a4, a5, a6, a7) => wpY_unsay (fun r' v' => r' = r_3 ∧ i_Rel (k + 5) (f0, f1, f2, a0, a1, a2, a3, a4, a5, a6, a7) v') (bi_ys P C G) (nI kk) (nI a) (nI b)) (c := 0) (O := O) hP hc hR hkk hab hb (by omega) hI hL (fun R' ρ' L' r1 r2 r3 => ?_)
      · rw [bi_lv_0] at X
        exact X
      · refine ysay _ (bi_y_change hP hc hkk hab hb (by omega) hG (fun G' g1 g2 g3 => ⟨rfl, ?_⟩))
        exact bi_rel_mk hP (by omega) r1 g3 r2 hO (r3 G' g1 g2)
    · exact bi_x_chFull hkk hab hb (by omega) hC (ysay _ (bi_y_chFull (by omega) hC ⟨rfl, J⟩))
  · exact bi_x_chBad ho (bi_y_unsayBad ho ⟨rfl, J⟩)
/-! the questions -/
theorem i_vc_at {k : Nat} {u : SX} {v : SY} (I : i_Rel k u v) (hk : k + 5 ≤ 2560) (v1 : Int32) (v2 : Int32) (v3 : Int32) : wpX_at (fun r => wpY_at (fun r' => r' = r ∧ i_Rel (k + 5) u v) v v1 v2 v3) u v1 v2 v3 := by
  have J := i_up I
  obtain ⟨P, C, R, ρ, L, O, G, hP, hC, hR, hG, hL, hO, hI, rfl, rfl⟩ := I
  unfold wpX_at wpY_at
  dsimp only
  rcases bi_argT P hP v1 with ⟨t, ht, rfl⟩ | b1
  · rcases bi_argN 4 (by decide) v2 with ⟨k2, hk2, rfl⟩ | b2
    · rcases bi_argN 16 (by decide) v3 with ⟨d, hd, rfl⟩ | b3
      · refine bi_x_tick hP ht (br_f bi_10 (bi_x_key hk2 (br_f bi_10 (bi_x_day hd (br_f bi_10 (bi_x_val hI hP (by omega) hk2 ht hd ?_))))))
        exact bi_y_time hP ht (br_f bi_10 (bi_y_key hk2 (br_f bi_10 (br_f (nI_pos (by omega)) (br_f (bi_nk (n := 15) (by omega) (by decide)) (bi_y_cell (by omega) hk2 hd ⟨rfl, J⟩))))))
      · refine bi_x_tick hP ht (br_f bi_10 (bi_x_key hk2 (br_f bi_10 (bi_x_dayF b3 (br_t rfl ?_)))))
        exact bi_y_time hP ht (br_f bi_10 (bi_y_key hk2 (br_f bi_10 (br_c (fun _ => ⟨rfl, J⟩) (fun z => br_t (bi_n15.mpr (b3.resolve_left z)) ⟨rfl, J⟩)))))
    · refine bi_x_tick hP ht (br_f bi_10 (bi_x_keyF b2 (br_t rfl ?_)))
      exact bi_y_time hP ht (br_f bi_10 (bi_y_keyF b2 (br_t rfl ⟨rfl, J⟩)))
  · exact bi_x_tickF b1 (br_t rfl (bi_y_timeF b1 (br_t rfl ⟨rfl, J⟩)))
theorem i_vc_periods {k : Nat} {u : SX} {v : SY} (I : i_Rel k u v) (hk : k + 5 ≤ 2560) (v1 : Int32) (v2 : Int32) : wpX_periods (fun r => wpY_periods (fun r' => r' = r ∧ i_Rel (k + 5) u v) v v1 v2) u v1 v2 := by
  have J := i_up I
  obtain ⟨P, C, R, ρ, L, O, G, hP, hC, hR, hG, hL, hO, hI, rfl, rfl⟩ := I
  have bad : ((v1 < 0 ∨ nI P < v1) ∨ (∃ t, t ≤ P ∧ v1 = nI t) ∧ (v2 < 0 ∨ nI 4 ≤ v2)) → wpX_periods (fun r => wpY_periods (fun r' => r' = r ∧ i_Rel (k + 5) (bi_xs P C R ρ L O) (bi_ys P C G)) (bi_ys P C G) v1 v2) (bi_xs P C R ρ L O) v1 v2 := by
    intro hp
    refine Exists.intro (R + 1) (bi_x_per5F hP (by omega) hI.1 hp ?_ (R + 1) 0 (by omega) (by omega))
    exact bi_y_perF hP hp ⟨rfl, J⟩
  rcases bi_argT P hP v1 with ⟨t, ht, rfl⟩ | b1
  · rcases bi_argN 4 (by decide) v2 with ⟨k2, hk2, rfl⟩ | b2
    · refine Exists.intro (R + 1) (bi_x_per5 hP (by omega) hI.1 hk2 ht ?_ (R + 1) 0 (by omega) (by omega))
      rw [bi_inv_cnt16 hI ht hk2]
      exact Exists.intro 17 (bi_y_per5 hP ht hk2 hG ⟨rfl, J⟩ 17 0 (by omega) (by omega))
    · exact bad (Or.inr ⟨⟨t, ht, rfl⟩, b2⟩)
  · exact bad (Or.inl b1)
theorem i_vc_periodFrom {k : Nat} {u : SX} {v : SY} (I : i_Rel k u v) (hk : k + 5 ≤ 2560) (v1 : Int32) (v2 : Int32) (v3 : Int32) : wpX_periodFrom (fun r => wpY_periodFrom (fun r' => r' = r ∧ i_Rel (k + 5) u v) v v1 v2 v3) u v1 v2 v3 := by
  have J := i_up I
  obtain ⟨P, C, R, ρ, L, O, G, hP, hC, hR, hG, hL, hO, hI, rfl, rfl⟩ := I
  have bad : ((v1 < 0 ∨ nI P < v1) ∨ (∃ t, t ≤ P ∧ v1 = nI t) ∧ (v2 < 0 ∨ nI 4 ≤ v2)) → wpX_periodFrom (fun r => wpY_periodFrom (fun r' => r' = r ∧ i_Rel (k + 5) (bi_xs P C R ρ L O) (bi_ys P C G)) (bi_ys P C G) v1 v2 v3) (bi_xs P C R ρ L O) v1 v2 v3 := by
    intro hp
    unfold wpX_periodFrom
    dsimp only
    exact bi_x_rowF hP (by omega) hI.1 hp (br_f (by decide) (bi_y_pfF hP hp ⟨rfl, J⟩))
  rcases bi_argT P hP v1 with ⟨t, ht, rfl⟩ | b1
  · rcases bi_argN 4 (by decide) v2 with ⟨k2, hk2, rfl⟩ | b2
    · unfold wpX_periodFrom
      dsimp only
      refine bi_x_row hI hP (by omega) hk2 ht (fun i hi hc hn => br_t (nI_pos' (by omega)) ⟨vp_in_nI (by omega) (by decide), ?_⟩) (fun hno => br_f (by decide) ?_)
      · rw [bi_rF (by omega)]
        have hp := hI.2.1 i t k2 hi ht hc
        have h16 := bi_Per_lt hp.1
        refine bi_y_pf hP ht hk2 hG (fun d hd hb hn' => ⟨?_, J⟩) (fun hno => (hno _ h16 hp.1.2.1 hn).elim)
        have c1 := bi_cnt_le (bi_bg (bi_gl G t k2)) d
        have c2 := bi_cnt_le (bi_bg (bi_gl G t k2)) (bi_F (ρ i))
        have e := (nI_eq (by omega) (by omega)).mp (hn'.trans hn.symm)
        rw [bi_cnt_at hb hp.1.2.1 e]
      · refine bi_y_pf hP ht hk2 hG (fun d hd hb hn' => ?_) (fun _ => ⟨rfl, J⟩)
        obtain ⟨e, he⟩ := bi_Per_ex hd hb
        obtain ⟨i, hi, hc, iF, _⟩ := bi_inv_row hI ht hk2 he
        exact (hno i hi hc (by rw [iF]; exact hn')).elim
    · exact bad (Or.inr ⟨⟨t, ht, rfl⟩, b2⟩)
  · exact bad (Or.inl b1)
theorem i_vc_periodTo {k : Nat} {u : SX} {v : SY} (I : i_Rel k u v) (hk : k + 5 ≤ 2560) (v1 : Int32) (v2 : Int32) (v3 : Int32) : wpX_periodTo (fun r => wpY_periodTo (fun r' => r' = r ∧ i_Rel (k + 5) u v) v v1 v2 v3) u v1 v2 v3 := by
  have J := i_up I
  obtain ⟨P, C, R, ρ, L, O, G, hP, hC, hR, hG, hL, hO, hI, rfl, rfl⟩ := I
  have bad : ((v1 < 0 ∨ nI P < v1) ∨ (∃ t, t ≤ P ∧ v1 = nI t) ∧ (v2 < 0 ∨ nI 4 ≤ v2)) → wpX_periodTo (fun r => wpY_periodTo (fun r' => r' = r ∧ i_Rel (k + 5) (bi_xs P C R ρ L O) (bi_ys P C G)) (bi_ys P C G) v1 v2 v3) (bi_xs P C R ρ L O) v1 v2 v3 := by
    intro hp
    unfold wpX_periodTo wpY_periodTo
    dsimp only
    exact bi_x_rowF hP (by omega) hI.1 hp (br_f (by decide) (bi_y_pfF hP hp (br_f (by decide) ⟨rfl, J⟩)))
  rcases bi_argT P hP v1 with ⟨t, ht, rfl⟩ | b1
  · rcases bi_argN 4 (by decide) v2 with ⟨k2, hk2, rfl⟩ | b2
    · unfold wpX_periodTo wpY_periodTo
      dsimp only
      refine bi_x_row hI hP (by omega) hk2 ht (fun i hi hc hn => br_t (nI_pos' (by omega)) ⟨vp_in_nI (by omega) (by decide), ?_⟩) (fun hno => br_f (by decide) ?_)
      · rw [bi_rT (by omega)]
        have hp := hI.2.1 i t k2 hi ht hc
        have h16 := bi_Per_lt hp.1
        refine bi_y_pf hP ht hk2 hG (fun d hd hb hn' => br_t (nI_pos' (by omega)) (bi_y_end (by omega) hk2 hd hG (fun e he => ⟨?_, J⟩))) (fun hno => (hno _ h16 hp.1.2.1 hn).elim)
        have c1 := bi_cnt_le (bi_bg (bi_gl G t k2)) d
        have c2 := bi_cnt_le (bi_bg (bi_gl G t k2)) (bi_F (ρ i))
        have e2 := (nI_eq (by omega) (by omega)).mp (hn'.trans hn.symm)
        rw [bi_cnt_at hb hp.1.2.1 e2] at he
        rw [bi_run_un he hp.1.2.2]
      · refine bi_y_pf hP ht hk2 hG (fun d hd hb hn' => ?_) (fun _ => br_f (by decide) ⟨rfl, J⟩)
        obtain ⟨e, he⟩ := bi_Per_ex hd hb
        obtain ⟨i, hi, hc, iF, _⟩ := bi_inv_row hI ht hk2 he
        exact (hno i hi hc (by rw [iF]; exact hn')).elim
    · exact bad (Or.inr ⟨⟨t, ht, rfl⟩, b2⟩)
  · exact bad (Or.inl b1)
theorem i_vc_eras {k : Nat} {u : SX} {v : SY} (I : i_Rel k u v) (hk : k + 5 ≤ 2560) (v1 : Int32) (v2 : Int32) : wpX_eras (fun r => wpY_eras (fun r' => r' = r ∧ i_Rel (k + 5) u v) v v1 v2) u v1 v2 := by
  have J := i_up I
  obtain ⟨P, C, R, ρ, L, O, G, hP, hC, hR, hG, hL, hO, hI, rfl, rfl⟩ := I
  unfold wpX_eras
  dsimp only
  rcases bi_argN 4 (by decide) v1 with ⟨k2, hk2, rfl⟩ | b1
  · rcases bi_argN 16 (by decide) v2 with ⟨d, hd, rfl⟩ | b2
    · refine bi_x_key hk2 (br_f bi_10 (bi_x_day hd (br_f bi_10 ⟨63, bi_x_eras24 hI hP (by omega) hG hk2 hd ?_ 63 0 0 (by omega) (by omega) (by omega) (Or.inl rfl) rfl⟩)))
      exact Exists.intro (P + 2) (bi_y_era5 hP hk2 hd hG ⟨rfl, J⟩ (P + 2) 0 (by omega) (by omega))
    · exact bi_x_key hk2 (br_f bi_10 (bi_x_dayF b2 (br_t rfl (bi_y_eraF hP (Or.inr ⟨⟨k2, hk2, rfl⟩, b2⟩) ⟨rfl, J⟩))))
  · exact bi_x_keyF b1 (br_t rfl (bi_y_eraF hP (Or.inl b1) ⟨rfl, J⟩))
theorem i_vc_eraFrom {k : Nat} {u : SX} {v : SY} (I : i_Rel k u v) (hk : k + 5 ≤ 2560) (v1 : Int32) (v2 : Int32) (v3 : Int32) : wpX_eraFrom (fun r => wpY_eraFrom (fun r' => r' = r ∧ i_Rel (k + 5) u v) v v1 v2 v3) u v1 v2 v3 := by
  have J := i_up I
  obtain ⟨P, C, R, ρ, L, O, G, hP, hC, hR, hG, hL, hO, hI, rfl, rfl⟩ := I
  unfold wpX_eraFrom
  dsimp only
  rcases bi_argN 4 (by decide) v1 with ⟨k2, hk2, rfl⟩ | b1
  · rcases bi_argN 16 (by decide) v2 with ⟨d, hd, rfl⟩ | b2
    · refine bi_x_key hk2 (br_f bi_10 (bi_x_day hd (br_f bi_10 ?_)))
      rcases bi_argN 61 (by decide) v3 with ⟨i, hi, rfl⟩ | b3
      · refine br_t (nI_pos' (by omega)) ⟨63, bi_x_eraF26 hI hP (by omega) hG hk2 hd (by omega) (fun t ht hc hn => ?_) (fun hn => ?_) 63 0 0 (by omega) (by omega) (by omega) (Or.inl rfl) rfl⟩
        · refine bi_y_ef hP hk2 hd hG (fun t' ht' hc' hn' => ⟨?_, J⟩) (fun hno => (hno t ht hc (by rw [hn])).elim)
          have c1 := bi_cnt_le (bi_chg (fun t => bi_gl G t k2 d)) t'
          have e := (nI_eq (by omega) (by omega)).mp hn'
          rw [bi_cnt_at hc' hc (e.trans hn.symm)]
        · refine bi_y_ef hP hk2 hd hG (fun t' ht' hc' hn' => ?_) (fun _ => ⟨rfl, J⟩)
          have c1 := bi_cnt_le (bi_chg (fun t => bi_gl G t k2 d)) t'
          have e := (nI_eq (by omega) (by omega)).mp hn'
          have := bi_cnt_lt (show t' < P + 1 by omega) hc'
          omega
      · have y : wpY_eraFrom (fun r' => r' = -1 ∧ i_Rel (k + 5) (bi_xs P C R ρ L O) (bi_ys P C G)) (bi_ys P C G) (nI k2) (nI d) v3 := by
          refine bi_y_ef hP hk2 hd hG (fun t' ht' hc' hn' => ?_) (fun _ => ⟨rfl, J⟩)
          have c1 := bi_cnt_le (bi_chg (fun t => bi_gl G t k2 d)) t'
          exact (bi_arg_ne b3 (by omega) (by decide) hn').elim
        refine br_c (fun z => ?_) (fun _ => y)
        have h60 : nI 60 < v3 := (bi_le_lt (a := 60) (b := 61) rfl (by decide)).mp (b3.resolve_left (Int32.not_lt.mpr z))
        exact ⟨63, bi_x_eraF26b hI hP (by omega) hG hk2 hd h60 y 63 0 0 (by omega) (by omega) (by omega)⟩
    · exact bi_x_key hk2 (br_f bi_10 (bi_x_dayF b2 (br_t rfl (bi_y_efF hP (Or.inr ⟨⟨k2, hk2, rfl⟩, b2⟩) ⟨rfl, J⟩))))
  · exact bi_x_keyF b1 (br_t rfl (bi_y_efF hP (Or.inl b1) ⟨rfl, J⟩))
theorem i_vc_difference {k : Nat} {u : SX} {v : SY} (I : i_Rel k u v) (hk : k + 5 ≤ 2560) (v1 : Int32) (v2 : Int32) (v3 : Int32) : wpX_difference (fun r u' => wpY_difference (fun r' => r' = r ∧ i_Rel (k + 5) u' v) v v1 v2 v3) u v1 v2 v3 := by
  have J := i_up I
  obtain ⟨P, C, R, ρ, L, O, G, hP, hC, hR, hG, hL, hO, hI, rfl, rfl⟩ := I
  unfold wpX_difference wpY_difference
  dsimp only
  rcases bi_argT P hP v1 with ⟨t, ht, rfl⟩ | b1
  · rcases bi_argT P hP v2 with ⟨w, hw, rfl⟩ | b2
    · rcases bi_argN 4 (by decide) v3 with ⟨k2, hk2, rfl⟩ | b3
      · refine bi_x_tick hP ht (br_f bi_10 (bi_x_tick hP hw (br_f bi_10 (bi_x_key hk2 (br_f bi_10 ?_)))))
        refine bi_x_readLine hI hP (by omega) hk2 ht hL (fun L1 l1 l2 l3 => ?_)
        refine bi_x_keepLine l3 hO (fun O1 o1 o2 => ?_)
        refine bi_x_readLine hI hP (by omega) hk2 hw l3 (fun L2 m1 m2 m3 => ?_)
        refine ⟨17, bi_x_dif48 m3 o2 ?_ 17 0 (by omega) (by omega)⟩
        have e : bi_cnt (fun d => L2 d ≠ O1 d) 16 = bi_cnt (fun d => bi_gl G t k2 d ≠ bi_gl G w k2 d) 16 := by
          refine bi_cnt_congr 16 (fun d hd => ?_)
          rw [m1 d hd, o1 d (by omega), l1 d hd]
          exact ⟨fun z y => z y.symm, fun z y => z y.symm⟩
        rw [e]
        exact bi_y_time hP ht (br_f bi_10 (bi_y_time hP hw (br_f bi_10 (bi_y_key hk2 (br_f bi_10 ⟨17, bi_y_dif33 (by omega) (by omega) hk2 hG ⟨rfl, bi_rel_mk hP hC hR hG m3 o2 hI⟩ 17 0 (by omega) (by omega)⟩)))))
      · exact bi_x_tick hP ht (br_f bi_10 (bi_x_tick hP hw (br_f bi_10 (bi_x_keyF b3 (br_t rfl (bi_y_time hP ht (br_f bi_10 (bi_y_time hP hw (br_f bi_10 (bi_y_keyF b3 (br_t rfl ⟨rfl, J⟩)))))))))))
    · exact bi_x_tick hP ht (br_f bi_10 (bi_x_tickF b2 (br_t rfl (bi_y_time hP ht (br_f bi_10 (bi_y_timeF b2 (br_t rfl ⟨rfl, J⟩)))))))
  · exact bi_x_tickF b1 (br_t rfl (bi_y_timeF b1 (br_t rfl ⟨rfl, J⟩)))
theorem i_vc_count {k : Nat} {u : SX} {v : SY} (I : i_Rel k u v) (hk : k + 5 ≤ 2560) (v1 : Int32) (v2 : Int32) : wpX_count (fun r => wpY_count (fun r' => r' = r ∧ i_Rel (k + 5) u v) v v1 v2) u v1 v2 := by
  have J := i_up I
  obtain ⟨P, C, R, ρ, L, O, G, hP, hC, hR, hG, hL, hO, hI, rfl, rfl⟩ := I
  unfold wpX_count
  dsimp only
  rcases bi_argT P hP v1 with ⟨t, ht, rfl⟩ | b1
  · refine bi_x_tick hP ht (br_f bi_10 ?_)
    rcases bi_argN 10 (by decide) v2 with ⟨w, hw, rfl⟩ | b2
    · refine br_f (nI_pos (by omega)) (br_t (nI_le (b := 9) (by omega) (by decide)) ⟨R + 1, bi_x_cnt25 hP (by omega) hI.1 ht (by omega) ?_ (R + 1) 0 (by omega) (by omega)⟩)
      rw [bi_inv_sum hI ht]
      exact Exists.intro 65 (bi_y_cnt5 hP ht (by omega) hG ⟨rfl, J⟩ 65 0 (by omega) (by omega))
    · have y : wpY_count (fun r' => r' = 0 ∧ i_Rel (k + 5) (bi_xs P C R ρ L O) (bi_ys P C G)) (bi_ys P C G) (nI t) v2 :=
        bi_y_cntF hP (Or.inr ⟨⟨t, ht, rfl⟩, b2.imp id bi_n9.mpr⟩) ⟨rfl, J⟩
      exact br_c (fun _ => y) (fun z => br_f (Int32.not_le.mpr (bi_n9.mpr (b2.resolve_left z))) y)
  · exact bi_x_tickF b1 (br_t rfl (bi_y_cntF hP (Or.inl b1) ⟨rfl, J⟩))
theorem i_vc_agree {k : Nat} {u : SX} {v : SY} (I : i_Rel k u v) (hk : k + 5 ≤ 2560) (v1 : Int32) (v2 : Int32) (v3 : Int32) : wpX_agree (fun r u' => wpY_agree (fun r' => r' = r ∧ i_Rel (k + 5) u' v) v v1 v2 v3) u v1 v2 v3 := by
  have J := i_up I
  obtain ⟨P, C, R, ρ, L, O, G, hP, hC, hR, hG, hL, hO, hI, rfl, rfl⟩ := I
  unfold wpX_agree
  dsimp only
  rcases bi_argT P hP v1 with ⟨t, ht, rfl⟩ | b1
  · rcases bi_argN 4 (by decide) v2 with ⟨k2, hk2, rfl⟩ | b2
    · rcases bi_argN 4 (by decide) v3 with ⟨m, hm, rfl⟩ | b3
      · refine bi_x_tick hP ht (br_f bi_10 (bi_x_key hk2 (br_f bi_10 (bi_x_key hm (br_f bi_10 ?_)))))
        refine bi_x_readLine hI hP (by omega) hk2 ht hL (fun L1 l1 l2 l3 => ?_)
        refine bi_x_keepLine l3 hO (fun O1 o1 o2 => ?_)
        refine bi_x_readLine hI hP (by omega) hm ht l3 (fun L2 m1 m2 m3 => ?_)
        refine ⟨17, bi_x_agr46 m3 o2 ?_ 17 0 (by omega) (by omega)⟩
        have e : bi_bits (fun d => 0 < L2 d ∧ L2 d = O1 d) 16 = bi_bits (fun d => 0 < bi_gl G t k2 d ∧ bi_gl G t k2 d = bi_gl G t m d) 16 := by
          refine bi_bits_congr 16 (fun d hd => ?_)
          rw [m1 d hd, o1 d (by omega), l1 d hd]
          constructor
          · intro z
            exact ⟨by have := z.1; have := z.2; omega, z.2.symm⟩
          · intro z
            exact ⟨by have := z.1; have := z.2; omega, z.2.symm⟩
        rw [e]
        exact Exists.intro 17 (bi_y_agr6 hP ht hk2 hm hG ⟨rfl, bi_rel_mk hP hC hR hG m3 o2 hI⟩ 17 0 (by omega) (by omega))
      · exact bi_x_tick hP ht (br_f bi_10 (bi_x_key hk2 (br_f bi_10 (bi_x_keyF b3 (br_t rfl (bi_y_agrF hP (Or.inr ⟨⟨t, ht, rfl⟩, Or.inr ⟨⟨k2, hk2, rfl⟩, b3⟩⟩) ⟨rfl, J⟩))))))
    · exact bi_x_tick hP ht (br_f bi_10 (bi_x_keyF b2 (br_t rfl (bi_y_agrF hP (Or.inr ⟨⟨t, ht, rfl⟩, Or.inl b2⟩) ⟨rfl, J⟩))))
  · exact bi_x_tickF b1 (br_t rfl (bi_y_agrF hP (Or.inl b1) ⟨rfl, J⟩))
theorem i_vc_rectangles {k : Nat} {u : SX} {v : SY} (I : i_Rel k u v) (hk : k + 5 ≤ 2560) (v1 : Int32) : wpX_rectangles (fun r => wpY_rectangles (fun r' => r' = r ∧ i_Rel (k + 5) u v) v v1) u v1 := by
  have J := i_up I
  obtain ⟨P, C, R, ρ, L, O, G, hP, hC, hR, hG, hL, hO, hI, rfl, rfl⟩ := I
  rcases bi_argN 4 (by decide) v1 with ⟨k2, hk2, rfl⟩ | b1
  · refine Exists.intro (R + 1) (bi_x_rec4 (by omega) hI.1 hk2 ?_ (R + 1) 0 (by omega) (by omega))
    rw [bi_inv_rect hI hk2]
    exact Exists.intro (P + 2) (bi_y_rec4 hP hk2 hG ⟨rfl, J⟩ (P + 2) 0 (by omega) (by omega))
  · refine Exists.intro (R + 1) (bi_x_rec4F (by omega) hI.1 b1 ?_ (R + 1) 0 (by omega) (by omega))
    exact bi_y_recF hP b1 ⟨rfl, J⟩
end
