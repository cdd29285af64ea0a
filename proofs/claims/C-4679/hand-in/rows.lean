section
/-! rows of the kit's rows to paste (starting text) -/
theorem pk_us {f : Nat → Int32} {k : Nat} {x : Int32} : upd f k x k = x := if_pos rfl
theorem pk_un {f : Nat → Int32} {k j : Nat} {x : Int32} (h : j ≠ k) : upd f k x j = f j := if_neg h
theorem pk_sub {a b : Nat} (h : b ≤ a) : nI a - nI b = nI (a - b) := by
  obtain ⟨c, rfl⟩ : ∃ c, a = c + b := ⟨a - b, by omega⟩
  rw [← nI_add, Int32.add_sub_cancel, Nat.add_sub_cancel]
theorem pk_m1 (n : Nat) : nI (n + 1) + (-1) = nI n := by
  rw [← nI_1, Int32.add_assoc, show (1 : Int32) + (-1) = 0 from rfl, Int32.add_zero]
theorem pk_mul (a b : Nat) : nI a * nI b = nI (a * b) := (Int32.ofNat_mul a b).symm
theorem pk_div {a d : Nat} (ha : a < 2 ^ 31) (h0 : 0 < d) (hd : d < 2 ^ 31) : nI a / nI d = nI (a / d) := by
  apply Int32.toInt_inj.mp
  rw [lg_idiv_nonneg (by rw [nI_toInt ha]; omega) (by rw [nI_toInt hd]; omega), nI_toInt ha, nI_toInt hd, nI_toInt (Nat.lt_of_le_of_lt (Nat.div_le_self a d) ha)]
  first | rfl | exact (Int.natCast_ediv _ _).symm
theorem pk_rem {a d : Nat} (ha : a < 2 ^ 31) (h0 : 0 < d) (hd : d < 2 ^ 31) : nI a - nI a / nI d * nI d = nI (a % d) := by
  rw [pk_div ha h0 hd, pk_mul, pk_sub (Nat.div_mul_le_self a d)]
  exact congrArg nI (by have := Nat.div_add_mod' a d; omega)
theorem pk_sub_toInt {a b : Nat} (ha : a < 2 ^ 30) (hb : b < 2 ^ 30) : (nI a - nI b).toInt = (a : Int) - b := by
  rw [Int32.toInt_sub, nI_toInt (by omega), nI_toInt (by omega)]
  exact Int.bmod_eq_of_le (by omega) (by omega)
theorem pk_ix (x : Int32) {n : Nat} (hn : n < 2 ^ 31) : x < 0 ∨ nI n ≤ x ∨ ∃ j : Nat, j < n ∧ x = nI j := by
  by_cases h : x < 0
  · exact Or.inl h
  · obtain ⟨j, hj, rfl⟩ := nI_of h
    by_cases h2 : j < n
    · exact Or.inr (Or.inr ⟨j, h2, rfl⟩)
    · exact Or.inr (Or.inl (nI_le (by omega) hj))
theorem pk_le {x y : Int32} {A B : Prop} (a b : Nat) (f : a ≤ b → A) (g : b < a → B) (hx : x = nI a := by rfl) (hy : y = nI b := by rfl) (ha : a < 2 ^ 31 := by omega) (hb : b < 2 ^ 31 := by omega) : (x ≤ y → A) ∧ (¬ x ≤ y → B) := by
  subst hx hy
  rw [nI_leI ha hb]
  exact ⟨f, fun z => g (by omega)⟩
theorem pk_lt {x y : Int32} {A B : Prop} (a b : Nat) (f : a < b → A) (g : b ≤ a → B) (hx : x = nI a := by rfl) (hy : y = nI b := by rfl) (ha : a < 2 ^ 31 := by omega) (hb : b < 2 ^ 31 := by omega) : (x < y → A) ∧ (¬ x < y → B) := by
  subst hx hy
  rw [nI_ltI ha hb]
  exact ⟨f, fun z => g (by omega)⟩
theorem pk_eq {x y : Int32} {A B : Prop} (a b : Nat) (f : a = b → A) (g : a ≠ b → B) (hx : x = nI a := by rfl) (hy : y = nI b := by rfl) (ha : a < 2 ^ 31 := by omega) (hb : b < 2 ^ 31 := by omega) : (x = y → A) ∧ (¬ x = y → B) := by
  subst hx hy
  rw [nI_eq ha hb]
  exact ⟨f, g⟩
theorem pk_in {x : Int32} (n N : Nat) (h : n < N) (hx : x = nI n := by rfl) (hN : N < 2 ^ 31 := by omega) : vp_in x N := by
  subst hx
  exact vp_in_nI h hN
theorem pk_cl {x : Int32} (n : Nat) (hx : x = nI n := by rfl) (h : n < 2 ^ 31 := by omega) : x.toNatClampNeg = n := by
  subst hx
  exact nI_clamp h
theorem pk_tn {n : Nat} (h : n < 2 ^ 32) : (nI n).toBitVec.toNat = n := Nat.mod_eq_of_lt h
theorem pk_and (x : Int32) {m : Int32} (k : Nat) (hm : m.toBitVec.toNat = 2 ^ k - 1) : x &&& m = nI (x.toBitVec.toNat % 2 ^ k) := by
  apply Int32.toBitVec_inj.mp
  apply BitVec.eq_of_toNat_eq
  rw [Int32.toBitVec_and, BitVec.toNat_and, hm, Nat.and_two_pow_sub_one_eq_mod]
  show _ = (BitVec.ofNat 32 _).toNat
  rw [BitVec.toNat_ofNat]
  exact (Nat.mod_eq_of_lt (Nat.lt_of_le_of_lt (Nat.mod_le _ _) x.toBitVec.isLt)).symm
theorem pk_andN {n : Nat} (h : n < 2 ^ 32) {m : Int32} (k : Nat) (hm : m.toBitVec.toNat = 2 ^ k - 1) : nI n &&& m = nI (n % 2 ^ k) := by
  rw [pk_and _ k hm, pk_tn h]
theorem pk_shl (a s : Int32) (k : Nat) (hs : (s.toBitVec.smod 32).toNat = k) : (a <<< s).toBitVec.toNat = a.toBitVec.toNat * 2 ^ k % 2 ^ 32 := by
  show (a.toBitVec <<< (s.toBitVec.smod 32).toNat).toNat = _
  rw [hs, BitVec.toNat_shiftLeft, Nat.shiftLeft_eq]
theorem pk_shlN {n : Nat} (s : Int32) (k : Nat) (hs : (s.toBitVec.smod 32).toNat = k) (h : n * 2 ^ k < 2 ^ 32) : nI n <<< s = nI (n * 2 ^ k) := by
  apply Int32.toBitVec_inj.mp
  apply BitVec.eq_of_toNat_eq
  have hn : n < 2 ^ 32 := Nat.lt_of_le_of_lt (Nat.le_mul_of_pos_right n (Nat.two_pow_pos k)) h
  rw [pk_shl _ _ k hs, pk_tn hn, pk_tn h, Nat.mod_eq_of_lt h]
theorem pk_shr (a s : Int32) (k : Nat) (hs : (s.toBitVec.smod 32).toNat = k) : (a >>> s).toInt = a.toInt >>> k := by
  show (a.toBitVec.sshiftRight (s.toBitVec.smod 32).toNat).toInt = _
  rw [hs, BitVec.toInt_sshiftRight]
  rfl
theorem pk_shrN {n : Nat} (h : n < 2 ^ 31) (s : Int32) (k : Nat) (hs : (s.toBitVec.smod 32).toNat = k) : nI n >>> s = nI (n / 2 ^ k) := by
  apply Int32.toInt_inj.mp
  have h2 : n / 2 ^ k ≤ n := Nat.div_le_self _ _
  rw [pk_shr _ _ k hs, nI_toInt h, nI_toInt (by omega), Int.shiftRight_eq_div_pow]
  rfl
theorem s_l : ∀ n, n < 32 → ((nI n &&& 31).toBitVec.smod 32).toNat = n := by decide +kernel
theorem nx_and (a b : Nat) : nI a &&& nI b = nI (a &&& b) := by
  apply Int32.toBitVec_inj.1
  show BitVec.ofNat 32 a &&& BitVec.ofNat 32 b = BitVec.ofNat 32 (a &&& b)
  apply BitVec.eq_of_getLsbD_eq
  intro i hi
  simp [hi]
end
section
/-! walks in the network g (cell 6 * a + b): from x by the tail list to t, the tail outside the set o (bits) -/
def gr_wk (g : Nat → Nat) (o t : Nat) : Nat → List Nat → Prop
  | x, [] => x = t
  | x, y :: r => 0 < g (6 * x + y) ∧ y < 6 ∧ o.testBit y = false ∧ gr_wk g o t y r
def gr_ln (g : Nat → Nat) : Nat → List Nat → Nat
  | _, [] => 0
  | x, y :: r => g (6 * x + y) + gr_ln g y r
def gr_lp (g : Nat → Nat) : List Nat → Nat
  | [] => 0
  | x :: r => gr_ln g x r
theorem gr_mem {g : Nat → Nat} {o t : Nat} : ∀ {r : List Nat} {x : Nat}, gr_wk g o t x r → ∀ y, y ∈ r → y < 6 ∧ o.testBit y = false := by
  intro r
  induction r with
  | nil => intro x _ y hy; cases hy
  | cons z r ih =>
    intro x h y hy
    rcases List.mem_cons.mp hy with e | hy
    · rw [e]; exact ⟨h.2.1, h.2.2.1⟩
    · exact ih h.2.2.2 y hy
theorem gr_suf {g : Nat → Nat} {o t : Nat} : ∀ {r : List Nat} {x y : Nat}, gr_wk g o t x r → y ∈ r → ∃ a q, r = a ++ y :: q ∧ gr_wk g o t y q ∧ gr_ln g y q ≤ gr_ln g x r := by
  intro r
  induction r with
  | nil => intro x y _ hy; cases hy
  | cons z r ih =>
    intro x y h hy
    rcases List.mem_cons.mp hy with e | hy
    · rw [e]; exact ⟨[], r, rfl, h.2.2.2, Nat.le_add_left _ _⟩
    · obtain ⟨a, q, e, hw, hl⟩ := ih h.2.2.2 hy
      exact ⟨z :: a, q, by rw [e]; rfl, hw, Nat.le_trans hl (Nat.le_add_left _ _)⟩
theorem gr_short {g : Nat → Nat} {o t : Nat} : ∀ {r : List Nat} {x : Nat}, gr_wk g o t x r → ∃ q, gr_wk g o t x q ∧ gr_ln g x q ≤ gr_ln g x r ∧ (x :: q).Nodup := by
  intro r
  induction r with
  | nil => intro x h; exact ⟨[], h, Nat.le_refl _, by simp⟩
  | cons z r ih =>
    intro x h
    obtain ⟨q, hw, hl, hn⟩ := ih h.2.2.2
    have hw2 : gr_wk g o t x (z :: q) := ⟨h.1, h.2.1, h.2.2.1, hw⟩
    have hl2 : gr_ln g x (z :: q) ≤ gr_ln g x (z :: r) := Nat.add_le_add_left hl _
    by_cases hx : x ∈ z :: q
    · obtain ⟨a, q', e, hw', hl'⟩ := gr_suf hw2 hx
      refine ⟨q', hw', Nat.le_trans hl' hl2, ?_⟩
      rw [e] at hn
      exact (List.nodup_append.mp hn).2.1
    · exact ⟨z :: q, hw2, hl2, List.nodup_cons.mpr ⟨hx, hn⟩⟩
theorem gr_six {p : List Nat} (hn : p.Nodup) (h : ∀ y, y ∈ p → y < 6) : p.length ≤ 6 := by
  have h2 := List.Nodup.length_le_of_subset hn (l₂ := List.range 6) (fun y hy => List.mem_range.mpr (h y hy))
  rw [List.length_range] at h2
  exact h2
theorem gr_le {g : Nat → Nat} (hg : ∀ i, g i ≤ 20) : ∀ (r : List Nat) (x : Nat), gr_ln g x r ≤ 20 * r.length := by
  intro r
  induction r with
  | nil => intro x; exact Nat.le_refl _
  | cons z r ih =>
    intro x
    have h1 := hg (6 * x + z)
    have h2 := ih z
    show g (6 * x + z) + gr_ln g z r ≤ 20 * (r.length + 1)
    omega
theorem gr_short5 {g : Nat → Nat} {o t x : Nat} {r : List Nat} (hg : ∀ i, g i ≤ 20) (hx : x < 6) (h : gr_wk g o t x r) : ∃ q, gr_wk g o t x q ∧ gr_ln g x q ≤ gr_ln g x r ∧ (x :: q).Nodup ∧ q.length ≤ 5 ∧ gr_ln g x q ≤ 100 := by
  obtain ⟨q, hw, hl, hn⟩ := gr_short h
  have h6 := gr_six hn (fun y hy => by
    rcases List.mem_cons.mp hy with e | hy
    · rw [e]; exact hx
    · exact (gr_mem hw y hy).1)
  have h5 : q.length ≤ 5 := by
    rw [List.length_cons] at h6
    omega
  have h100 := gr_le hg q x
  exact ⟨q, hw, hl, hn, h5, by omega⟩
theorem gr_app1 {g : Nat → Nat} {o t : Nat} : ∀ {a r : List Nat} {x : Nat}, gr_wk g o t x (a ++ r) → gr_wk g o t (a.getLastD x) r := by
  intro a
  induction a with
  | nil => intro r x h; exact h
  | cons z a ih =>
    intro r x h
    rw [List.getLastD_cons]
    exact ih h.2.2.2
theorem gr_app2 {g : Nat → Nat} {o t : Nat} : ∀ {a r q : List Nat} {x : Nat}, gr_wk g o t x (a ++ r) → gr_wk g o t (a.getLastD x) q → gr_wk g o t x (a ++ q) := by
  intro a
  induction a with
  | nil => intro r q x _ h; exact h
  | cons z a ih =>
    intro r q x h h2
    rw [List.getLastD_cons] at h2
    exact ⟨h.1, h.2.1, h.2.2.1, ih h.2.2.2 h2⟩
theorem gr_lna {g : Nat → Nat} : ∀ {a r : List Nat} {x : Nat}, gr_ln g x (a ++ r) = gr_ln g x a + gr_ln g (a.getLastD x) r := by
  intro a
  induction a with
  | nil => intro r x; exact (Nat.zero_add _).symm
  | cons z a ih =>
    intro r x
    rw [List.getLastD_cons]
    show g (6 * x + z) + gr_ln g z (a ++ r) = g (6 * x + z) + gr_ln g z a + _
    rw [ih, Nat.add_assoc]
theorem gr_o0 {g : Nat → Nat} {o t : Nat} : ∀ {r : List Nat} {x : Nat}, gr_wk g o t x r → gr_wk g 0 t x r := by
  intro r
  induction r with
  | nil => intro x h; exact h
  | cons z r ih => intro x h; exact ⟨h.1, h.2.1, Nat.zero_testBit _, ih h.2.2.2⟩
theorem gr_oo {g : Nat → Nat} {o t : Nat} : ∀ {r : List Nat} {x : Nat}, gr_wk g 0 t x r → (∀ y, y ∈ r → o.testBit y = false) → gr_wk g o t x r := by
  intro r
  induction r with
  | nil => intro x h _; exact h
  | cons z r ih =>
    intro x h h2
    exact ⟨h.1, h.2.1, h2 z List.mem_cons_self, ih h.2.2.2 (fun y hy => h2 y (List.mem_cons_of_mem _ hy))⟩
theorem gr_end {g : Nat → Nat} {o t : Nat} : ∀ {r : List Nat} {x : Nat}, gr_wk g o t x r → r ≠ [] → ∃ m, r = m ++ [t] := by
  intro r
  induction r with
  | nil => intro x _ h; exact absurd rfl h
  | cons z r ih =>
    intro x h _
    by_cases hr : r = []
    · subst hr
      have e : z = t := h.2.2.2
      rw [e]; exact ⟨[], rfl⟩
    · obtain ⟨m, e⟩ := ih h.2.2.2 hr
      exact ⟨z :: m, by rw [e]; rfl⟩
/-- t is the last place of a walk -/
theorem gr_tin {g : Nat → Nat} {o t : Nat} {r : List Nat} {x : Nat} (h : gr_wk g o t x r) : t ∈ x :: r := by
  by_cases hr : r = []
  · subst hr
    have e : x = t := h
    rw [e]; exact List.mem_cons_self
  · obtain ⟨m, e⟩ := gr_end h hr
    rw [e]
    exact List.mem_cons_of_mem _ (List.mem_append_right _ List.mem_cons_self)
/-! the order of lists of places, and of ways: by length, then place by place -/
def lx_b : List Nat → List Nat → Bool
  | [], [] => false
  | [], _ :: _ => true
  | _ :: _, [] => false
  | x :: r, y :: q => decide (x < y) || (decide (x = y) && lx_b r q)
theorem lx_cc {x y : Nat} {r q : List Nat} : lx_b (x :: r) (y :: q) = true ↔ x < y ∨ (x = y ∧ lx_b r q = true) := by
  simp [lx_b]
theorem lx_irr : ∀ p : List Nat, ¬ lx_b p p = true := by
  intro p
  induction p with
  | nil => simp [lx_b]
  | cons x p ih =>
    rw [lx_cc]
    rintro (h | ⟨_, h⟩)
    · exact Nat.lt_irrefl _ h
    · exact ih h
theorem lx_tr : ∀ p q r : List Nat, lx_b p q = true → lx_b q r = true → lx_b p r = true := by
  intro p
  induction p with
  | nil =>
    intro q r h1 h2
    cases r with
    | nil => cases q <;> simp [lx_b] at h2
    | cons z r => simp [lx_b]
  | cons x p ih =>
    intro q r h1 h2
    cases q with
    | nil => simp [lx_b] at h1
    | cons y q =>
      cases r with
      | nil => simp [lx_b] at h2
      | cons z r =>
        rw [lx_cc] at h1 h2 ⊢
        rcases h1 with h1 | ⟨e1, h1⟩
        · rcases h2 with h2 | ⟨e2, h2⟩
          · exact Or.inl (Nat.lt_trans h1 h2)
          · exact Or.inl (e2 ▸ h1)
        · rcases h2 with h2 | ⟨e2, h2⟩
          · exact Or.inl (e1 ▸ h2)
          · exact Or.inr ⟨e1.trans e2, ih q r h1 h2⟩
theorem lx_tri : ∀ p q : List Nat, lx_b p q = true ∨ p = q ∨ lx_b q p = true := by
  intro p
  induction p with
  | nil =>
    intro q
    cases q with
    | nil => exact Or.inr (Or.inl rfl)
    | cons y q => exact Or.inl rfl
  | cons x p ih =>
    intro q
    cases q with
    | nil => exact Or.inr (Or.inr rfl)
    | cons y q =>
      rw [lx_cc, lx_cc]
      rcases Nat.lt_trichotomy x y with h | h | h
      · exact Or.inl (Or.inl h)
      · rcases ih q with h2 | h2 | h2
        · exact Or.inl (Or.inr ⟨h, h2⟩)
        · exact Or.inr (Or.inl (by rw [h, h2]))
        · exact Or.inr (Or.inr (Or.inr ⟨h.symm, h2⟩))
      · exact Or.inr (Or.inr (Or.inl h))
theorem lx_pre : ∀ a p q : List Nat, lx_b (a ++ p) (a ++ q) = lx_b p q := by
  intro a
  induction a with
  | nil => intro p q; rfl
  | cons x a ih =>
    intro p q
    show (decide (x < x) || (decide (x = x) && lx_b (a ++ p) (a ++ q))) = _
    rw [ih]
    simp
def bf_b (g : Nat → Nat) (p q : List Nat) : Bool := decide (gr_lp g p < gr_lp g q) || (decide (gr_lp g p = gr_lp g q) && lx_b p q)
theorem bf_if {g : Nat → Nat} {p q : List Nat} : bf_b g p q = true ↔ gr_lp g p < gr_lp g q ∨ (gr_lp g p = gr_lp g q ∧ lx_b p q = true) := by
  simp [bf_b]
theorem bf_irr {g : Nat → Nat} (p : List Nat) : ¬ bf_b g p p = true := by
  rw [bf_if]
  rintro (h | ⟨_, h⟩)
  · exact Nat.lt_irrefl _ h
  · exact lx_irr p h
theorem bf_tr {g : Nat → Nat} {p q r : List Nat} (h1 : bf_b g p q = true) (h2 : bf_b g q r = true) : bf_b g p r = true := by
  rw [bf_if] at h1 h2 ⊢
  rcases h1 with h1 | ⟨e1, h1⟩
  · rcases h2 with h2 | ⟨e2, h2⟩
    · exact Or.inl (Nat.lt_trans h1 h2)
    · exact Or.inl (e2 ▸ h1)
  · rcases h2 with h2 | ⟨e2, h2⟩
    · exact Or.inl (e1 ▸ h2)
    · exact Or.inr ⟨e1.trans e2, lx_tr p q r h1 h2⟩
theorem bf_tri {g : Nat → Nat} (p q : List Nat) : bf_b g p q = true ∨ p = q ∨ bf_b g q p = true := by
  rw [bf_if, bf_if]
  rcases Nat.lt_trichotomy (gr_lp g p) (gr_lp g q) with h | h | h
  · exact Or.inl (Or.inl h)
  · rcases lx_tri p q with h2 | h2 | h2
    · exact Or.inl (Or.inr ⟨h, h2⟩)
    · exact Or.inr (Or.inl h2)
    · exact Or.inr (Or.inr (Or.inr ⟨h.symm, h2⟩))
  · exact Or.inr (Or.inr (Or.inl h))
theorem bf_as {g : Nat → Nat} {p q : List Nat} (h1 : bf_b g p q = true) : ¬ bf_b g q p = true := fun h2 => bf_irr p (bf_tr h1 h2)
theorem bf_ln {g : Nat → Nat} {p q : List Nat} (h : bf_b g p q = true) : gr_lp g p ≤ gr_lp g q := by
  rw [bf_if] at h
  omega
/-! ways: from s to t, all places different -/
def wy_is (g : Nat → Nat) (s t : Nat) (p : List Nat) : Prop := s < 6 ∧ t < 6 ∧ s ≠ t ∧ p.Nodup ∧ ∃ r, p = s :: r ∧ gr_wk g 0 t s r
theorem wy_lt {g : Nat → Nat} {s t : Nat} {p : List Nat} (h : wy_is g s t p) : ∀ y, y ∈ p → y < 6 := by
  obtain ⟨hs, _, _, _, r, e, hw⟩ := h
  intro y hy
  rw [e] at hy
  rcases List.mem_cons.mp hy with e2 | hy
  · rw [e2]; exact hs
  · exact (gr_mem hw y hy).1
theorem wy_six {g : Nat → Nat} {s t : Nat} {p : List Nat} (h : wy_is g s t p) : p.length ≤ 6 := gr_six h.2.2.2.1 (wy_lt h)
theorem wy_100 {g : Nat → Nat} {s t : Nat} {p : List Nat} (hg : ∀ i, g i ≤ 20) (h : wy_is g s t p) : gr_lp g p ≤ 100 := by
  have h6 := wy_six h
  obtain ⟨_, _, _, _, r, e, _⟩ := h
  subst e
  have h2 := gr_le hg r s
  rw [List.length_cons] at h6
  show gr_ln g s r ≤ 100
  omega
theorem wy_mid {g : Nat → Nat} {s t : Nat} {p : List Nat} (h : wy_is g s t p) : ∃ m, p = s :: (m ++ [t]) := by
  obtain ⟨_, _, hne, _, r, e, hw⟩ := h
  have hr : r ≠ [] := by
    intro er
    rw [er] at hw
    exact hne hw
  obtain ⟨m, em⟩ := gr_end hw hr
  exact ⟨m, by rw [e, em]⟩
/-- no way is a proper beginning of another -/
theorem wy_pre {g : Nat → Nat} {s t : Nat} {p a : List Nat} (h : wy_is g s t p) (h2 : wy_is g s t (p ++ a)) : a = [] := by
  obtain ⟨m, e⟩ := wy_mid h
  cases a with
  | nil => rfl
  | cons y a =>
    exfalso
    have hn := h2.2.2.2.1
    obtain ⟨m2, e2⟩ := wy_mid h2
    have ht : t ∈ y :: a := by
      have e3 : p ++ (y :: a) = s :: (m2 ++ [t]) := e2
      rw [← List.cons_append] at e3
      have h4 : (p ++ (y :: a)).getLast? = some t := by rw [e3, List.getLast?_append]; rfl
      rw [List.getLast?_append] at h4
      cases hl : (y :: a).getLast? with
      | none => simp at hl
      | some z =>
        rw [hl] at h4
        have : z = t := by simpa using h4
        rw [← this]
        exact List.mem_of_getLast? hl
    have htp : t ∈ p := by rw [e]; simp
    exact (List.nodup_append.mp hn).2.2 t htp t ht rfl
end
section
/-! distances to t outside o: what the six rounds give -/
def na_up (d : Nat → Nat) (a x : Nat) : Nat → Nat := fun v => if v = a then x else d v
theorem na_s {d : Nat → Nat} {a x : Nat} : na_up d a x a = x := if_pos rfl
theorem na_n {d : Nat → Nat} {a x v : Nat} (h : v ≠ a) : na_up d a x v = d v := if_neg h
def ds_ok (g : Nat → Nat) (o t : Nat) (d : Nat → Nat) : Prop :=
  d t = 0 ∧ (∀ v, v < 6 → d v ≤ 1048576) ∧ (∀ v, v < 6 → d v < 1048576 → ∃ r, gr_wk g o t v r ∧ gr_ln g v r = d v)
def ds_k (g : Nat → Nat) (o t : Nat) (d : Nat → Nat) (k v : Nat) : Prop :=
  ∀ r, gr_wk g o t v r → o.testBit v = false → r.length ≤ k → d v ≤ gr_ln g v r
def ds_all (g : Nat → Nat) (o t : Nat) (d : Nat → Nat) : Prop :=
  ds_ok g o t d ∧ ∀ v, v < 6 → o.testBit v = false → ∀ r, gr_wk g o t v r → d v ≤ gr_ln g v r ∧ d v ≤ 100
theorem ds_fin {g : Nat → Nat} {o t : Nat} {d : Nat → Nat} (hg : ∀ i, g i ≤ 20) (h : ds_ok g o t d) (hk : ∀ v, v < 6 → ds_k g o t d 6 v) : ds_all g o t d := by
  refine ⟨h, fun v hv ho r hr => ?_⟩
  obtain ⟨q, hw, hl, _, h5, h100⟩ := gr_short5 hg hv hr
  have h1 := hk v hv q hw ho (by omega)
  omega
theorem ds_step {g : Nat → Nat} {o t : Nat} {d : Nat → Nat} {a b : Nat} (h : ds_ok g o t d) (ha : a < 6) (hb : b < 6) (he : 0 < g (6 * a + b)) (ho : o.testBit b = false) (hl : d b + g (6 * a + b) < d a) : ds_ok g o t (na_up d a (d b + g (6 * a + b))) := by
  obtain ⟨h0, h1, h2⟩ := h
  have hat : t ≠ a := by
    intro e
    rw [← e] at hl
    omega
  have hda := h1 a ha
  refine ⟨by rw [na_n hat]; exact h0, fun v hv => ?_, fun v hv hf => ?_⟩
  · by_cases e : v = a
    · rw [e, na_s]; omega
    · rw [na_n e]; exact h1 v hv
  · by_cases e : v = a
    · rw [e, na_s]
      obtain ⟨r, hr, hlr⟩ := h2 b hb (by omega)
      refine ⟨b :: r, ⟨he, hb, ho, hr⟩, ?_⟩
      show g (6 * a + b) + gr_ln g b r = _
      omega
    · rw [na_n e] at hf ⊢
      exact h2 v hv hf
theorem ds_up {d : Nat → Nat} {a x : Nat} (hl : x < d a) (v : Nat) : na_up d a x v ≤ d v := by
  by_cases e : v = a
  · rw [e, na_s]; omega
  · rw [na_n e]; exact Nat.le_refl _
theorem ds_mono {g : Nat → Nat} {o t : Nat} {d d' : Nat → Nat} {k v : Nat} (h : ds_k g o t d k v) (hl : d' v ≤ d v) : ds_k g o t d' k v :=
  fun r hr ho hk => Nat.le_trans hl (h r hr ho hk)
/-- what the inner loop has done for the edges a → c, c < b -/
def ds_e (g : Nat → Nat) (o t : Nat) (d : Nat → Nat) (k a b : Nat) : Prop :=
  ∀ c, c < b → 0 < g (6 * a + c) → o.testBit a = false → o.testBit c = false → ∀ r, gr_wk g o t c r → r.length ≤ k → d a ≤ g (6 * a + c) + gr_ln g c r
theorem ds_e0 {g : Nat → Nat} {o t : Nat} {d : Nat → Nat} {k a : Nat} : ds_e g o t d k a 0 := fun c hc => absurd hc (Nat.not_lt_zero c)
theorem ds_eskip {g : Nat → Nat} {o t : Nat} {d : Nat → Nat} {k a b : Nat} (h : ds_e g o t d k a b) (hs : ¬ (0 < g (6 * a + b) ∧ o.testBit a = false ∧ o.testBit b = false)) : ds_e g o t d k a (b + 1) := by
  intro c hc h1 h2 h3
  rcases Nat.lt_or_ge c b with hl | hl
  · exact h c hl h1 h2 h3
  · have e : c = b := by omega
    rw [e] at h1 h3
    exact absurd ⟨h1, h2, h3⟩ hs
theorem ds_ekeep {g : Nat → Nat} {o t : Nat} {d : Nat → Nat} {k a b : Nat} (hb : ds_k g o t d k b) (h : ds_e g o t d k a b) (hs : d a ≤ d b + g (6 * a + b)) : ds_e g o t d k a (b + 1) := by
  intro c hc h1 h2 h3 r hr hk
  rcases Nat.lt_or_ge c b with hl | hl
  · exact h c hl h1 h2 h3 r hr hk
  · have e : c = b := by omega
    subst e
    have := hb r hr h3 hk
    omega
theorem ds_eput {g : Nat → Nat} {o t : Nat} {d : Nat → Nat} {k a b : Nat} (hb : ds_k g o t d k b) (h : ds_e g o t d k a b) (hs : d b + g (6 * a + b) < d a) : ds_e g o t (na_up d a (d b + g (6 * a + b))) k a (b + 1) := by
  intro c hc h1 h2 h3 r hr hk
  rw [na_s]
  rcases Nat.lt_or_ge c b with hl | hl
  · have := h c hl h1 h2 h3 r hr hk
    omega
  · have e : c = b := by omega
    subst e
    have := hb r hr h3 hk
    omega
theorem ds_row {g : Nat → Nat} {o t : Nat} {d : Nat → Nat} {k a : Nat} (h0 : d t = 0) (h : ds_e g o t d k a 6) : ds_k g o t d (k + 1) a := by
  intro r hr ho hk
  cases r with
  | nil =>
    have e : a = t := hr
    rw [e, h0]
    exact Nat.zero_le _
  | cons c r =>
    exact h c hr.2.1 hr.1 ho hr.2.2.1 r hr.2.2.2 (by rw [List.length_cons] at hk; omega)
theorem ds_init {g : Nat → Nat} {o t : Nat} {d : Nat → Nat} (h : ∀ v, v < 6 → d v = if v = t then 0 else 1048576) (ht : t < 6) : ds_ok g o t d ∧ ∀ v, v < 6 → ds_k g o t d 0 v := by
  refine ⟨⟨by rw [h t ht, if_pos rfl], fun v hv => ?_, fun v hv hf => ?_⟩, fun v hv r hr _ hk => ?_⟩
  · rw [h v hv]
    by_cases e : v = t
    · rw [if_pos e]; omega
    · rw [if_neg e]; omega
  · rw [h v hv] at hf ⊢
    by_cases e : v = t
    · rw [if_pos e]
      exact ⟨[], e, rfl⟩
    · rw [if_neg e] at hf
      omega
  · cases r with
    | nil =>
      have e : v = t := hr
      rw [h v hv, if_pos e]
      exact Nat.zero_le _
    | cons c r =>
      rw [List.length_cons] at hk
      omega
/-! the best next place -/
def bn_op (g d : Nat → Nat) (m a b : Nat) : Prop := b < 6 ∧ 0 < g (6 * a + b) ∧ m.testBit b = false ∧ d b < 1048576
def bn_to (g d : Nat → Nat) (m a n b : Nat) : Prop :=
  b < n ∧ bn_op g d m a b ∧ ∀ c, c < n → bn_op g d m a c → d b + g (6 * a + b) < d c + g (6 * a + c) ∨ (d b + g (6 * a + b) = d c + g (6 * a + c) ∧ b ≤ c)
def bn_is (g d : Nat → Nat) (m a b : Nat) : Prop := bn_to g d m a 6 b
theorem bn_first {g d : Nat → Nat} {m a n : Nat} (h : ∀ c, c < n → ¬ bn_op g d m a c) (ho : bn_op g d m a n) : bn_to g d m a (n + 1) n := by
  refine ⟨Nat.lt_succ_self n, ho, fun c hc hoc => ?_⟩
  rcases Nat.lt_or_ge c n with hl | hl
  · exact absurd hoc (h c hl)
  · have e : c = n := by omega
    subst e
    exact Or.inr ⟨rfl, Nat.le_refl _⟩
theorem bn_new {g d : Nat → Nat} {m a n b : Nat} (h : bn_to g d m a n b) (ho : bn_op g d m a n) (hl : d n + g (6 * a + n) < d b + g (6 * a + b)) : bn_to g d m a (n + 1) n := by
  refine ⟨Nat.lt_succ_self n, ho, fun c hc hoc => ?_⟩
  rcases Nat.lt_or_ge c n with hl2 | hl2
  · rcases h.2.2 c hl2 hoc with h3 | ⟨h3, _⟩
    · exact Or.inl (by omega)
    · exact Or.inl (by omega)
  · have e : c = n := by omega
    subst e
    exact Or.inr ⟨rfl, Nat.le_refl _⟩
theorem bn_keep {g d : Nat → Nat} {m a n b : Nat} (h : bn_to g d m a n b) (hl : bn_op g d m a n → d b + g (6 * a + b) ≤ d n + g (6 * a + n)) : bn_to g d m a (n + 1) b := by
  refine ⟨Nat.lt_succ_of_lt h.1, h.2.1, fun c hc hoc => ?_⟩
  rcases Nat.lt_or_ge c n with hl2 | hl2
  · exact h.2.2 c hl2 hoc
  · have e : c = n := by omega
    subst e
    have h3 := hl hoc
    have h4 := h.1
    rcases Nat.lt_or_ge (d b + g (6 * a + b)) (d c + g (6 * a + c)) with h5 | h5
    · exact Or.inl h5
    · exact Or.inr ⟨by omega, by omega⟩
theorem bn_none {g d : Nat → Nat} {m a n : Nat} (h : ∀ c, c < n → ¬ bn_op g d m a c) (ho : ¬ bn_op g d m a n) : ∀ c, c < n + 1 → ¬ bn_op g d m a c := by
  intro c hc
  rcases Nat.lt_or_ge c n with hl | hl
  · exact h c hl
  · have e : c = n := by omega
    rw [e]; exact ho
theorem bn_ex {g d : Nat → Nat} {m a : Nat} : ∀ n, (∀ c, c < n → ¬ bn_op g d m a c) ∨ ∃ b, bn_to g d m a n b := by
  intro n
  induction n with
  | zero => exact Or.inl (fun c hc => absurd hc (Nat.not_lt_zero c))
  | succ n ih =>
    by_cases ho : bn_op g d m a n
    · rcases ih with h | ⟨b, h⟩
      · exact Or.inr ⟨n, bn_first h ho⟩
      · rcases Nat.lt_or_ge (d n + g (6 * a + n)) (d b + g (6 * a + b)) with hl | hl
        · exact Or.inr ⟨n, bn_new h ho hl⟩
        · exact Or.inr ⟨b, bn_keep h (fun _ => hl)⟩
    · rcases ih with h | ⟨b, h⟩
      · exact Or.inl (bn_none h ho)
      · exact Or.inr ⟨b, bn_keep h (fun h2 => absurd h2 ho)⟩
/-! the way that the best next places make -/
def gy_is (g d : Nat → Nat) (o t : Nat) : Nat → List Nat → Prop
  | b, [] => b = t
  | b, y :: r => b ≠ t ∧ bn_is g d o b y ∧ gy_is g d o t y r
theorem gy_ex {g d : Nat → Nat} {o t : Nat} (hd : ds_all g o t d) : ∀ k b, d b = k → b < 6 → o.testBit b = false → d b < 1048576 → ∃ r, gy_is g d o t b r ∧ gr_wk g o t b r ∧ gr_ln g b r = d b ∧ (b :: r).Nodup ∧ ∀ q, gr_wk g o t b q → gr_ln g b q = d b → r = q ∨ lx_b r q = true := by
  intro k
  induction k using Nat.strongRecOn with
  | _ k ih =>
    intro b hk hb hob hf
    by_cases hbt : b = t
    · refine ⟨[], hbt, hbt, ?_, by simp, fun q hq hlq => ?_⟩
      · rw [hbt, hd.1.1]; rfl
      · cases q with
        | nil => exact Or.inl rfl
        | cons y q => exact Or.inr rfl
    · obtain ⟨r0, hw0, hl0⟩ := hd.1.2.2 b hb hf
      cases r0 with
      | nil => exact absurd hw0 hbt
      | cons y r1 =>
        have hl0' : g (6 * b + y) + gr_ln g y r1 = d b := hl0
        have hy := hd.2 y hw0.2.1 hw0.2.2.1 r1 hw0.2.2.2
        have hoy : bn_op g d o b y := ⟨hw0.2.1, hw0.1, hw0.2.2.1, by omega⟩
        rcases bn_ex (g := g) (d := d) (m := o) (a := b) 6 with hno | ⟨b', hb'⟩
        · exact absurd hoy (hno y hoy.1)
        · have hop := hb'.2.1
          obtain ⟨r', hw', hl'⟩ := hd.1.2.2 b' hop.1 hop.2.2.2
          have hwb : gr_wk g o t b (b' :: r') := ⟨hop.2.1, hop.1, hop.2.2.1, hw'⟩
          have hge := (hd.2 b hb hob (b' :: r') hwb).1
          have hge' : d b ≤ g (6 * b + b') + gr_ln g b' r' := hge
          have hle : d b' + g (6 * b + b') ≤ d b := by
            rcases hb'.2.2 y hoy.1 hoy with h | ⟨h, _⟩ <;> omega
          have hpos := hop.2.1
          have hval : d b' + g (6 * b + b') = d b := by omega
          obtain ⟨r, hg1, hg2, hg3, hg4, hg5⟩ := ih (d b') (by omega) b' rfl hop.1 hop.2.2.1 hop.2.2.2
          refine ⟨b' :: r, ⟨hbt, hb', hg1⟩, ⟨hop.2.1, hop.1, hop.2.2.1, hg2⟩, ?_, ?_, ?_⟩
          · show g (6 * b + b') + gr_ln g b' r = d b
            omega
          · refine List.nodup_cons.mpr ⟨?_, hg4⟩
            intro hin
            rcases List.mem_cons.mp hin with e | hin
            · subst e
              omega
            · obtain ⟨a, q, _, hwq, hlq⟩ := gr_suf hg2 hin
              have := (hd.2 b hb hob q hwq).1
              omega
          · intro q hq hlq
            cases q with
            | nil => exact absurd hq hbt
            | cons z q =>
              have hlq' : g (6 * b + z) + gr_ln g z q = d b := hlq
              have hz := hd.2 z hq.2.1 hq.2.2.1 q hq.2.2.2
              have hoz : bn_op g d o b z := ⟨hq.2.1, hq.1, hq.2.2.1, by omega⟩
              rcases hb'.2.2 z hoz.1 hoz with h | ⟨h, hle2⟩
              · omega
              · rcases Nat.lt_or_ge b' z with h3 | h3
                · exact Or.inr (lx_cc.mpr (Or.inl h3))
                · have e : b' = z := by omega
                  subst e
                  rcases hg5 q hq.2.2.2 (by omega) with h4 | h4
                  · exact Or.inl (by rw [h4])
                  · exact Or.inr (lx_cc.mpr (Or.inr ⟨rfl, h4⟩))
/-- sets as bits -/
def mk_s (p : List Nat) (m : Nat) : Nat := p.foldl (fun m x => m ||| 2 ^ x) m
theorem mk_bit : ∀ (p : List Nat) (m v : Nat), (mk_s p m).testBit v = (m.testBit v || decide (v ∈ p)) := by
  intro p
  induction p with
  | nil => intro m v; simp [mk_s]
  | cons x p ih =>
    intro m v
    show (mk_s p (m ||| 2 ^ x)).testBit v = _
    rw [ih, Nat.testBit_or, Nat.testBit_two_pow]
    by_cases e : x = v
    · simp [e]
    · have e2 : ¬ v = x := fun h => e h.symm
      simp [e, e2]
theorem mk_64 : ∀ (p : List Nat) (m : Nat), m < 64 → (∀ x, x ∈ p → x < 6) → mk_s p m < 64 := by
  intro p
  induction p with
  | nil => intro m hm _; exact hm
  | cons x p ih =>
    intro m hm h
    refine ih (m ||| 2 ^ x) ?_ (fun y hy => h y (List.mem_cons_of_mem _ hy))
    have hx := h x List.mem_cons_self
    exact Nat.or_lt_two_pow (n := 6) hm (Nat.pow_lt_pow_right (by decide) hx)
theorem mk_false {p : List Nat} {v : Nat} : (mk_s p 0).testBit v = false ↔ v ∉ p := by
  rw [mk_bit]
  simp
theorem mk_app (p q : List Nat) (m : Nat) : mk_s (p ++ q) m = mk_s q (mk_s p m) := by
  unfold mk_s
  rw [List.foldl_append]
end
section
/-! a family of ways: those that begin with pre and then go on to a place that isn't barred -/
def ye_cl (g : Nat → Nat) (s t : Nat) (pre : List Nat) (bars : Nat) (q : List Nat) : Prop := wy_is g s t q ∧ ∃ y r, q = pre ++ y :: r ∧ bars.testBit y = false
theorem ye_last {s : Nat} {a : List Nat} : (s :: a).getLastD 0 = a.getLastD s := List.getLastD_cons
/-- a way of the family, seen from the place where it parts -/
theorem ye_see {g : Nat → Nat} {s t y : Nat} {a r : List Nat} (h : wy_is g s t ((s :: a) ++ y :: r)) : gr_wk g (mk_s (s :: a) 0) t (a.getLastD s) (y :: r) ∧ gr_lp g ((s :: a) ++ y :: r) = gr_ln g s a + gr_ln g (a.getLastD s) (y :: r) := by
  obtain ⟨_, _, _, hn, r2, e, hw⟩ := h
  have e2 : r2 = a ++ y :: r := by
    rw [List.cons_append] at e
    exact (List.cons.inj e).2.symm
  rw [e2] at hw
  refine ⟨gr_oo (gr_app1 hw) (fun z hz => mk_false.mpr (fun hz2 => (List.nodup_append.mp hn).2.2 z hz2 z hz rfl)), ?_⟩
  show gr_ln g s (a ++ y :: r) = _
  exact gr_lna
theorem ye_none {g d : Nat → Nat} {s t bars : Nat} {a : List Nat} (hd : ds_all g (mk_s (s :: a) 0) t d) (h : ∀ b, b < 6 → ¬ bn_op g d (mk_s (s :: a) 0 ||| bars) (a.getLastD s) b) : ∀ q, ¬ ye_cl g s t (s :: a) bars q := by
  rintro q ⟨hq, y, r, e, hb⟩
  subst e
  obtain ⟨hw, _⟩ := ye_see hq
  have hy := hd.2 y hw.2.1 hw.2.2.1 r hw.2.2.2
  refine h y hw.2.1 ⟨hw.2.1, hw.1, ?_, by omega⟩
  rw [Nat.testBit_or, hw.2.2.1, hb]
  rfl
theorem ye_best {g d : Nat → Nat} {s t bars y0 b : Nat} {a r0 r : List Nat} (hd : ds_all g (mk_s (s :: a) 0) t d) (hp : wy_is g s t ((s :: a) ++ y0 :: r0) ∨ (a = [] ∧ s < 6 ∧ t < 6 ∧ s ≠ t)) (hb : bn_is g d (mk_s (s :: a) 0 ||| bars) (a.getLastD s) b) (hw : gr_wk g (mk_s (s :: a) 0) t b r) (hl : gr_ln g b r = d b) (hn : (b :: r).Nodup) (hx : ∀ q, gr_wk g (mk_s (s :: a) 0) t b q → gr_ln g b q = d b → r = q ∨ lx_b r q = true) : ye_cl g s t (s :: a) bars ((s :: a) ++ b :: r) ∧ ∀ q, ye_cl g s t (s :: a) bars q → q = (s :: a) ++ b :: r ∨ bf_b g ((s :: a) ++ b :: r) q = true := by
  have hop := hb.2.1
  have hob : (mk_s (s :: a) 0).testBit b = false ∧ bars.testBit b = false := by
    have h := hop.2.2.1
    rw [Nat.testBit_or] at h
    exact Bool.or_eq_false_iff.mp h
  have hwat : gr_wk g (mk_s (s :: a) 0) t (a.getLastD s) (b :: r) := ⟨hop.2.1, hop.1, hob.1, hw⟩
  have hnew : wy_is g s t ((s :: a) ++ b :: r) := by
    have hdis : ∀ x, x ∈ b :: r → x ∉ s :: a := fun x hx2 => mk_false.mp (gr_mem hwat x hx2).2
    rcases hp with hp | ⟨ea, h1, h2, h3⟩
    · obtain ⟨h1, h2, h3, hn0, r2, e, hw0⟩ := hp
      have e2 : r2 = a ++ y0 :: r0 := by
        rw [List.cons_append] at e
        exact (List.cons.inj e).2.symm
      rw [e2] at hw0
      refine ⟨h1, h2, h3, List.nodup_append.mpr ⟨(List.nodup_append.mp hn0).1, hn, ?_⟩, a ++ b :: r, rfl, gr_app2 hw0 (gr_o0 hwat)⟩
      intro x hx1 z hz e3
      rw [e3] at hx1
      exact hdis z hz hx1
    · subst ea
      refine ⟨h1, h2, h3, ?_, b :: r, rfl, gr_o0 hwat⟩
      refine List.nodup_cons.mpr ⟨?_, hn⟩
      intro hs
      exact hdis s hs List.mem_cons_self
  refine ⟨⟨hnew, b, r, rfl, hob.2⟩, ?_⟩
  rintro q ⟨hq, y, r', e, hbar⟩
  subst e
  obtain ⟨hwq, hlq⟩ := ye_see hq
  obtain ⟨_, hlp⟩ := ye_see hnew
  have hlq' : gr_lp g ((s :: a) ++ y :: r') = gr_ln g s a + (g (6 * (a.getLastD s) + y) + gr_ln g y r') := hlq
  have hlp' : gr_lp g ((s :: a) ++ b :: r) = gr_ln g s a + (g (6 * (a.getLastD s) + b) + gr_ln g b r) := hlp
  have hy := hd.2 y hwq.2.1 hwq.2.2.1 r' hwq.2.2.2
  have hoy : bn_op g d (mk_s (s :: a) 0 ||| bars) (a.getLastD s) y := ⟨hwq.2.1, hwq.1, by rw [Nat.testBit_or, hwq.2.2.1, hbar]; rfl, by omega⟩
  rw [bf_if, lx_pre, lx_cc]
  rcases hb.2.2 y hoy.1 hoy with h | ⟨h, hle⟩
  · exact Or.inr (Or.inl (by omega))
  · by_cases he : gr_ln g y r' = d y
    · have hsum : gr_lp g ((s :: a) ++ b :: r) = gr_lp g ((s :: a) ++ y :: r') := by omega
      rcases Nat.lt_or_ge b y with h3 | h3
      · exact Or.inr (Or.inr ⟨hsum, Or.inl h3⟩)
      · have e : b = y := by omega
        subst e
        rcases hx r' hwq.2.2.2 he with h4 | h4
        · exact Or.inl (by rw [h4])
        · exact Or.inr (Or.inr ⟨hsum, Or.inr ⟨rfl, h4⟩⟩)
    · exact Or.inr (Or.inl (by omega))
/-! at most 65 ways -/
def al_w : Nat → List Nat → List (List Nat)
  | 0, _ => [[]]
  | n + 1, c => [] :: c.flatMap (fun v => (al_w n (c.filter (fun x => x != v))).map (fun l => v :: l))
theorem al_mem : ∀ (n : Nat) (c l : List Nat), l.Nodup → (∀ x, x ∈ l → x ∈ c) → l.length ≤ n → l ∈ al_w n c := by
  intro n
  induction n with
  | zero =>
    intro c l _ _ hl
    have e : l = [] := List.length_eq_zero_iff.mp (by omega)
    rw [e]
    exact List.mem_cons_self
  | succ n ih =>
    intro c l hn hc hl
    cases l with
    | nil => exact List.mem_cons_self
    | cons v l =>
      refine List.mem_cons_of_mem _ (List.mem_flatMap.mpr ⟨v, hc v List.mem_cons_self, List.mem_map.mpr ⟨l, ?_, rfl⟩⟩)
      have hn2 := List.nodup_cons.mp hn
      refine ih _ l hn2.2 (fun x hx => List.mem_filter.mpr ⟨hc x (List.mem_cons_of_mem _ hx), ?_⟩) (by rw [List.length_cons] at hl; omega)
      have hne : x ≠ v := fun e => hn2.1 (e ▸ hx)
      simp [hne]
def al_c (s t : Nat) : List (List Nat) := (al_w 4 ((List.range 6).filter (fun v => v != s && v != t))).map (fun m => s :: (m ++ [t]))
theorem al_len : ∀ s, s < 6 → ∀ t, t < 6 → s ≠ t → (al_c s t).length = 65 := by decide +kernel
theorem al_all {g : Nat → Nat} {s t : Nat} {p : List Nat} (h : wy_is g s t p) : p ∈ al_c s t := by
  have h6 := wy_six h
  have hlt := wy_lt h
  have hn := h.2.2.2.1
  obtain ⟨m, e⟩ := wy_mid h
  subst e
  refine List.mem_map.mpr ⟨m, ?_, rfl⟩
  have hn1 := List.nodup_cons.mp hn
  have hn2 := List.nodup_append.mp hn1.2
  refine al_mem 4 _ m hn2.1 (fun x hx => List.mem_filter.mpr ⟨List.mem_range.mpr (hlt x (by simp [hx])), ?_⟩) (by simp at h6; omega)
  have h1 : x ≠ s := fun e => hn1.1 (e ▸ List.mem_append_left _ hx)
  have h2 : x ≠ t := hn2.2.2 x hx t List.mem_cons_self
  simp [h1, h2]
theorem al_65 {g : Nat → Nat} {s t : Nat} {l : List (List Nat)} (hp : s < 6 ∧ t < 6 ∧ s ≠ t) (hn : l.Nodup) (h : ∀ p, p ∈ l → wy_is g s t p) : l.length ≤ 65 := by
  rw [← al_len s hp.1 t hp.2.1 hp.2.2]
  exact List.Nodup.length_le_of_subset hn (fun p hp2 => al_all (h p hp2))
end
section
/-! the ranking: ways found (wc of them, with the family whose best each is), of them ranked rc, and R: ways still to be put into families -/
def fu_ {α : Type} (f : Nat → α) (k : Nat) (x : α) : Nat → α := fun j => if j = k then x else f j
theorem fu_s {α : Type} {f : Nat → α} {k : Nat} {x : α} : fu_ f k x k = x := if_pos rfl
theorem fu_n {α : Type} {f : Nat → α} {k j : Nat} {x : α} (h : j ≠ k) : fu_ f k x j = f j := if_neg h
theorem fu_l {α : Type} {f : Nat → α} {k j : Nat} {x : α} (h : j < k) : fu_ f k x j = f j := if_neg (Nat.ne_of_lt h)
def ye_un (rc : Nat) (rk : Nat → Nat) (w : Nat) : Prop := ∀ k, k < rc → rk k ≠ w
def ye_I (g : Nat → Nat) (s t wc rc : Nat) (P pr : Nat → List Nat) (br rk : Nat → Nat) (R : List Nat → Prop) : Prop :=
  (∀ w, w < wc → (∃ a, pr w = s :: a) ∧ br w < 64 ∧ ye_cl g s t (pr w) (br w) (P w)) ∧
  (∀ w, w < wc → ∀ q, ye_cl g s t (pr w) (br w) q → q = P w ∨ bf_b g (P w) q = true) ∧
  (∀ k, k < rc → rk k < wc) ∧
  (∀ k l, k < l → l < rc → bf_b g (P (rk k)) (P (rk l)) = true) ∧
  (∀ q, wy_is g s t q → (∃ k, k < rc ∧ q = P (rk k)) ∨ (∃ w, w < wc ∧ ye_un rc rk w ∧ ye_cl g s t (pr w) (br w) q) ∨ R q) ∧
  (∀ w w', w < wc → w' < wc → ye_un rc rk w → ye_un rc rk w' → ∀ q, ye_cl g s t (pr w) (br w) q → ye_cl g s t (pr w') (br w') q → w = w') ∧
  (∀ w, w < wc → ye_un rc rk w → ∀ q, ye_cl g s t (pr w) (br w) q → ¬ R q) ∧
  (∀ w, w < wc → ye_un rc rk w → ∀ q, ye_cl g s t (pr w) (br w) q → ∀ k, k < rc → bf_b g (P (rk k)) q = true) ∧
  (∀ q, R q → ∀ k, k < rc → bf_b g (P (rk k)) q = true)
theorem ye_0 {g : Nat → Nat} {s t : Nat} {P pr : Nat → List Nat} {br rk : Nat → Nat} : ye_I g s t 0 0 P pr br rk (wy_is g s t) :=
  ⟨fun w h => absurd h (Nat.not_lt_zero w), fun w h => absurd h (Nat.not_lt_zero w), fun w h => absurd h (Nat.not_lt_zero w), fun _ l _ h => absurd h (Nat.not_lt_zero l), fun _ h => Or.inr (Or.inr h), fun w _ h => absurd h (Nat.not_lt_zero w), fun w h => absurd h (Nat.not_lt_zero w), fun w h => absurd h (Nat.not_lt_zero w), fun _ _ k h => absurd h (Nat.not_lt_zero k)⟩
section
variable {g : Nat → Nat} {s t wc rc : Nat} {P pr : Nat → List Nat} {br rk : Nat → Nat} {R R' : List Nat → Prop}
theorem ye_nun {w : Nat} (h : ¬ ye_un rc rk w) : ∃ k, k < rc ∧ rk k = w := by
  apply Classical.byContradiction
  intro h2
  exact h (fun k hk e => h2 ⟨k, hk, e⟩)
theorem ye_way (I : ye_I g s t wc rc P pr br rk R) {w : Nat} (h : w < wc) : wy_is g s t (P w) := (I.1 w h).2.2.1
theorem ye_inj (I : ye_I g s t wc rc P pr br rk R) {w w' : Nat} (h : w < wc) (h' : w' < wc) (e : P w = P w') : w = w' := by
  obtain ⟨h1, _, h3, h4, _, h6, _, h8, _⟩ := I
  by_cases u : ye_un rc rk w
  · by_cases u' : ye_un rc rk w'
    · exact h6 w w' h h' u u' (P w) (h1 w h).2.2 (e ▸ (h1 w' h').2.2)
    · obtain ⟨k, hk, ek⟩ := ye_nun u'
      have := h8 w h u (P w) (h1 w h).2.2 k hk
      rw [ek, e] at this
      exact absurd this (bf_irr _)
  · obtain ⟨k, hk, ek⟩ := ye_nun u
    by_cases u' : ye_un rc rk w'
    · have := h8 w' h' u' (P w') (h1 w' h').2.2 k hk
      rw [ek, e] at this
      exact absurd this (bf_irr _)
    · obtain ⟨l, hl, el⟩ := ye_nun u'
      rcases Nat.lt_trichotomy k l with hkl | hkl | hkl
      · have := h4 k l hkl hl
        rw [ek, el, e] at this
        exact absurd this (bf_irr _)
      · rw [← ek, ← el, hkl]
      · have := h4 l k hkl hk
        rw [ek, el, e] at this
        exact absurd this (bf_irr _)
theorem ye_cnt (I : ye_I g s t wc rc P pr br rk R) (hp : s < 6 ∧ t < 6 ∧ s ≠ t) : wc ≤ 65 := by
  have hn : ((List.range wc).map P).Nodup := by
    rw [List.Nodup, List.pairwise_map]
    exact List.Pairwise.imp_of_mem (fun ha hb hne e => hne (ye_inj I (List.mem_range.mp ha) (List.mem_range.mp hb) e)) (List.nodup_range (n := wc))
  have h := al_65 (g := g) hp hn (fun p hp2 => by
    obtain ⟨w, hw, e⟩ := List.mem_map.mp hp2
    rw [← e]
    exact ye_way I (List.mem_range.mp hw))
  rw [List.length_map, List.length_range] at h
  exact h
theorem ye_rkinj (I : ye_I g s t wc rc P pr br rk R) {k l : Nat} (hk : k < rc) (hl : l < rc) (e : rk k = rk l) : k = l := by
  rcases Nat.lt_trichotomy k l with h | h | h
  · have := I.2.2.2.1 k l h hl
    rw [e] at this
    exact absurd this (bf_irr _)
  · exact h
  · have := I.2.2.2.1 l k h hk
    rw [e] at this
    exact absurd this (bf_irr _)
theorem ye_rc (I : ye_I g s t wc rc P pr br rk R) : rc ≤ wc := by
  have hn : ((List.range rc).map rk).Nodup := by
    rw [List.Nodup, List.pairwise_map]
    exact List.Pairwise.imp_of_mem (fun ha hb hne e => hne (ye_rkinj I (List.mem_range.mp ha) (List.mem_range.mp hb) e)) (List.nodup_range (n := rc))
  have h := List.Nodup.length_le_of_subset hn (l₂ := List.range wc) (fun p hp2 => by
    obtain ⟨w, hw, e⟩ := List.mem_map.mp hp2
    rw [← e]
    exact List.mem_range.mpr (I.2.2.1 w (List.mem_range.mp hw)))
  rw [List.length_map, List.length_range, List.length_range] at h
  exact h
theorem ye_unr {w w0 : Nat} (h : ye_un (rc + 1) (fu_ rk rc w0) w) : ye_un rc rk w ∧ w ≠ w0 := by
  refine ⟨fun k hk => ?_, fun e => ?_⟩
  · have := h k (Nat.lt_succ_of_lt hk)
    rw [fu_l hk] at this
    exact this
  · have := h rc (Nat.lt_succ_self rc)
    rw [fu_s] at this
    exact this e.symm
theorem ye_rank {w0 : Nat} (I : ye_I g s t wc rc P pr br rk (fun _ => False)) (h0 : w0 < wc) (u0 : ye_un rc rk w0) (hl : ∀ w, w < wc → ye_un rc rk w → w = w0 ∨ bf_b g (P w0) (P w) = true) : ye_I g s t wc (rc + 1) P pr br (fu_ rk rc w0) (fun q => ye_cl g s t (pr w0) (br w0) q ∧ q ≠ P w0) := by
  obtain ⟨h1, h2, h3, h4, h5, h6, _, h8, _⟩ := I
  refine ⟨h1, h2, ?_, ?_, ?_, ?_, ?_, ?_, ?_⟩
  · intro k hk
    rcases Nat.lt_or_ge k rc with h | h
    · rw [fu_l h]; exact h3 k h
    · have e : k = rc := by omega
      rw [e, fu_s]; exact h0
  · intro k l hkl hl2
    rw [fu_l (show k < rc by omega)]
    rcases Nat.lt_or_ge l rc with h | h
    · rw [fu_l h]; exact h4 k l hkl h
    · have e : l = rc := by omega
      rw [e, fu_s]
      exact h8 w0 h0 u0 (P w0) (h1 w0 h0).2.2 k (by omega)
  · intro q hq
    rcases h5 q hq with ⟨k, hk, e⟩ | ⟨w, hw, u, hc⟩ | hf
    · exact Or.inl ⟨k, Nat.lt_succ_of_lt hk, by rw [fu_l hk]; exact e⟩
    · by_cases ew : w = w0
      · subst ew
        by_cases eq : q = P w
        · exact Or.inl ⟨rc, Nat.lt_succ_self rc, by rw [fu_s]; exact eq⟩
        · exact Or.inr (Or.inr ⟨hc, eq⟩)
      · refine Or.inr (Or.inl ⟨w, hw, fun k hk => ?_, hc⟩)
        rcases Nat.lt_or_ge k rc with h | h
        · rw [fu_l h]; exact u k h
        · have e : k = rc := by omega
          rw [e, fu_s]; exact fun e2 => ew e2.symm
    · exact hf.elim
  · intro w w' hw hw' u u' q hc hc'
    exact h6 w w' hw hw' (ye_unr u).1 (ye_unr u').1 q hc hc'
  · intro w hw u q hc hR
    exact (ye_unr u).2 (h6 w w0 hw h0 (ye_unr u).1 u0 q hc hR.1)
  · intro w hw u q hc k hk
    rcases Nat.lt_or_ge k rc with h | h
    · rw [fu_l h]; exact h8 w hw (ye_unr u).1 q hc k h
    · have e : k = rc := by omega
      rw [e, fu_s]
      rcases hl w hw (ye_unr u).1 with e2 | hb
      · exact absurd e2 (ye_unr u).2
      · rcases h2 w hw q hc with e3 | hb2
        · rw [e3]; exact hb
        · exact bf_tr hb hb2
  · intro q hR k hk
    rcases Nat.lt_or_ge k rc with h | h
    · rw [fu_l h]; exact h8 w0 h0 u0 q hR.1 k h
    · have e : k = rc := by omega
      rw [e, fu_s]
      rcases h2 w0 h0 q hR.1 with e3 | hb2
      · exact absurd e3 hR.2
      · exact hb2
theorem ye_R (I : ye_I g s t wc rc P pr br rk R) (h1 : ∀ q, R q → R' q) (h2 : ∀ q, R' q → R q) : ye_I g s t wc rc P pr br rk R' := by
  obtain ⟨i1, i2, i3, i4, i5, i6, i7, i8, i9⟩ := I
  refine ⟨i1, i2, i3, i4, ?_, i6, fun w hw u q hc hR => i7 w hw u q hc (h2 q hR), i8, fun q hR => i9 q (h2 q hR)⟩
  intro q hq
  rcases i5 q hq with h | h | h
  · exact Or.inl h
  · exact Or.inr (Or.inl h)
  · exact Or.inr (Or.inr (h1 q h))
theorem ye_add {a p : List Nat} {bars : Nat} (I : ye_I g s t wc rc P pr br rk R) (hR : ∀ q, ye_cl g s t (s :: a) bars q → R q) (hb : bars < 64) (hc : ye_cl g s t (s :: a) bars p) (hl : ∀ q, ye_cl g s t (s :: a) bars q → q = p ∨ bf_b g p q = true) : ye_I g s t (wc + 1) rc (fu_ P wc p) (fu_ pr wc (s :: a)) (fu_ br wc bars) rk (fun q => R q ∧ ¬ ye_cl g s t (s :: a) bars q) := by
  obtain ⟨i1, i2, i3, i4, i5, i6, i7, i8, i9⟩ := I
  have un : ye_un rc rk wc := fun k hk => Nat.ne_of_lt (i3 k hk)
  have hPk : ∀ k, k < rc → fu_ P wc p (rk k) = P (rk k) := fun k hk => fu_l (i3 k hk)
  refine ⟨?_, ?_, fun k hk => Nat.lt_succ_of_lt (i3 k hk), ?_, ?_, ?_, ?_, ?_, ?_⟩
  · intro w hw
    rcases Nat.lt_or_ge w wc with h | h
    · rw [fu_l h, fu_l h, fu_l h]; exact i1 w h
    · have e : w = wc := by omega
      rw [e, fu_s, fu_s, fu_s]; exact ⟨⟨a, rfl⟩, hb, hc⟩
  · intro w hw q hq
    rcases Nat.lt_or_ge w wc with h | h
    · rw [fu_l h, fu_l h] at hq; rw [fu_l h]; exact i2 w h q hq
    · have e : w = wc := by omega
      rw [e, fu_s, fu_s] at hq; rw [e, fu_s]; exact hl q hq
  · intro k l hkl hl2
    rw [hPk k (by omega), hPk l hl2]; exact i4 k l hkl hl2
  · intro q hq
    rcases i5 q hq with ⟨k, hk, e⟩ | ⟨w, hw, u, h⟩ | h
    · exact Or.inl ⟨k, hk, by rw [hPk k hk]; exact e⟩
    · exact Or.inr (Or.inl ⟨w, Nat.lt_succ_of_lt hw, u, by rw [fu_l hw, fu_l hw]; exact h⟩)
    · by_cases hcl : ye_cl g s t (s :: a) bars q
      · exact Or.inr (Or.inl ⟨wc, Nat.lt_succ_self wc, un, by rw [fu_s, fu_s]; exact hcl⟩)
      · exact Or.inr (Or.inr ⟨h, hcl⟩)
  · intro w w' hw hw' u u' q h h'
    rcases Nat.lt_or_ge w wc with l | l
    · rw [fu_l l, fu_l l] at h
      rcases Nat.lt_or_ge w' wc with l' | l'
      · rw [fu_l l', fu_l l'] at h'
        exact i6 w w' l l' u u' q h h'
      · have e : w' = wc := by omega
        rw [e, fu_s, fu_s] at h'
        exact absurd (hR q h') (i7 w l u q h)
    · have e : w = wc := by omega
      rw [e, fu_s, fu_s] at h
      rcases Nat.lt_or_ge w' wc with l' | l'
      · rw [fu_l l', fu_l l'] at h'
        exact absurd (hR q h) (i7 w' l' u' q h')
      · omega
  · intro w hw u q h hR2
    rcases Nat.lt_or_ge w wc with l | l
    · rw [fu_l l, fu_l l] at h
      exact i7 w l u q h hR2.1
    · have e : w = wc := by omega
      rw [e, fu_s, fu_s] at h
      exact hR2.2 h
  · intro w hw u q h k hk
    rw [hPk k hk]
    rcases Nat.lt_or_ge w wc with l | l
    · rw [fu_l l, fu_l l] at h
      exact i8 w l u q h k hk
    · have e : w = wc := by omega
      rw [e, fu_s, fu_s] at h
      exact i9 q (hR q h) k hk
  · intro q hq k hk
    rw [hPk k hk]
    exact i9 q hq.1 k hk
theorem ye_skip {a : List Nat} {bars : Nat} (I : ye_I g s t wc rc P pr br rk R) (hn : ∀ q, ¬ ye_cl g s t (s :: a) bars q) : ye_I g s t wc rc P pr br rk (fun q => R q ∧ ¬ ye_cl g s t (s :: a) bars q) :=
  ye_R I (fun q h => ⟨h, hn q⟩) (fun _ h => h.1)
theorem ye_fin (I : ye_I g s t wc rc P pr br rk (fun _ => False)) (h : ∀ w, w < wc → ¬ ye_un rc rk w) {q : List Nat} (hq : wy_is g s t q) : ∃ k, k < rc ∧ q = P (rk k) := by
  rcases I.2.2.2.2.1 q hq with h1 | ⟨w, hw, u, _⟩ | hf
  · exact h1
  · exact absurd u (h w hw)
  · exact hf.elim
end
/-! splitting a family at a place of its best way p = s :: a ++ y0 :: r0 -/
section
variable {g : Nat → Nat} {s t y0 bb : Nat} {a r0 q : List Nat}
theorem ye_sp1 (h : ye_cl g s t (s :: a) (bb ||| 2 ^ y0) q) : ye_cl g s t (s :: a) bb q ∧ q ≠ (s :: a) ++ y0 :: r0 := by
  obtain ⟨hw, y, r, e, hb⟩ := h
  rw [Nat.testBit_or, Bool.or_eq_false_iff, Nat.testBit_two_pow] at hb
  refine ⟨⟨hw, y, r, e, hb.1⟩, fun e2 => ?_⟩
  rw [e] at e2
  have e3 := (List.cons.inj (List.append_cancel_left e2)).1
  rw [e3] at hb
  simp at hb
theorem ye_sp2 (hp : wy_is g s t ((s :: a) ++ y0 :: r0)) (h : ye_cl g s t (s :: a) bb q) (hne : q ≠ (s :: a) ++ y0 :: r0) (hn : ¬ ye_cl g s t (s :: a) (bb ||| 2 ^ y0) q) : ye_cl g s t (s :: (a ++ [y0])) 0 q := by
  obtain ⟨hw, y, r, e, hb⟩ := h
  have ey : y = y0 := by
    apply Classical.byContradiction
    intro h2
    refine hn ⟨hw, y, r, e, ?_⟩
    rw [Nat.testBit_or, hb, Nat.testBit_two_pow]
    simp
    exact fun e2 => h2 e2.symm
  subst ey
  cases r with
  | nil =>
    exfalso
    apply hne
    have h3 : wy_is g s t ((s :: a) ++ [y]) := e ▸ hw
    have h4 : ((s :: a) ++ [y]) ++ r0 = (s :: a) ++ y :: r0 := by simp
    rw [← h4] at hp
    rw [wy_pre h3 hp, e]
  | cons z r =>
    exact ⟨hw, z, r, by rw [e]; simp, Nat.zero_testBit _⟩
theorem ye_sp3 (hb : bb.testBit y0 = false) (h : ye_cl g s t (s :: (a ++ [y0])) 0 q) : ye_cl g s t (s :: a) bb q ∧ ¬ ye_cl g s t (s :: a) (bb ||| 2 ^ y0) q := by
  obtain ⟨hw, y, r, e, _⟩ := h
  have e2 : q = (s :: a) ++ y0 :: y :: r := by rw [e]; simp
  refine ⟨⟨hw, y0, y :: r, e2, hb⟩, ?_⟩
  rintro ⟨_, z, r', e3, hz⟩
  rw [e2] at e3
  have e4 := (List.cons.inj (List.append_cancel_left e3)).1
  rw [← e4, Nat.testBit_or, Nat.testBit_two_pow] at hz
  simp at hz
theorem ye_sp4 {p : List Nat} {bars : Nat} (hp : wy_is g s t p) : ¬ ye_cl g s t p bars q := by
  rintro ⟨hw, y, r, e, _⟩
  rw [e] at hw
  exact absurd (wy_pre hp hw) (by simp)
end
end
section
/-! the sorted list of all ways between two places -/
def sa_wy (g : Nat → Nat) (v1 v2 : Int32) (p : List Nat) : Prop := ∃ s t, v1 = nI s ∧ v2 = nI t ∧ wy_is g s t p
def sa_is (g : Nat → Nat) (v1 v2 : Int32) (xs : List (List Nat)) : Prop := xs.Pairwise (fun p q => bf_b g p q = true) ∧ ∀ p, p ∈ xs ↔ sa_wy g v1 v2 p
theorem sa_pair {g : Nat → Nat} {s t : Nat} {p : List Nat} (hs : s < 6) (ht : t < 6) : sa_wy g (nI s) (nI t) p ↔ wy_is g s t p := by
  constructor
  · rintro ⟨s', t', e1, e2, h⟩
    have h1 := h.1
    have h2 := h.2.1
    rw [nI_eq (by omega) (by omega)] at e1 e2
    rw [e1, e2]
    exact h
  · exact fun h => ⟨s, t, rfl, rfl, h⟩
theorem sa_nd {g : Nat → Nat} {v1 v2 : Int32} {xs : List (List Nat)} (h : sa_is g v1 v2 xs) : xs.Nodup := by
  unfold List.Nodup
  refine List.Pairwise.imp ?_ h.1
  intro p q h2 e
  rw [e] at h2
  exact bf_irr q h2
theorem sa_uni {g : Nat → Nat} {v1 v2 : Int32} {xs ys : List (List Nat)} (h : sa_is g v1 v2 xs) (h' : sa_is g v1 v2 ys) : xs = ys :=
  List.Perm.eq_of_pairwise (le := fun p q => bf_b g p q = true) (fun p q _ _ h1 h2 => absurd h2 (bf_as h1)) h.1 h'.1 ((List.perm_ext_iff_of_nodup (sa_nd h) (sa_nd h')).mpr (fun p => (h.2 p).trans (h'.2 p).symm))
theorem sa_ins {g : Nat → Nat} (p : List Nat) : ∀ xs : List (List Nat), xs.Pairwise (fun p q => bf_b g p q = true) → ∃ ys : List (List Nat), ys.Pairwise (fun p q => bf_b g p q = true) ∧ ∀ q, q ∈ ys ↔ q = p ∨ q ∈ xs := by
  intro xs
  induction xs with
  | nil => intro _; exact ⟨[p], by simp, by simp⟩
  | cons x xs ih =>
    intro h
    have h2 := List.pairwise_cons.mp h
    rcases bf_tri (g := g) p x with hb | hb | hb
    · refine ⟨p :: x :: xs, List.pairwise_cons.mpr ⟨fun q hq => ?_, h⟩, by simp⟩
      rcases List.mem_cons.mp hq with e | hq
      · rw [e]; exact hb
      · exact bf_tr hb (h2.1 q hq)
    · exact ⟨x :: xs, h, fun q => by rw [hb]; simp⟩
    · obtain ⟨ys, h3, h4⟩ := ih h2.2
      refine ⟨x :: ys, List.pairwise_cons.mpr ⟨fun q hq => ?_, h3⟩, fun q => ?_⟩
      · rcases (h4 q).mp hq with e | hq
        · rw [e]; exact hb
        · exact h2.1 q hq
      · rw [List.mem_cons, h4, List.mem_cons]
        constructor
        · rintro (h5 | h5 | h5)
          · exact Or.inr (Or.inl h5)
          · exact Or.inl h5
          · exact Or.inr (Or.inr h5)
        · rintro (h5 | h5 | h5)
          · exact Or.inr (Or.inl h5)
          · exact Or.inl h5
          · exact Or.inr (Or.inr h5)
theorem sa_srt {g : Nat → Nat} : ∀ l : List (List Nat), ∃ xs : List (List Nat), xs.Pairwise (fun p q => bf_b g p q = true) ∧ ∀ q, q ∈ xs ↔ q ∈ l := by
  intro l
  induction l with
  | nil => exact ⟨[], List.Pairwise.nil, fun q => Iff.rfl⟩
  | cons p l ih =>
    obtain ⟨xs, h1, h2⟩ := ih
    obtain ⟨ys, h3, h4⟩ := sa_ins p xs h1
    exact ⟨ys, h3, fun q => by rw [h4, h2, List.mem_cons]⟩
theorem sa_fil (l : List (List Nat)) (Q : List Nat → Prop) : ∃ l2 : List (List Nat), ∀ q, q ∈ l2 ↔ q ∈ l ∧ Q q := by
  induction l with
  | nil => exact ⟨[], fun q => by simp⟩
  | cons p l ih =>
    obtain ⟨l2, h⟩ := ih
    by_cases hp : Q p
    · refine ⟨p :: l2, fun q => ?_⟩
      rw [List.mem_cons, h, List.mem_cons]
      constructor
      · rintro (e | h2)
        · exact ⟨Or.inl e, e ▸ hp⟩
        · exact ⟨Or.inr h2.1, h2.2⟩
      · rintro ⟨e | h2, h3⟩
        · exact Or.inl e
        · exact Or.inr ⟨h2, h3⟩
    · refine ⟨l2, fun q => ?_⟩
      rw [h, List.mem_cons]
      constructor
      · exact fun h2 => ⟨Or.inr h2.1, h2.2⟩
      · rintro ⟨e | h2, h3⟩
        · exact absurd (e ▸ h3) hp
        · exact ⟨h2, h3⟩
theorem sa_ex (g : Nat → Nat) (v1 v2 : Int32) : ∃ xs, sa_is g v1 v2 xs := by
  by_cases hp : ∃ s t, v1 = nI s ∧ v2 = nI t ∧ s < 6 ∧ t < 6
  · obtain ⟨s, t, rfl, rfl, hs, ht⟩ := hp
    obtain ⟨l2, h2⟩ := sa_fil (al_c s t) (wy_is g s t)
    obtain ⟨xs, h3, h4⟩ := sa_srt (g := g) l2
    refine ⟨xs, h3, fun p => ?_⟩
    rw [h4, h2, sa_pair hs ht]
    exact ⟨fun h => h.2, fun h => ⟨al_all h, h⟩⟩
  · refine ⟨[], List.Pairwise.nil, fun p => ⟨fun h => (by cases h), ?_⟩⟩
    rintro ⟨s, t, e1, e2, h⟩
    exact absurd ⟨s, t, e1, e2, h.1, h.2.1⟩ hp
theorem sa_65 {g : Nat → Nat} {v1 v2 : Int32} {xs : List (List Nat)} (h : sa_is g v1 v2 xs) : xs.length ≤ 65 := by
  cases xs with
  | nil => exact Nat.zero_le _
  | cons p l =>
    obtain ⟨s, t, e1, e2, hw⟩ := (h.2 p).mp List.mem_cons_self
    refine al_65 (g := g) ⟨hw.1, hw.2.1, hw.2.2.1⟩ (sa_nd h) (fun q hq => ?_)
    have h2 := (h.2 q).mp hq
    rw [e1, e2] at h2
    exact (sa_pair hw.1 hw.2.1).mp h2
theorem sa_no {g : Nat → Nat} {v1 v2 : Int32} {xs : List (List Nat)} (h : sa_is g v1 v2 xs) (hn : ∀ s t, v1 = nI s → v2 = nI t → s < 6 → t < 6 → s ≠ t → False) : xs = [] := by
  cases xs with
  | nil => rfl
  | cons p l =>
    obtain ⟨s, t, e1, e2, hw⟩ := (h.2 p).mp List.mem_cons_self
    exact (hn s t e1 e2 hw.1 hw.2.1 hw.2.2.1).elim
/-- how many come before the way with number k: k -/
theorem sa_cnt {g : Nat → Nat} : ∀ (xs : List (List Nat)) (k : Nat) (p : List Nat), xs.Pairwise (fun p q => bf_b g p q = true) → xs[k]? = some p → xs.countP (fun q => bf_b g q p) = k := by
  intro xs
  induction xs with
  | nil => intro k p _ h; simp at h
  | cons x xs ih =>
    intro k p hs h
    have hs2 := List.pairwise_cons.mp hs
    cases k with
    | zero =>
      have e : x = p := by simpa using h
      rw [← e, List.countP_cons, if_neg (bf_irr x), List.countP_eq_zero.mpr]
      intro q hq
      exact bf_as (hs2.1 q hq)
    | succ k =>
      have h2 : xs[k]? = some p := by simpa using h
      have hb := hs2.1 p (List.mem_of_getElem? h2)
      rw [List.countP_cons, if_pos hb, ih k p hs2.2 h2]
theorem sa_per {g : Nat → Nat} {v1 v2 : Int32} {xs ys : List (List Nat)} (h : sa_is g v1 v2 xs) (hn : ys.Nodup) (hm : ∀ p, p ∈ ys ↔ sa_wy g v1 v2 p) : ys.Perm xs := (List.perm_ext_iff_of_nodup hn (sa_nd h)).mpr (fun p => (hm p).trans (h.2 p).symm)
theorem sa_inj {g : Nat → Nat} {v1 v2 : Int32} {xs : List (List Nat)} (h : sa_is g v1 v2 xs) {k l : Nat} {p : List Nat} (hk : xs[k]? = some p) (hl : xs[l]? = some p) : k = l := by
  rw [← sa_cnt xs k p h.1 hk, ← sa_cnt xs l p h.1 hl]
/-- the way with the rank v -/
def sa_at (xs : List (List Nat)) (v : Int32) : Option (List Nat) := if v < 0 then none else xs[v.toNatClampNeg]?
theorem sa_atn {xs : List (List Nat)} {v : Int32} (h : v < 0) : sa_at xs v = none := if_pos h
theorem sa_atk {xs : List (List Nat)} {k : Nat} (h : k < 2 ^ 31) : sa_at xs (nI k) = xs[k]? := by
  unfold sa_at
  rw [if_neg (nI_pos h), nI_clamp h]
theorem sa_atm {xs : List (List Nat)} {v : Int32} {p : List Nat} (h : sa_at xs v = some p) : ∃ k, k < 2 ^ 31 ∧ v = nI k ∧ xs[k]? = some p := by
  by_cases hv : v < 0
  · rw [sa_atn hv] at h; cases h
  · obtain ⟨k, hk, e⟩ := nI_of hv
    rw [e, sa_atk hk] at h
    exact ⟨k, hk, e, h⟩
theorem sa_pre {g : Nat → Nat} {s t : Nat} {p q : List Nat} (hp : wy_is g s t p) (hq : wy_is g s t q) (a : List Nat) (h : q = p ++ a) : a = [] := by
  subst h
  exact wy_pre hp hq
/-! codes of ways -/
def en_c : Nat → List Nat → Nat
  | 0, _ => 0
  | n + 1, [] => 6 + 7 * en_c n []
  | n + 1, v :: m => v + 7 * en_c n m
theorem en_lt : ∀ (n : Nat) (m : List Nat), (∀ x, x ∈ m → x < 6) → en_c n m < 7 ^ n := by
  intro n
  induction n with
  | zero => intro m _; exact Nat.zero_lt_one
  | succ n ih =>
    intro m h
    rw [Nat.pow_succ]
    cases m with
    | nil =>
      have := ih [] h
      show 6 + 7 * en_c n [] < _
      omega
    | cons v m =>
      have := ih m (fun x hx => h x (List.mem_cons_of_mem _ hx))
      have h2 := h v List.mem_cons_self
      show v + 7 * en_c n m < _
      omega
theorem en_inj : ∀ (n : Nat) (m m' : List Nat), m.length ≤ n → m'.length ≤ n → (∀ x, x ∈ m → x < 6) → (∀ x, x ∈ m' → x < 6) → en_c n m = en_c n m' → m = m' := by
  intro n
  induction n with
  | zero =>
    intro m m' h h' _ _ _
    rw [List.length_eq_zero_iff.mp (show m.length = 0 by omega), List.length_eq_zero_iff.mp (show m'.length = 0 by omega)]
  | succ n ih =>
    intro m m' hl hl' h h' e
    cases m with
    | nil =>
      cases m' with
      | nil => rfl
      | cons v' m' =>
        have h2 := h' v' List.mem_cons_self
        have e2 : 6 + 7 * en_c n [] = v' + 7 * en_c n m' := e
        omega
    | cons v m =>
      have h1 := h v List.mem_cons_self
      cases m' with
      | nil =>
        have e2 : v + 7 * en_c n m = 6 + 7 * en_c n [] := e
        omega
      | cons v' m' =>
        have h2 := h' v' List.mem_cons_self
        have e2 : v + 7 * en_c n m = v' + 7 * en_c n m' := e
        have e3 : v = v' := by omega
        have e4 : en_c n m = en_c n m' := by omega
        rw [List.length_cons] at hl hl'
        rw [e3, ih m m' (by omega) (by omega) (fun x hx => h x (List.mem_cons_of_mem _ hx)) (fun x hx => h' x (List.mem_cons_of_mem _ hx)) e4]
def en_p (p : List Nat) : Nat := en_c 4 p.tail.dropLast
theorem en_pm {s t : Nat} {m : List Nat} : en_p (s :: (m ++ [t])) = en_c 4 m := by
  show en_c 4 ((m ++ [t]).dropLast) = _
  rw [List.dropLast_concat]
theorem en_pfacts {g : Nat → Nat} {s t : Nat} {m : List Nat} (h : wy_is g s t (s :: (m ++ [t]))) : m.length ≤ 4 ∧ ∀ x, x ∈ m → x < 6 := by
  have h6 := wy_six h
  have hl := wy_lt h
  refine ⟨by simp at h6; omega, fun x hx => hl x (by simp [hx])⟩
theorem en_pinj {g : Nat → Nat} {s t : Nat} {p q : List Nat} (hp : wy_is g s t p) (hq : wy_is g s t q) (e : en_p p = en_p q) : p = q := by
  obtain ⟨m, rfl⟩ := wy_mid hp
  obtain ⟨m', rfl⟩ := wy_mid hq
  rw [en_pm, en_pm] at e
  have h1 := en_pfacts hp
  have h2 := en_pfacts hq
  rw [en_inj 4 m m' h1.1 h2.1 h1.2 h2.2 e]
theorem en_plt {g : Nat → Nat} {s t : Nat} {p : List Nat} (hp : wy_is g s t p) : en_p p < 2401 := by
  obtain ⟨m, rfl⟩ := wy_mid hp
  rw [en_pm]
  exact en_lt 4 m (en_pfacts hp).2
/-- the ways with codes below c -/
def en_L (g : Nat → Nat) (s t c : Nat) (ys : List (List Nat)) : Prop := ys.Nodup ∧ ∀ p, p ∈ ys ↔ wy_is g s t p ∧ en_p p < c
theorem en_L0 {g : Nat → Nat} {s t : Nat} : en_L g s t 0 [] := ⟨List.nodup_nil, fun p => ⟨fun h => (by cases h), fun h => absurd h.2 (Nat.not_lt_zero _)⟩⟩
theorem en_Ls {g : Nat → Nat} {s t c : Nat} {ys : List (List Nat)} (h : en_L g s t c ys) (hn : ∀ p, wy_is g s t p → en_p p ≠ c) : en_L g s t (c + 1) ys := by
  refine ⟨h.1, fun p => ?_⟩
  rw [h.2]
  constructor
  · exact fun h2 => ⟨h2.1, by omega⟩
  · intro h2
    have := hn p h2.1
    exact ⟨h2.1, by omega⟩
theorem en_La {g : Nat → Nat} {s t c : Nat} {ys : List (List Nat)} {p : List Nat} (h : en_L g s t c ys) (hp : wy_is g s t p) (hc : en_p p = c) : en_L g s t (c + 1) (ys ++ [p]) := by
  constructor
  · refine List.nodup_append.mpr ⟨h.1, by simp, ?_⟩
    intro q hq z hz e
    have e2 : z = p := by simpa using hz
    have := ((h.2 q).mp hq).2
    rw [e, e2] at this
    omega
  · intro q
    rw [List.mem_append, h.2, List.mem_singleton]
    constructor
    · rintro (h2 | h2)
      · exact ⟨h2.1, by omega⟩
      · rw [h2]; exact ⟨hp, by omega⟩
    · intro h2
      rcases Nat.lt_or_ge (en_p q) c with h3 | h3
      · exact Or.inl ⟨h2.1, h3⟩
      · exact Or.inr (en_pinj h2.1 hp (by omega))
theorem en_Lfin {g : Nat → Nat} {s t : Nat} {ys : List (List Nat)} (h : en_L g s t 2401 ys) : ys.Nodup ∧ ∀ p, p ∈ ys ↔ wy_is g s t p :=
  ⟨h.1, fun p => (h.2 p).trans ⟨fun h2 => h2.1, fun h2 => ⟨h2, en_plt h2⟩⟩⟩
theorem en_L65 {g : Nat → Nat} {s t c : Nat} {ys : List (List Nat)} (hp : s < 6 ∧ t < 6 ∧ s ≠ t) (h : en_L g s t c ys) : ys.length ≤ 65 := al_65 hp h.1 (fun p hp2 => ((h.2 p).mp hp2).1)
/-! digits of base 16 -/
def cd_n : List Nat → Nat
  | [] => 0
  | x :: r => x + 16 * cd_n r
theorem cd_app : ∀ p q : List Nat, cd_n (p ++ q) = cd_n p + 16 ^ p.length * cd_n q := by
  intro p
  induction p with
  | nil => intro q; simp [cd_n]
  | cons x p ih =>
    intro q
    show x + 16 * cd_n (p ++ q) = x + 16 * cd_n p + 16 ^ (p.length + 1) * cd_n q
    rw [ih, Nat.pow_succ, Nat.mul_add, Nat.mul_comm (16 ^ p.length) 16, Nat.mul_assoc]
    omega
theorem cd_lt : ∀ p : List Nat, (∀ x, x ∈ p → x < 16) → cd_n p < 16 ^ p.length := by
  intro p
  induction p with
  | nil => intro _; exact Nat.zero_lt_one
  | cons x p ih =>
    intro h
    have h1 := h x List.mem_cons_self
    have h2 := ih (fun y hy => h y (List.mem_cons_of_mem _ hy))
    show x + 16 * cd_n p < 16 ^ (p.length + 1)
    rw [Nat.pow_succ]
    omega
theorem cd_dig : ∀ (p : List Nat) (i x : Nat), (∀ x, x ∈ p → x < 16) → p[i]? = some x → cd_n p / 16 ^ i % 16 = x := by
  intro p
  induction p with
  | nil => intro i x _ h; simp at h
  | cons y p ih =>
    intro i x h hi
    have h1 := h y List.mem_cons_self
    cases i with
    | zero =>
      have e : y = x := by simpa using hi
      show (y + 16 * cd_n p) / 1 % 16 = x
      omega
    | succ i =>
      have e : p[i]? = some x := by simpa using hi
      have := ih i x (fun z hz => h z (List.mem_cons_of_mem _ hz)) e
      show (y + 16 * cd_n p) / 16 ^ (i + 1) % 16 = x
      rw [Nat.pow_succ, Nat.mul_comm (16 ^ i) 16, ← Nat.div_div_eq_div_mul]
      have e2 : (y + 16 * cd_n p) / 16 = cd_n p := by omega
      rw [e2]
      exact this
end
section
/-! numbers -/
theorem ix_6 (a b : Nat) : nI a * 6 + nI b = nI (6 * a + b) := by
  show nI a * nI 6 + nI b = _
  rw [pk_mul, nI_add, Nat.mul_comm]
theorem iy_6 (a b : Nat) : 6 * nI a + nI b = nI (6 * a + b) := by
  show nI 6 * nI a + nI b = _
  rw [pk_mul, nI_add]
theorem ix_in {a b N : Nat} (h : 6 * a + b < N) (hN : N < 2 ^ 31) : vp_in ((nI a * 6) + nI b) N := by
  rw [ix_6]; exact vp_in_nI h hN
theorem iy_in {a b N : Nat} (h : 6 * a + b < N) (hN : N < 2 ^ 31) : vp_in ((6 * nI a) + nI b) N := by
  rw [iy_6]; exact vp_in_nI h hN
theorem ix_cl {a b : Nat} (h : 6 * a + b < 2 ^ 31) : ((nI a * 6) + nI b).toNatClampNeg = 6 * a + b := by
  rw [ix_6]; exact nI_clamp h
theorem iy_cl {a b : Nat} (h : 6 * a + b < 2 ^ 31) : ((6 * nI a) + nI b).toNatClampNeg = 6 * a + b := by
  rw [iy_6]; exact nI_clamp h
theorem ix_L {L : Nat → Int32} {g : Nat → Nat} (hL : ∀ i, L i = nI (g i)) {a b : Nat} (ha : a < 6) (hb : b < 6) : L ((nI a * 6) + nI b).toNatClampNeg = nI (g (6 * a + b)) := by
  rw [ix_cl (by omega)]; exact hL _
theorem iy_L {L : Nat → Int32} {g : Nat → Nat} (hL : ∀ i, L i = nI (g i)) {a b : Nat} (ha : a < 6) (hb : b < 6) : L ((6 * nI a) + nI b).toNatClampNeg = nI (g (6 * a + b)) := by
  rw [iy_cl (by omega)]; exact hL _
theorem sh_1 : ∀ b, b < 6 → (1 : Int32) <<< (nI b &&& 31) = nI (2 ^ b) := by decide +kernel
theorem nx_or (a b : Nat) : nI a ||| nI b = nI (a ||| b) := by
  apply Int32.toBitVec_inj.1
  show BitVec.ofNat 32 a ||| BitVec.ofNat 32 b = BitVec.ofNat 32 (a ||| b)
  apply BitVec.eq_of_getLsbD_eq
  intro i hi
  simp [hi]
theorem tb_6 : ∀ b, b < 6 → ∀ m, m < 64 → (((nI m >>> (nI b &&& 31)) &&& 1) = 0 ↔ m.testBit b = false) := by decide +kernel
theorem nb_1 : ∀ x, x < 128 → (nI x).toInt8.toInt32 = nI x ∧ (nI x).toInt16.toInt32 = nI x := by decide +kernel
theorem nb_b {x : Nat} (h : x < 128) : vp_nar .byte (nI x) = nI x := by rw [vp_nar_byte]; exact (nb_1 x h).1
theorem nb_bb {x : Nat} (h : x < 128) : vp_nar .byte (nI x).toInt8.toInt32 = nI x := by rw [(nb_1 x h).1]; exact nb_b h
theorem nb_ss {x : Nat} (h : x < 128) : vp_nar .short (nI x).toInt16.toInt32 = nI x := by rw [(nb_1 x h).2, vp_nar_short]; exact (nb_1 x h).2
theorem nb_m1 : vp_nar .byte (-1) = -1 := by rw [vp_nar_byte]; decide
theorem nI_m1 (n : Nat) (h : n < 2 ^ 31) : ¬ nI n = -1 := by
  intro e
  have h1 := nI_toInt h
  rw [e] at h1
  have h2 : (-1 : Int32).toInt = -1 := by decide
  omega
/-! places and pairs -/
def pr_no (p0 p1 : Int32) : Prop := ∀ s t, p0 = nI s → p1 = nI t → s < 6 → t < 6 → s ≠ t → False
theorem pl_no {p : Int32} (h : ∀ j, j < 6 → p ≠ nI j) : p < 0 ∨ nI 6 ≤ p := by
  rcases pk_ix p (n := 6) (by omega) with h1 | h1 | ⟨j, hj, e⟩
  · exact Or.inl h1
  · exact Or.inr h1
  · exact absurd e (h j hj)
theorem pl_any {post : Int32 → Prop} {p : Int32} (hy : ∀ s, p = nI s → s < 6 → post 1) (hn : (∀ s, p = nI s → s < 6 → False) → post 0) : wpX_isPlace post p := by
  by_cases hp : ∃ s, s < 6 ∧ p = nI s
  · obtain ⟨s, hs, e⟩ := hp
    subst e
    exact br_f (nI_pos (by omega)) (br_f (nI_ge (b := 6) hs (by decide)) (hy s rfl hs))
  · have h0 := hn (fun s e hs => hp ⟨s, hs, e⟩)
    rcases pl_no (p := p) (fun j hj e => hp ⟨j, hj, e⟩) with h | h
    · exact br_t h h0
    · exact br_c (fun _ => h0) (fun _ => br_t h h0)
theorem ip_any {post : Int32 → Prop} {p0 p1 : Int32} (hy : ∀ s t, p0 = nI s → p1 = nI t → s < 6 → t < 6 → s ≠ t → post 1) (hn : pr_no p0 p1 → post 0) : wpX_isPair post p0 p1 := by
  refine pl_any (fun s es hs => ?_) (fun h => ?_)
  · refine br_f (by decide) (pl_any (fun t et ht => ?_) (fun h => ?_))
    · refine br_f (by decide) (br_c (fun e => hn ?_) (fun e => hy s t es et hs ht ?_))
      · intro s' t' e1 e2 _ _ hne
        rw [e1, e2, nI_eq (by omega) (by omega)] at e
        exact hne e
      · intro e2
        rw [es, et, e2] at e
        exact e rfl
    · exact br_t rfl (hn (fun s' t' _ e2 _ h2 _ => h t' e2 h2))
  · exact br_t rfl (hn (fun s' t' e1 _ h1 _ _ => h s' e1 h1))
theorem in_any {post : Int32 → Prop} {m b : Nat} (hm : m < 64) (hb : b < 6) (ht : m.testBit b = true → post 1) (hf : m.testBit b = false → post 0) : wpX_in post (nI m) (nI b) := by
  cases h : m.testBit b with
  | false => exact br_t ((tb_6 b hb m hm).mpr h) (hf h)
  | true => exact br_f (fun z => by rw [(tb_6 b hb m hm)] at z; rw [h] at z; cases z) (ht h)
theorem yp_any {post : Int32 → Prop} {v : SY} {p0 p1 : Int32} (hy : ∀ s t, p0 = nI s → p1 = nI t → s < 6 → t < 6 → s ≠ t → post 1) (hn : pr_no p0 p1 → post 0) : wpY_pair post v p0 p1 := by
  obtain ⟨c, L, w, u⟩ := v
  show (p0 = p1 → _) ∧ _
  by_cases h0 : ∃ s, s < 6 ∧ p0 = nI s
  · obtain ⟨s, hs, es⟩ := h0
    by_cases h1 : ∃ t, t < 6 ∧ p1 = nI t
    · obtain ⟨t, ht, et⟩ := h1
      by_cases e : s = t
      · refine br_t (by rw [es, et, e]) (hn ?_)
        intro s' t' e1 e2 _ _ hne
        rw [es, nI_eq (by omega) (by omega)] at e1
        rw [et, nI_eq (by omega) (by omega)] at e2
        omega
      · refine br_f (by rw [es, et, nI_eq (by omega) (by omega)]; exact e) (br_f (by rw [es]; exact nI_pos (by omega)) (br_f (by rw [es]; exact nI_nlt (a := 5) (b := s) (by omega) (by omega)) (br_f (by rw [et]; exact nI_pos (by omega)) (br_f (by rw [et]; exact nI_nlt (a := 5) (b := t) (by omega) (by omega)) (hy s t es et hs ht e)))))
    · have h := hn (fun s' t' _ e2 _ h2 _ => h1 ⟨t', h2, e2⟩)
      refine br_c (fun _ => h) (fun _ => br_c (fun _ => h) (fun _ => br_c (fun _ => h) (fun _ => br_c (fun _ => h) (fun h3 => br_t ?_ h))))
      rcases pl_no (p := p1) (fun j hj e => h1 ⟨j, hj, e⟩) with h4 | h4
      · exact absurd h4 h3
      · exact Int32.lt_of_lt_of_le (show (5 : Int32) < nI 6 by decide) h4
  · have h := hn (fun s' t' e1 _ h2 _ _ => h0 ⟨s', h2, e1⟩)
    refine br_c (fun _ => h) (fun _ => br_c (fun _ => h) (fun h3 => br_t ?_ h))
    rcases pl_no (p := p0) (fun j hj e => h0 ⟨j, hj, e⟩) with h4 | h4
    · exact absurd h4 h3
    · exact Int32.lt_of_lt_of_le (show (5 : Int32) < nI 6 by decide) h4
end
section
/-! X: measure and bestNext -/
def di_is (di : Nat → Int32) (d : Nat → Nat) : Prop := ∀ v, v < 6 → di v = nI (d v)
theorem di_up {di : Nat → Int32} {d : Nat → Nat} {a x : Nat} (h : di_is di d) : di_is (upd di a (nI x)) (na_up d a x) := by
  intro v hv
  by_cases e : v = a
  · rw [e, pk_us, na_s]
  · rw [pk_un e, na_n e]; exact h v hv
theorem di_at {di : Nat → Int32} {d : Nat → Nat} {a : Nat} (h : di_is di d) (ha : a < 6) : di (nI a).toNatClampNeg = nI (d a) := by
  rw [nI_clamp (by omega)]; exact h a ha
theorem di_val {di aL : Nat → Int32} {g d : Nat → Nat} {a b : Nat} (h : di_is di d) (hL : ∀ i, aL i = nI (g i)) (ha : a < 6) (hb : b < 6) : di (nI b).toNatClampNeg + aL ((nI a * 6) + nI b).toNatClampNeg = nI (d b + g (6 * a + b)) := by
  rw [di_at h hb, ix_L hL ha hb, nI_add]
def me_I (g : Nat → Nat) (o t : Nat) (d : Nat → Nat) (k a : Nat) : Prop := ds_ok g o t d ∧ (∀ v, v < 6 → ds_k g o t d k v) ∧ (∀ v, v < a → ds_k g o t d (k + 1) v)
section
variable {fk ff ft fw fc : Int32} {aL pl sz wl pt bd ro rj di : Nat → Int32} {g : Nat → Nat} {o t : Nat} {post : SX → Prop}
theorem me_98 {J33 J42 J52 : Int32 → (Nat → Int32) → (Nat → Int32) → (Nat → Int32) → (Nat → Int32) → (Nat → Int32) → (Nat → Int32) → (Nat → Int32) → (Nat → Int32) → (Nat → Int32) → Prop} {x2 x3 : Int32} {d : Nat → Nat} {a b : Nat} (hg : ∀ i, g i ≤ 20) (hL : ∀ i, aL i = nI (g i)) (hd : di_is di d) (hf : ∀ v, v < 6 → d v ≤ 1048576) (ha : a < 6) (hb : b < 6)
    (h1 : d a ≤ d b + g (6 * a + b) → J52 (nI (b + 1)) aL pl sz wl pt bd ro rj di)
    (h2 : d b + g (6 * a + b) < d a → J52 (nI (b + 1)) aL pl sz wl pt bd ro rj (upd di a (nI (d b + g (6 * a + b))))) :
    wX_measure_98 post J33 J42 J52 x2 x3 (nI a) (nI b) 1 fk ff ft fw fc aL pl sz wl pt bd ro rj di := by
  have i1 : vp_in (nI b) 6 := vp_in_nI hb (by decide)
  have i2 : vp_in ((nI a * 6) + nI b) 36 := ix_in (by omega) (by decide)
  have i3 : vp_in (nI a) 6 := vp_in_nI ha (by decide)
  have e2 := di_at hd ha
  have e4 := di_val hd hL ha hb
  have f1 := hf a ha
  have f2 := hf b hb
  have f3 := hg (6 * a + b)
  refine br_f (by decide) ⟨i1, i2, i3, pk_le (d a) (d b + g (6 * a + b)) (fun h => nm_r (nI_1 b) (h1 h)) (fun h => ⟨i1, i2, i3, ?_⟩) e2 e4 (by omega) (by omega)⟩
  exact nm_r (e' := upd di a (nI (d b + g (6 * a + b)))) (by rw [e4, nI_clamp (by omega)]) (nm_r (nI_1 b) (h2 h))
theorem me_52 {J33 J42 : Int32 → (Nat → Int32) → (Nat → Int32) → (Nat → Int32) → (Nat → Int32) → (Nat → Int32) → (Nat → Int32) → (Nat → Int32) → (Nat → Int32) → (Nat → Int32) → Prop} {x3 : Int32} {k a : Nat} (hg : ∀ i, g i ≤ 20) (hL : ∀ i, aL i = nI (g i)) (ho : o < 64) (ha : a < 6)
    (hJ : ∀ di d, di_is di d → me_I g o t d k (a + 1) → J42 (nI (a + 1)) aL pl sz wl pt bd ro rj di) :
    ∀ n b di d, b ≤ 6 → 6 - b < n → di_is di d → me_I g o t d k a → ds_e g o t d k a b → wX_measure_52 post J33 J42 (nI o) x3 (nI a) fk ff ft fw fc n (nI b) aL pl sz wl pt bd ro rj di := by
  intro n
  induction n with
  | zero => intro b di d _ h; omega
  | succ n ih =>
    intro b di d hb6 hn hd hI he
    rcases Nat.lt_or_ge b 6 with hb | hb
    · have skip : ¬ (0 < g (6 * a + b) ∧ o.testBit a = false ∧ o.testBit b = false) → wX_measure_98 post J33 J42 (wX_measure_52 post J33 J42 (nI o) x3 (nI a) fk ff ft fw fc n) (nI o) x3 (nI a) (nI b) 0 fk ff ft fw fc aL pl sz wl pt bd ro rj di := fun hs => br_t rfl (nm_r (nI_1 b) (ih (b + 1) di d (by omega) (by omega) hd hI (ds_eskip he hs)))
      have f3 := hg (6 * a + b)
      refine br_f (nI_ge (b := 6) hb (by decide)) ⟨ix_in (by omega) (by decide), pk_le (g (6 * a + b)) 0 (fun h => skip (fun h2 => by omega)) (fun h => ?_) (ix_L hL ha hb) rfl (by omega) (by decide)⟩
      refine in_any ho ha (fun h1 => br_f (by decide) (skip (fun h2 => by rw [h1] at h2; cases h2.2.1))) (fun h1 => br_t rfl (in_any ho hb (fun h2 => br_f (by decide) (skip (fun h3 => by rw [h2] at h3; cases h3.2.2))) (fun h2 => br_t rfl ?_)))
      refine me_98 hg hL hd hI.1.2.1 ha hb (fun h3 => ih (b + 1) di d (by omega) (by omega) hd hI (ds_ekeep (hI.2.1 b hb) he h3)) (fun h3 => ?_)
      have hm := ds_up h3
      exact ih (b + 1) _ _ (by omega) (by omega) (di_up hd) ⟨ds_step hI.1 ha hb h h2 h3, fun v hv => ds_mono (hI.2.1 v hv) (hm v), fun v hv => ds_mono (hI.2.2 v hv) (hm v)⟩ (ds_eput (hI.2.1 b hb) he h3)
    · have e : b = 6 := by omega
      subst e
      refine br_t (nI_le (by omega) (by decide)) (nm_r (nI_1 a) (hJ di d hd ⟨hI.1, hI.2.1, fun v hv => ?_⟩))
      rcases Nat.lt_or_ge v a with h | h
      · exact hI.2.2 v h
      · have e2 : v = a := by omega
        subst e2
        exact ds_row hI.1.1 he
theorem me_42 {J33 : Int32 → (Nat → Int32) → (Nat → Int32) → (Nat → Int32) → (Nat → Int32) → (Nat → Int32) → (Nat → Int32) → (Nat → Int32) → (Nat → Int32) → (Nat → Int32) → Prop} {k : Nat} (hg : ∀ i, g i ≤ 20) (hL : ∀ i, aL i = nI (g i)) (ho : o < 64)
    (hJ : ∀ di d, di_is di d → ds_ok g o t d → (∀ v, v < 6 → ds_k g o t d (k + 1) v) → J33 (nI (k + 1)) aL pl sz wl pt bd ro rj di) :
    ∀ n a di d, a ≤ 6 → 6 - a < n → di_is di d → me_I g o t d k a → wX_measure_42 post J33 (nI o) (nI k) fk ff ft fw fc n (nI a) aL pl sz wl pt bd ro rj di := by
  intro n
  induction n with
  | zero => intro a di d _ h; omega
  | succ n ih =>
    intro a di d ha6 hn hd hI
    rcases Nat.lt_or_ge a 6 with ha | ha
    · exact br_f (nI_ge (b := 6) ha (by decide)) ⟨7, me_52 hg hL ho ha (fun di d hd hI => ih (a + 1) di d (by omega) (by omega) hd hI) 7 0 di d (by omega) (by omega) hd hI ds_e0⟩
    · have e : a = 6 := by omega
      subst e
      exact br_t (nI_le (by omega) (by decide)) (nm_r (nI_1 k) (hJ di d hd hI.1 hI.2.2))
theorem me_33 (hg : ∀ i, g i ≤ 20) (hL : ∀ i, aL i = nI (g i)) (ho : o < 64)
    (hP : ∀ di d, di_is di d → ds_all g o t d → post (fk, ff, ft, fw, fc, aL, pl, sz, wl, pt, bd, ro, rj, di)) :
    ∀ n k di d, k ≤ 6 → 6 - k < n → di_is di d → ds_ok g o t d → (∀ v, v < 6 → ds_k g o t d k v) → wX_measure_33 post (nI o) fk ff ft fw fc n (nI k) aL pl sz wl pt bd ro rj di := by
  intro n
  induction n with
  | zero => intro k di d _ h; omega
  | succ n ih =>
    intro k di d hk6 hn hd hI hk
    rcases Nat.lt_or_ge k 6 with h | h
    · exact br_f (nI_ge (b := 6) h (by decide)) ⟨7, me_42 hg hL ho (fun di d hd hI hk => ih (k + 1) di d (by omega) (by omega) hd hI hk) 7 0 di d (by omega) (by omega) hd ⟨hI, hk, fun v hv => absurd hv (Nat.not_lt_zero v)⟩⟩
    · have e : k = 6 := by omega
      subst e
      exact br_t (nI_le (by omega) (by decide)) (hP di d hd (ds_fin hg hI hk))
theorem me_2 (hg : ∀ i, g i ≤ 20) (hL : ∀ i, aL i = nI (g i)) (ho : o < 64) (ht : t < 6)
    (hP : ∀ di d, di_is di d → ds_all g o t d → post (fk, ff, ft, fw, fc, aL, pl, sz, wl, pt, bd, ro, rj, di)) :
    ∀ n v di, v ≤ 6 → 6 - v < n → (∀ w, w < v → di w = nI (if w = t then 0 else 1048576)) → wX_measure_2 post (nI t) (nI o) fk ff ft fw fc n (nI v) aL pl sz wl pt bd ro rj di := by
  intro n
  induction n with
  | zero => intro v di _ h; omega
  | succ n ih =>
    intro v di hv6 hn hd
    rcases Nat.lt_or_ge v 6 with h | h
    · have i1 : vp_in (nI v) 6 := vp_in_nI h (by decide)
      refine br_f (nI_ge (b := 6) h (by decide)) (pk_eq v t (fun e => ⟨i1, ?_⟩) (fun e => ⟨i1, ?_⟩))
      · refine nm_r (e' := upd di v (nI 0)) (by rw [nI_clamp (by omega)]; rfl) (nm_r (nI_1 v) (ih (v + 1) _ (by omega) (by omega) (fun w hw => ?_)))
        by_cases ew : w = v
        · rw [ew, pk_us, if_pos e]
        · rw [pk_un ew]; exact hd w (by omega)
      · refine nm_r (e' := upd di v (nI 1048576)) (by rw [nI_clamp (by omega)]; rfl) (nm_r (nI_1 v) (ih (v + 1) _ (by omega) (by omega) (fun w hw => ?_)))
        by_cases ew : w = v
        · rw [ew, pk_us, if_neg e]
        · rw [pk_un ew]; exact hd w (by omega)
    · have e : v = 6 := by omega
      subst e
      have h0 := ds_init (g := g) (o := o) (t := t) (d := fun w => if w = t then 0 else 1048576) (fun w _ => rfl) ht
      exact br_t (nI_le (by omega) (by decide)) ⟨7, me_33 hg hL ho hP 7 0 di _ (by omega) (by omega) (fun w hw => hd w hw) h0.1 h0.2⟩
theorem me_all (hg : ∀ i, g i ≤ 20) (hL : ∀ i, aL i = nI (g i)) (ho : o < 64) (ht : t < 6)
    (hP : ∀ di d, di_is di d → ds_all g o t d → post (fk, ff, ft, fw, fc, aL, pl, sz, wl, pt, bd, ro, rj, di)) : wpX_measure post (fk, ff, ft, fw, fc, aL, pl, sz, wl, pt, bd, ro, rj, di) (nI t) (nI o) :=
  ⟨7, me_2 hg hL ho ht hP 7 0 di (by omega) (by omega) (fun w hw => absurd hw (Nat.not_lt_zero w))⟩
end
section
variable {fk ff ft fw fc : Int32} {aL pl sz wl pt bd ro rj di : Nat → Int32} {g d : Nat → Nat} {a m : Nat} {post : Int32 → Prop}
theorem bn_57 {J9 : Int32 → Int32 → Int32 → Prop} {x2 x3 : Int32} {b q : Nat} (hg : ∀ i, g i ≤ 20) (hL : ∀ i, aL i = nI (g i)) (hd : di_is di d) (hf : d b ≤ 1048576) (ha : a < 6) (hb : b < 6) (hq : q < 2 ^ 31)
    (h1 : q ≤ d b + g (6 * a + b) → J9 x3 (nI q) (nI (b + 1)))
    (h2 : d b + g (6 * a + b) < q → J9 (nI b) (nI (d b + g (6 * a + b))) (nI (b + 1))) :
    wX_bestNext_57 post J9 (nI a) x2 x3 (nI q) (nI b) 1 fk ff ft fw fc aL pl sz wl pt bd ro rj di := by
  have i1 : vp_in (nI b) 6 := vp_in_nI hb (by decide)
  have i2 : vp_in ((nI a * 6) + nI b) 36 := ix_in (by omega) (by decide)
  have e4 := di_val hd hL ha hb
  have f3 := hg (6 * a + b)
  refine br_f (by decide) ⟨i1, i2, pk_le q (d b + g (6 * a + b)) (fun h => nm_r (nI_1 b) (h1 h)) (fun h => ⟨i1, i2, ?_⟩) rfl e4 hq (by omega)⟩
  exact nm_r e4 (nm_r (nI_1 b) (h2 h))
theorem bn_9 (hg : ∀ i, g i ≤ 20) (hL : ∀ i, aL i = nI (g i)) (hd : di_is di d) (hf : ∀ v, v < 6 → d v ≤ 1048576) (ha : a < 6) (hm : m < 64) (hv : ∀ c, bn_op g d m a c → d c + g (6 * a + c) < 1048576)
    (h1 : ∀ b, bn_is g d m a b → post (nI b)) (h2 : (∀ b, b < 6 → ¬ bn_op g d m a b) → post (-1)) :
    ∀ n b x3 q, b ≤ 6 → 6 - b < n → ((x3 = -1 ∧ q = 1048576 ∧ ∀ c, c < b → ¬ bn_op g d m a c) ∨ (∃ y, x3 = nI y ∧ q = d y + g (6 * a + y) ∧ bn_to g d m a b y)) → wX_bestNext_9 post (nI a) (nI m) fk ff ft fw fc aL pl sz wl pt bd ro rj di n x3 (nI q) (nI b) := by
  intro n
  induction n with
  | zero => intro b x3 q _ h; omega
  | succ n ih =>
    intro b x3 q hb6 hn hI
    rcases Nat.lt_or_ge b 6 with hb | hb
    · have skip : ¬ bn_op g d m a b → wX_bestNext_57 post (wX_bestNext_9 post (nI a) (nI m) fk ff ft fw fc aL pl sz wl pt bd ro rj di n) (nI a) (nI m) x3 (nI q) (nI b) 0 fk ff ft fw fc aL pl sz wl pt bd ro rj di := by
        intro hs
        refine br_t rfl (nm_r (nI_1 b) (ih (b + 1) x3 q (by omega) (by omega) ?_))
        rcases hI with ⟨e1, e2, h⟩ | ⟨y, e1, e2, h⟩
        · exact Or.inl ⟨e1, e2, bn_none h hs⟩
        · exact Or.inr ⟨y, e1, e2, bn_keep h (fun h3 => absurd h3 hs)⟩
      have f3 := hg (6 * a + b)
      have f4 := hf b hb
      have hq : q < 2 ^ 31 := by
        rcases hI with ⟨_, e2, _⟩ | ⟨y, _, e2, h⟩
        · omega
        · have := hv y h.2.1
          omega
      refine br_f (nI_ge (b := 6) hb (by decide)) ⟨ix_in (by omega) (by decide), pk_le (g (6 * a + b)) 0 (fun h => skip (fun h3 => by have := h3.2.1; omega)) (fun h => ?_) (ix_L hL ha hb) rfl (by omega) (by decide)⟩
      refine in_any hm hb (fun h3 => br_f (by decide) (skip (fun h4 => by have h5 := h4.2.2.1; rw [h3] at h5; cases h5))) (fun h3 => br_t rfl ⟨vp_in_nI hb (by decide), pk_le 1048576 (d b) (fun h4 => skip (fun h5 => by have := h5.2.2.2; omega)) (fun h4 => ?_) rfl (di_at hd hb) (by decide) (by omega)⟩)
      have hop : bn_op g d m a b := ⟨hb, h, h3, h4⟩
      refine bn_57 hg hL hd f4 ha hb hq (fun h5 => ih (b + 1) x3 q (by omega) (by omega) ?_) (fun h5 => ih (b + 1) (nI b) _ (by omega) (by omega) (Or.inr ⟨b, rfl, rfl, ?_⟩))
      · rcases hI with ⟨e1, e2, h6⟩ | ⟨y, e1, e2, h6⟩
        · have := hv b hop
          omega
        · exact Or.inr ⟨y, e1, e2, bn_keep h6 (fun _ => by omega)⟩
      · rcases hI with ⟨e1, e2, h6⟩ | ⟨y, e1, e2, h6⟩
        · exact bn_first h6 hop
        · exact bn_new h6 hop (by omega)
    · have e : b = 6 := by omega
      subst e
      refine br_t (nI_le (by omega) (by decide)) ?_
      rcases hI with ⟨e1, e2, h⟩ | ⟨y, e1, e2, h⟩
      · rw [e1]; exact h2 h
      · rw [e1]; exact h1 y h
theorem bn_all (hg : ∀ i, g i ≤ 20) (hL : ∀ i, aL i = nI (g i)) (hd : di_is di d) (hf : ∀ v, v < 6 → d v ≤ 1048576) (ha : a < 6) (hm : m < 64) (hv : ∀ c, bn_op g d m a c → d c + g (6 * a + c) < 1048576)
    (h1 : ∀ b, bn_is g d m a b → post (nI b)) (h2 : (∀ b, b < 6 → ¬ bn_op g d m a b) → post (-1)) : wpX_bestNext post (fk, ff, ft, fw, fc, aL, pl, sz, wl, pt, bd, ro, rj, di) (nI a) (nI m) :=
  ⟨7, bn_9 hg hL hd hf ha hm hv h1 h2 7 0 (-1) 1048576 (by omega) (by omega) (Or.inl ⟨rfl, rfl, fun c hc => absurd hc (Nat.not_lt_zero c)⟩)⟩
end
end
section
/-! X: addCandidate -/
theorem bn_uni {g d : Nat → Nat} {m a b c : Nat} (h : bn_is g d m a b) (h' : bn_is g d m a c) : b = c := by
  have h1 := h.2.2 c h'.1 h'.2.1
  have h2 := h'.2.2 b h.1 h.2.1
  omega
theorem ds_100 {g d : Nat → Nat} {o t v : Nat} (h : ds_all g o t d) (hv : v < 6) (ho : o.testBit v = false) (hf : d v < 1048576) : d v ≤ 100 := by
  obtain ⟨r, hr, _⟩ := h.1.2.2 v hv hf
  exact (h.2 v hv ho r hr).2
theorem gl_at : ∀ (a : List Nat) (s : Nat), (s :: a)[a.length]? = some (a.getLastD s) := by
  intro a
  induction a with
  | nil => intro s; rfl
  | cons x a ih =>
    intro s
    rw [List.getLastD_cons, ← ih x]
    rfl
theorem gl_mem (a : List Nat) (s : Nat) : a.getLastD s ∈ s :: a := List.mem_of_getElem? (gl_at a s)
section
variable {fk ff ft fw fc : Int32} {aL pl sz wl pt bd ro rj di : Nat → Int32} {g d : Nat → Nat} {o t c i bars : Nat} {post : SX → Prop}
theorem ad_275 {sum n : Nat} (hc : c < 66) (hi : i < 6) (hb : bars < 64) (hs : sum < 128) (hn : n < 128)
    (h : post (fk, ff, ft, nI (c + 1), fc, aL, pl, upd sz c (nI n), upd wl c (nI sum), upd pt c (nI i), upd bd c (nI bars), upd ro c (-1), rj, di)) :
    wX_addCandidate_275 post (nI i) (nI bars) (nI c) (nI sum) (nI n) fk ff ft (nI c) fc aL pl sz wl pt bd ro rj di := by
  have i1 : vp_in (nI c) 66 := vp_in_nI hc (by decide)
  have e1 : (nI c).toNatClampNeg = c := nI_clamp (by omega)
  refine ⟨i1, nm_r (e' := upd sz c (nI n)) (by rw [e1, nb_bb hn]) ⟨i1, nm_r (e' := upd wl c (nI sum)) (by rw [e1, nb_ss hs]) ⟨i1, nm_r (e' := upd pt c (nI i)) (by rw [e1, nb_bb (by omega)]) ⟨i1, nm_r (e' := upd bd c (nI bars)) (by rw [e1, nb_bb (by omega)]) ⟨i1, nm_r (e' := upd ro c (-1)) (by rw [e1, nb_m1]) (nm_r (nI_1 c) h)⟩⟩⟩⟩⟩
theorem ad_193 (hg : ∀ i, g i ≤ 20) (hL : ∀ i, aL i = nI (g i)) (hd : di_is di d) (hda : ds_all g o t d) (ho : o < 64) (ht : t < 6) (hc : c < 66) (hi : i < 6) (hb : bars < 64) :
    ∀ r n a b sum k step pl, r.length + 1 < n → a < 6 → b < 6 → gy_is g d o t b r → k + 1 + r.length ≤ 6 → step + 1 + r.length ≤ 6 → sum + (g (6 * a + b) + gr_ln g b r) ≤ 100 →
    (∀ pl', (∀ j, j < 6 * c + k → pl' j = pl j) → (∀ j x, (b :: r)[j]? = some x → pl' (6 * c + k + j) = nI x) → post (fk, ff, nI t, nI (c + 1), fc, aL, pl', upd sz c (nI (k + 1 + r.length)), upd wl c (nI (sum + (g (6 * a + b) + gr_ln g b r))), upd pt c (nI i), upd bd c (nI bars), upd ro c (-1), rj, di)) →
    wX_addCandidate_193 post (nI i) (nI bars) (nI o) (nI c) fk ff (nI t) (nI c) fc n (nI a) (nI b) (nI sum) (nI k) (nI step) aL pl sz wl pt bd ro rj di := by
  intro r
  induction r with
  | nil =>
    intro n a b sum k step pl hn ha hb6 hgy hk hst hsum hP
    rw [List.length_nil] at hn hk hst
    obtain ⟨n, rfl⟩ : ∃ n', n = n' + 1 + 1 := ⟨n - 2, by omega⟩
    have ebt : b = t := hgy
    refine br_f (nI_ge (b := 6) (by omega) (by decide)) (br_f (nI_pos (by omega)) ⟨ix_in (by omega) (by decide), nm_r (e' := nI (sum + g (6 * a + b))) (by rw [ix_L hL ha hb6, nI_add]) ⟨ix_in (by omega) (by decide), nm_r (e' := upd pl (6 * c + k) (nI b)) (by rw [ix_cl (by omega), nb_bb (by omega)]) (nm_r (nI_1 k) (pk_eq b t (fun _ => nm_r (nI_1 step) ?_) (fun h => absurd ebt h)))⟩⟩)
    have H : wX_addCandidate_275 post (nI i) (nI bars) (nI c) (nI (sum + g (6 * a + b))) (nI (k + 1)) fk ff (nI t) (nI c) fc aL (upd pl (6 * c + k) (nI b)) sz wl pt bd ro rj di := by
      have hln : gr_ln g b [] = 0 := rfl
      refine ad_275 hc hi hb (by omega) (by omega) ?_
      refine hP (upd pl (6 * c + k) (nI b)) (fun j hj => pk_un (by omega)) (fun j x hx => ?_)
      cases j with
      | zero =>
        have e : b = x := by simpa using hx
        rw [Nat.add_zero, pk_us, e]
      | succ j => simp at hx
    exact br_c (fun _ => H) (fun _ => br_t (by decide) H)
  | cons y r ih =>
    intro n a b sum k step pl hn ha hb6 hgy hk hst hsum hP
    rw [List.length_cons] at hn hk hst
    obtain ⟨n, rfl⟩ : ∃ n', n = n' + 1 := ⟨n - 1, by omega⟩
    obtain ⟨hbt, hbn, hgy2⟩ := hgy
    have hln : gr_ln g b (y :: r) = g (6 * b + y) + gr_ln g y r := rfl
    refine br_f (nI_ge (b := 6) (by omega) (by decide)) (br_f (nI_pos (by omega)) ⟨ix_in (by omega) (by decide), nm_r (e' := nI (sum + g (6 * a + b))) (by rw [ix_L hL ha hb6, nI_add]) ⟨ix_in (by omega) (by decide), nm_r (e' := upd pl (6 * c + k) (nI b)) (by rw [ix_cl (by omega), nb_bb (by omega)]) (nm_r (nI_1 k) (pk_eq b t (fun h => absurd h hbt) (fun _ => ?_)))⟩⟩)
    refine bn_all hg hL hd hda.1.2.1 hb6 ho (fun z hz => ?_) (fun z hz => ?_) (fun h => absurd hbn.2.1 (h y hbn.1))
    · have h1 := ds_100 hda hz.1 hz.2.2.1 hz.2.2.2
      have h2 := hg (6 * b + z)
      omega
    · rw [bn_uni hz hbn]
      refine nm_r (nI_1 step) (ih n b y (sum + g (6 * a + b)) (k + 1) (step + 1) (upd pl (6 * c + k) (nI b)) (by omega) hb6 hbn.1 hgy2 (by omega) (by omega) (by omega) (fun pl' h1 h2 => ?_))
      have e1 : k + 1 + 1 + r.length = k + 1 + (y :: r).length := by rw [List.length_cons]; omega
      have e2 : sum + g (6 * a + b) + (g (6 * b + y) + gr_ln g y r) = sum + (g (6 * a + b) + gr_ln g b (y :: r)) := by rw [hln]; omega
      rw [e1, e2]
      refine hP pl' (fun j hj => ?_) (fun j x hx => ?_)
      · rw [h1 j (by omega), pk_un (by omega)]
      · cases j with
        | zero =>
          have e : b = x := by simpa using hx
          rw [Nat.add_zero, h1 _ (by omega), pk_us, e]
        | succ j =>
          have e : (y :: r)[j]? = some x := by simpa using hx
          have h3 := h2 j x e
          rw [show 6 * c + k + (j + 1) = 6 * c + (k + 1) + j by omega]
          exact h3
theorem ad_lp {s z : Nat} {u : List Nat} : gr_lp g (s :: (u ++ [z])) = gr_lp g (s :: u) + g (6 * (u.getLastD s) + z) := by
  show gr_ln g s (u ++ [z]) = gr_ln g s u + _
  rw [gr_lna]
  rfl
/-- the copy of the places up to the parting one -/
theorem ad_99 {w x5 x6 : Nat} {x4 : Int32} {s : Nat} {a : List Nat} {pl0 : Nat → Int32} (hg : ∀ i, g i ≤ 20) (hL : ∀ i, aL i = nI (g i)) (hw : w ≤ c) (hc : c < 66) (hlt : ∀ x, x ∈ s :: a → x < 6) (hla : a.length < 5)
    (hP : ∀ pl, (∀ j, j < 6 * c → pl j = pl0 j) → (∀ j x, (s :: a)[j]? = some x → pl (6 * c + j) = nI x) → ∃ n193 : Nat, wX_addCandidate_193 post (nI a.length) (nI bars) x4 (nI c) fk ff ft fw fc n193 (nI x5) (nI x6) (nI (gr_lp g (s :: a))) (nI (a.length + 1)) 0 aL pl sz wl pt bd ro rj di) :
    ∀ v u n pl, s :: a = u ++ v → v.length < n → (∀ j, j < 6 * c → pl j = pl0 j) → (∀ j x, u[j]? = some x → pl (6 * c + j) = nI x) → (∀ j x, (s :: a)[j]? = some x → pl (6 * w + j) = nI x) → wX_addCandidate_99 post (nI w) (nI a.length) (nI bars) x4 (nI x5) (nI x6) (nI c) fk ff ft fw fc n (nI (gr_lp g u)) (nI u.length) aL pl sz wl pt bd ro rj di := by
  intro v
  induction v with
  | nil =>
    intro u n pl e hn h1 h2 h3
    rw [List.append_nil] at e
    obtain ⟨n, rfl⟩ : ∃ n', n = n' + 1 := ⟨n - 1, by rw [List.length_nil] at hn; omega⟩
    subst e
    rw [List.length_cons]
    refine br_t (nI_lt (by omega) (by omega)) (nm_r (nI_1 a.length) (hP pl h1 h2))
  | cons z v ih =>
    intro u n pl e hn h1 h2 h3
    rw [List.length_cons] at hn
    obtain ⟨n, rfl⟩ : ∃ n', n = n' + 1 := ⟨n - 1, by omega⟩
    have hlen : a.length + 1 = u.length + (v.length + 1) := by
      have := congrArg List.length e
      rw [List.length_cons, List.length_append, List.length_cons] at this
      exact this
    have hz : (s :: a)[u.length]? = some z := by rw [e]; simp
    have hz6 : z < 6 := hlt z (List.mem_of_getElem? hz)
    have ez := h3 u.length z hz
    have e1 : pl ((nI w * 6) + nI u.length).toNatClampNeg = nI z := by rw [ix_cl (by omega)]; exact ez
    have e2 : s :: a = (u ++ [z]) ++ v := by rw [e]; simp
    have e3 : (u ++ [z]).length = u.length + 1 := by simp
    have H1 : ∀ j, j < 6 * c → upd pl (6 * c + u.length) (nI z) j = pl0 j := fun j hj => by rw [pk_un (by omega)]; exact h1 j hj
    have H2 : ∀ j x, (u ++ [z])[j]? = some x → upd pl (6 * c + u.length) (nI z) (6 * c + j) = nI x := by
      intro j x hx
      by_cases ej : j = u.length
      · rw [ej] at hx ⊢
        have : z = x := by simpa using hx
        rw [pk_us, this]
      · have hj : j < (u ++ [z]).length := (List.getElem?_eq_some_iff.mp hx).1
        rw [e3] at hj
        rw [List.getElem?_append_left (by omega)] at hx
        rw [pk_un (by omega)]
        exact h2 j x hx
    have H3 : ∀ j x, (s :: a)[j]? = some x → upd pl (6 * c + u.length) (nI z) (6 * w + j) = nI x := by
      intro j x hx
      have hj : j < (s :: a).length := (List.getElem?_eq_some_iff.mp hx).1
      rw [List.length_cons] at hj
      by_cases ej : 6 * w + j = 6 * c + u.length
      · have ej2 : j = u.length := by omega
        rw [ej, pk_us]
        rw [ej2, hz] at hx
        rw [Option.some.inj hx]
      · rw [pk_un ej]
        exact h3 j x hx
    refine br_f (nI_nlt (by omega) (by omega)) ⟨ix_in (by omega) (by decide), ix_in (by omega) (by decide), nm_r (e' := upd pl (6 * c + u.length) (nI z)) (by rw [e1, ix_cl (by omega), nb_b (by omega)]) ?_⟩
    cases u with
    | nil =>
      refine br_t (by decide) (nm_r (e' := nI (gr_lp g [z])) (by rfl) (nm_r (nI_1 0) ?_))
      exact ih [z] n _ e2 (by omega) H1 H2 H3
    | cons s' u =>
      have es : s = s' := by
        rw [List.cons_append] at e
        exact (List.cons.inj e).1
      subst es
      rw [List.length_cons] at *
      have hy : (s :: a)[u.length]? = some (u.getLastD s) := by
        rw [e, List.getElem?_append_left (by rw [List.length_cons]; omega)]
        exact gl_at u s
      have hy6 : u.getLastD s < 6 := hlt _ (List.mem_of_getElem? hy)
      have ey := H3 u.length _ hy
      have ei : (nI w * 6 + nI (u.length + 1)) - 1 = nI (6 * w + u.length) := by
        rw [ix_6, show 6 * w + (u.length + 1) = 6 * w + u.length + 1 by omega, nI_pred]
      have c1 : upd pl (6 * c + (u.length + 1)) (nI z) ((nI w * 6 + nI (u.length + 1)) - 1).toNatClampNeg = nI (u.getLastD s) := by
        rw [ei, nI_clamp (by omega)]; exact ey
      have c2 : upd pl (6 * c + (u.length + 1)) (nI z) (nI w * 6 + nI (u.length + 1)).toNatClampNeg = nI z := by
        rw [ix_cl (by omega)]; exact H3 (u.length + 1) z hz
      refine br_f (nI_nle (by omega) (by omega)) ⟨by rw [ei]; exact vp_in_nI (by omega) (by decide), ix_in (by omega) (by decide), by rw [c1, c2]; exact ix_in (by omega) (by decide), nm_r (e' := nI (gr_lp g (s :: u ++ [z]))) ?_ (nm_r (nI_1 (u.length + 1)) ?_)⟩
      · rw [c1, c2, ix_L hL hy6 hz6, nI_add]
        exact congrArg nI ad_lp.symm
      · have h := ih (s :: u ++ [z]) n _ e2 (by omega) H1 H2 H3
        rw [e3] at h
        exact h
end
end
section
/-! X: addCandidate whole, goesBefore, bestCandidate -/
section
variable {fk ff ft fw fc : Int32} {aL pl sz wl pt bd ro rj di : Nat → Int32} {g : Nat → Nat} {t c bars : Nat} {post : SX → Prop}
theorem ad_6 {w s y0 : Nat} {a r0 : List Nat} (hg : ∀ i, g i ≤ 20) (hL : ∀ i, aL i = nI (g i)) (hw : w ≤ c) (hc : c < 66) (hb : bars < 64)
    (hp : wy_is g s t ((s :: a) ++ y0 :: r0) ∨ (a = [] ∧ s < 6 ∧ t < 6 ∧ s ≠ t))
    (hcells : ∀ j x, (s :: a)[j]? = some x → pl (6 * w + j) = nI x)
    (hA : (∀ q, ¬ ye_cl g s t (s :: a) bars q) → ∀ di, post (fk, ff, nI t, nI c, fc, aL, pl, sz, wl, pt, bd, ro, rj, di))
    (hB : ∀ p pl' di, ye_cl g s t (s :: a) bars p → (∀ q, ye_cl g s t (s :: a) bars q → q = p ∨ bf_b g p q = true) → (∀ j, j < 6 * c → pl' j = pl j) → (∀ j x, p[j]? = some x → pl' (6 * c + j) = nI x) → post (fk, ff, nI t, nI (c + 1), fc, aL, pl', upd sz c (nI p.length), upd wl c (nI (gr_lp g p)), upd pt c (nI a.length), upd bd c (nI bars), upd ro c (-1), rj, di)) :
    ∀ v u n, s :: a = u ++ v → v.length < n → wX_addCandidate_6 post (nI w) (nI a.length) (nI bars) fk ff (nI t) (nI c) fc aL pl sz wl pt bd ro rj di n (nI (mk_s u 0)) (nI u.length) := by
  have hpair : s < 6 ∧ t < 6 ∧ s ≠ t := by
    rcases hp with hp | ⟨_, h⟩
    · exact ⟨hp.1, hp.2.1, hp.2.2.1⟩
    · exact h
  have hlt : ∀ x, x ∈ s :: a → x < 6 := by
    rcases hp with hp | ⟨e, h⟩
    · exact fun x hx => wy_lt hp x (List.mem_append_left _ hx)
    · intro x hx
      rw [e] at hx
      have : x = s := by simpa using hx
      rw [this]; exact h.1
  have hla : a.length < 5 := by
    rcases hp with hp | ⟨e, h⟩
    · have h6 := wy_six hp
      simp at h6
      omega
    · rw [e]; decide
  have ho : mk_s (s :: a) 0 < 64 := mk_64 _ _ (by decide) hlt
  have hz6 : a.getLastD s < 6 := hlt _ (gl_mem a s)
  intro v
  induction v with
  | nil =>
    intro u n e hn
    rw [List.append_nil] at e
    obtain ⟨n, rfl⟩ : ∃ n', n = n' + 1 := ⟨n - 1, by rw [List.length_nil] at hn; omega⟩
    subst e
    rw [List.length_cons]
    refine br_t (nI_lt (by omega) (by omega)) ⟨ix_in (by omega) (by decide), nm_r (e' := nI (a.getLastD s)) (by rw [ix_cl (by omega)]; exact hcells _ _ (gl_at a s)) ?_⟩
    refine me_all hg hL ho hpair.2.1 (fun di d hd hda => ?_)
    show wpX_bestNext _ (fk, ff, nI t, nI c, fc, aL, pl, sz, wl, pt, bd, ro, rj, di) (nI (a.getLastD s)) (nI (mk_s (s :: a) 0) ||| nI bars)
    rw [nx_or]
    have ho2 : mk_s (s :: a) 0 ||| bars < 64 := Nat.or_lt_two_pow (n := 6) ho hb
    refine bn_all hg hL hd hda.1.2.1 hz6 ho2 (fun z hz => ?_) (fun b hbn => ?_) (fun h => br_t (by decide) (hA (ye_none hda h) di))
    · have h := hz.2.2.1
      rw [Nat.testBit_or, Bool.or_eq_false_iff] at h
      have h1 := ds_100 hda hz.1 h.1 hz.2.2.2
      have h2 := hg (6 * (a.getLastD s) + z)
      omega
    · have hop := hbn.2.1
      have hob : (mk_s (s :: a) 0).testBit b = false := by
        have h := hop.2.2.1
        rw [Nat.testBit_or, Bool.or_eq_false_iff] at h
        exact h.1
      obtain ⟨r, hg1, hg2, hg3, hg4, hg5⟩ := gy_ex hda (d b) b rfl hop.1 hob hop.2.2.2
      obtain ⟨hcl, hle⟩ := ye_best hda hp hbn hg2 hg3 hg4 hg5
      have hlen := wy_six hcl.1
      have h100 := wy_100 hg hcl.1
      have hsum := (ye_see hcl.1).2
      have hsum2 : gr_lp g ((s :: a) ++ b :: r) = gr_lp g (s :: a) + (g (6 * (a.getLastD s) + b) + gr_ln g b r) := hsum
      have hln2 : ((s :: a) ++ b :: r).length = a.length + 1 + 1 + r.length := by simp; omega
      refine br_f (nI_pos (by have := hop.1; omega)) (br_t (nI_lt (b := 66) hc (by decide)) ⟨a.length + 2, ?_⟩)
      refine ad_99 (s := s) (a := a) (c := c) (pl0 := pl) hg hL hw hc hlt hla (fun pl1 h1 h2 => ⟨r.length + 2, ?_⟩) (s :: a) [] (a.length + 2) pl rfl (by rw [List.length_cons]; omega) (fun j _ => rfl) (fun j x hx => by simp at hx) hcells
      refine ad_193 hg hL hd hda ho hpair.2.1 hc (by omega) hb r (r.length + 2) (a.getLastD s) b (gr_lp g (s :: a)) (a.length + 1) 0 pl1 (by omega) hz6 hop.1 hg1 (by omega) (by omega) (by omega) (fun pl' k1 k2 => ?_)
      rw [← hsum2, ← hln2]
      refine hB _ pl' di hcl hle (fun j hj => (k1 j (by omega)).trans (h1 j hj)) (fun j x hx => ?_)
      rcases Nat.lt_or_ge j (a.length + 1) with hj | hj
      · rw [k1 _ (by omega)]
        refine h2 j x ?_
        rw [List.getElem?_append_left (by rw [List.length_cons]; exact hj)] at hx
        exact hx
      · rw [List.getElem?_append_right (by rw [List.length_cons]; exact hj), List.length_cons] at hx
        have h := k2 _ x hx
        rw [show 6 * c + (a.length + 1) + (j - (a.length + 1)) = 6 * c + j by omega] at h
        exact h
  | cons z v ih =>
    intro u n e hn
    rw [List.length_cons] at hn
    obtain ⟨n, rfl⟩ : ∃ n', n = n' + 1 := ⟨n - 1, by omega⟩
    have hlen : a.length + 1 = u.length + (v.length + 1) := by
      have := congrArg List.length e
      rw [List.length_cons, List.length_append, List.length_cons] at this
      exact this
    have hz : (s :: a)[u.length]? = some z := by rw [e]; simp
    have hz6 : z < 6 := hlt z (List.mem_of_getElem? hz)
    have e1 : pl ((nI w * 6) + nI u.length).toNatClampNeg = nI z := by rw [ix_cl (by omega)]; exact hcells _ _ hz
    refine br_f (nI_nlt (by omega) (by omega)) ⟨ix_in (by omega) (by decide), nm_r (e' := nI (mk_s (u ++ [z]) 0)) ?_ (nm_r (nI_1 u.length) ?_)⟩
    · rw [e1, sh_1 z hz6, nx_or, mk_app]
      rfl
    · have h := ih (u ++ [z]) n (by rw [e]; simp) (by omega)
      rw [show (u ++ [z]).length = u.length + 1 by simp] at h
      exact h
theorem ad_all {w s y0 : Nat} {a r0 : List Nat} (hg : ∀ i, g i ≤ 20) (hL : ∀ i, aL i = nI (g i)) (hw : w ≤ c) (hc : c < 66) (hb : bars < 64)
    (hp : wy_is g s t ((s :: a) ++ y0 :: r0) ∨ (a = [] ∧ s < 6 ∧ t < 6 ∧ s ≠ t))
    (hcells : ∀ j x, (s :: a)[j]? = some x → pl (6 * w + j) = nI x)
    (hA : (∀ q, ¬ ye_cl g s t (s :: a) bars q) → ∀ di, post (fk, ff, nI t, nI c, fc, aL, pl, sz, wl, pt, bd, ro, rj, di))
    (hB : ∀ p pl' di, ye_cl g s t (s :: a) bars p → (∀ q, ye_cl g s t (s :: a) bars q → q = p ∨ bf_b g p q = true) → (∀ j, j < 6 * c → pl' j = pl j) → (∀ j x, p[j]? = some x → pl' (6 * c + j) = nI x) → post (fk, ff, nI t, nI (c + 1), fc, aL, pl', upd sz c (nI p.length), upd wl c (nI (gr_lp g p)), upd pt c (nI a.length), upd bd c (nI bars), upd ro c (-1), rj, di)) :
    wpX_addCandidate post (fk, ff, nI t, nI c, fc, aL, pl, sz, wl, pt, bd, ro, rj, di) (nI w) (nI a.length) (nI bars) :=
  ⟨a.length + 2, ad_6 hg hL hw hc hb hp hcells hA hB (s :: a) [] (a.length + 2) rfl (by rw [List.length_cons]; omega)⟩
end
/-- way p stands at number w in the arrays -/
def pw_is (g : Nat → Nat) (pl sz wl : Nat → Int32) (w : Nat) (p : List Nat) : Prop := sz w = nI p.length ∧ wl w = nI (gr_lp g p) ∧ ∀ j x, p[j]? = some x → pl (6 * w + j) = nI x
section
variable {fk ff ft fw fc : Int32} {aL pl sz wl pt bd ro rj di : Nat → Int32} {g : Nat → Nat} {s t v w : Nat} {p q : List Nat} {post : Int32 → Prop}
theorem gb_38 (hp : wy_is g s t p) (hq : wy_is g s t q) (hv : v < 66) (hw : w < 66) (cp : ∀ j x, p[j]? = some x → pl (6 * v + j) = nI x) (cq : ∀ j x, q[j]? = some x → pl (6 * w + j) = nI x) (hne : p ≠ q) (h1 : lx_b p q = true → post 1) (h0 : lx_b q p = true → post 0) :
    ∀ p' u q' n, p = u ++ p' → q = u ++ q' → p'.length < n → wX_goesBefore_38 post (nI v) (nI w) fk ff ft fw fc aL pl sz wl pt bd ro rj di n (nI u.length) := by
  intro p'
  induction p' with
  | nil =>
    intro u q' n e1 e2 _
    rw [List.append_nil] at e1
    rw [← e1] at e2
    have h := sa_pre hp hq q' e2
    rw [h, List.append_nil] at e2
    exact absurd e2.symm hne
  | cons x p' ih =>
    intro u q' n e1 e2 hn
    rw [List.length_cons] at hn
    obtain ⟨n, rfl⟩ : ∃ n', n = n' + 1 := ⟨n - 1, by omega⟩
    cases q' with
    | nil =>
      rw [List.append_nil] at e2
      rw [← e2] at e1
      exact absurd (sa_pre hq hp _ e1) (by simp)
    | cons y q' =>
      have h6 := wy_six hp
      rw [e1, List.length_append, List.length_cons] at h6
      have hx : p[u.length]? = some x := by rw [e1]; simp
      have hy : q[u.length]? = some y := by rw [e2]; simp
      have hx6 := wy_lt hp x (List.mem_of_getElem? hx)
      have hy6 := wy_lt hq y (List.mem_of_getElem? hy)
      have c1 : pl ((nI v * 6) + nI u.length).toNatClampNeg = nI x := by rw [ix_cl (by omega)]; exact cp _ _ hx
      have c2 : pl ((nI w * 6) + nI u.length).toNatClampNeg = nI y := by rw [ix_cl (by omega)]; exact cq _ _ hy
      have i1 : vp_in ((nI v * 6) + nI u.length) 396 := ix_in (by omega) (by decide)
      have i2 : vp_in ((nI w * 6) + nI u.length) 396 := ix_in (by omega) (by decide)
      refine br_f (nI_ge (b := 6) (by omega) (by decide)) ⟨i1, i2, pk_eq x y (fun e => nm_r (nI_1 u.length) ?_) (fun hxy => ⟨i1, i2, pk_le y x (fun h => h0 ?_) (fun h => h1 ?_) c2 c1 (by omega) (by omega)⟩) c1 c2 (by omega) (by omega)⟩
      · subst e
        have h := ih (u ++ [x]) q' n (by rw [e1]; simp) (by rw [e2]; simp) (by omega)
        rw [show (u ++ [x]).length = u.length + 1 by simp] at h
        exact h
      · rw [e1, e2, lx_pre, lx_cc]
        exact Or.inl (by omega)
      · rw [e1, e2, lx_pre, lx_cc]
        exact Or.inl (by omega)
theorem gb_all (hg : ∀ i, g i ≤ 20) (hp : wy_is g s t p) (hq : wy_is g s t q) (hv : v < 66) (hw : w < 66) (cp : pw_is g pl sz wl v p) (cq : pw_is g pl sz wl w q) (hne : p ≠ q) (h1 : bf_b g p q = true → post 1) (h0 : bf_b g q p = true → post 0) : wpX_goesBefore post (fk, ff, ft, fw, fc, aL, pl, sz, wl, pt, bd, ro, rj, di) (nI v) (nI w) := by
  have i1 : vp_in (nI v) 66 := vp_in_nI hv (by decide)
  have i2 : vp_in (nI w) 66 := vp_in_nI hw (by decide)
  have e1 : wl (nI v).toNatClampNeg = nI (gr_lp g p) := by rw [nI_clamp (by omega)]; exact cp.2.1
  have e2 : wl (nI w).toNatClampNeg = nI (gr_lp g q) := by rw [nI_clamp (by omega)]; exact cq.2.1
  have l1 := wy_100 hg hp
  have l2 := wy_100 hg hq
  have l3 := wy_six hp
  refine ⟨i1, i2, pk_eq (gr_lp g p) (gr_lp g q) (fun e => ⟨7, ?_⟩) (fun e => ⟨i1, i2, pk_le (gr_lp g q) (gr_lp g p) (fun h => h0 (bf_if.mpr (Or.inl (by omega)))) (fun h => h1 (bf_if.mpr (Or.inl (by omega)))) e2 e1 (by omega) (by omega)⟩) e1 e2 (by omega) (by omega)⟩
  exact gb_38 hp hq hv hw cp.2.2 cq.2.2 hne (fun h => h1 (bf_if.mpr (Or.inr ⟨e, h⟩))) (fun h => h0 (bf_if.mpr (Or.inr ⟨e.symm, h⟩))) p [] q 7 rfl rfl (by omega)
end
/-- the arrays hold the ranking -/
def cs_is (g : Nat → Nat) (wc rc : Nat) (P pr : Nat → List Nat) (br rk : Nat → Nat) (pl sz wl pt bd ro rj : Nat → Int32) : Prop :=
  (∀ w, w < wc → pw_is g pl sz wl w (P w) ∧ pt w = nI ((pr w).length - 1) ∧ bd w = nI (br w)) ∧ (∀ w, w < wc → ye_un rc rk w → ro w = -1) ∧ (∀ w, w < wc → ¬ ye_un rc rk w → 0 ≤ ro w) ∧ (∀ k, k < rc → rj k = nI (rk k))
section
variable {fk ff ft fw fc : Int32} {aL pl sz wl pt bd ro rj di : Nat → Int32} {g : Nat → Nat} {s t wc rc : Nat} {P pr : Nat → List Nat} {br rk : Nat → Nat} {R : List Nat → Prop} {post : Int32 → Prop}
theorem bc_4 (hg : ∀ i, g i ≤ 20) (hp : s < 6 ∧ t < 6 ∧ s ≠ t) (I : ye_I g s t wc rc P pr br rk R) (C : cs_is g wc rc P pr br rk pl sz wl pt bd ro rj)
    (h1 : ∀ b, b < wc → ye_un rc rk b → (∀ w, w < wc → ye_un rc rk w → w = b ∨ bf_b g (P b) (P w) = true) → post (nI b))
    (h2 : (∀ w, w < wc → ¬ ye_un rc rk w) → post (-1)) :
    ∀ n w x1, w ≤ wc → wc - w < n → ((x1 = -1 ∧ ∀ z, z < w → ¬ ye_un rc rk z) ∨ (∃ b, x1 = nI b ∧ b < w ∧ ye_un rc rk b ∧ ∀ z, z < w → ye_un rc rk z → z = b ∨ bf_b g (P b) (P z) = true)) → wX_bestCandidate_4 post fk ff ft (nI wc) fc aL pl sz wl pt bd ro rj di n x1 (nI w) := by
  have hwc := ye_cnt I hp
  intro n
  induction n with
  | zero => intro w x1 _ h; omega
  | succ n ih =>
    intro w x1 hwl hn hI
    rcases Nat.lt_or_ge w wc with hw | hw
    · have ecl : (nI w).toNatClampNeg = w := nI_clamp (by omega)
      refine br_f (nI_ge hw (by omega)) ⟨vp_in_nI (by omega) (by decide), ?_⟩
      rw [ecl]
      by_cases hu : ye_un rc rk w
      · refine br_f (by rw [C.2.1 w hw hu]; decide) ?_
        rcases hI with ⟨e, hz⟩ | ⟨b, e, hb, hub, hz⟩
        · rw [e]
          refine br_t (by decide) (nm_r (nI_1 w) (ih (w + 1) (nI w) (by omega) (by omega) (Or.inr ⟨w, rfl, by omega, hu, fun z hzw hzu => ?_⟩)))
          rcases Nat.lt_or_ge z w with h | h
          · exact absurd hzu (hz z h)
          · exact Or.inl (by omega)
        · rw [e]
          have hne : P w ≠ P b := fun h => by
            have := ye_inj I hw (by omega) h
            omega
          refine br_f (nI_pos (by omega)) (gb_all hg (ye_way I hw) (ye_way I (by omega : b < wc)) (by omega) (by omega) (C.1 w hw).1 (C.1 b (by omega)).1 hne (fun h => br_f (by decide) (nm_r (nI_1 w) (ih (w + 1) (nI w) (by omega) (by omega) (Or.inr ⟨w, rfl, by omega, hu, fun z hzw hzu => ?_⟩)))) (fun h => br_t rfl (nm_r (nI_1 w) (ih (w + 1) (nI b) (by omega) (by omega) (Or.inr ⟨b, rfl, by omega, hub, fun z hzw hzu => ?_⟩)))))
          · rcases Nat.lt_or_ge z w with h3 | h3
            · rcases hz z h3 hzu with h4 | h4
              · rw [h4]; exact Or.inr h
              · exact Or.inr (bf_tr h h4)
            · exact Or.inl (by omega)
          · rcases Nat.lt_or_ge z w with h3 | h3
            · exact hz z h3 hzu
            · have e3 : z = w := by omega
              rw [e3]; exact Or.inr h
      · refine br_t (C.2.2.1 w hw hu) (nm_r (nI_1 w) (ih (w + 1) x1 (by omega) (by omega) ?_))
        rcases hI with ⟨e, hz⟩ | ⟨b, e, hb, hub, hz⟩
        · refine Or.inl ⟨e, fun z hzw => ?_⟩
          rcases Nat.lt_or_ge z w with h3 | h3
          · exact hz z h3
          · have e3 : z = w := by omega
            rw [e3]; exact hu
        · refine Or.inr ⟨b, e, by omega, hub, fun z hzw hzu => ?_⟩
          rcases Nat.lt_or_ge z w with h3 | h3
          · exact hz z h3 hzu
          · have e3 : z = w := by omega
            rw [e3] at hzu
            exact absurd hzu hu
    · have e : w = wc := by omega
      subst e
      refine br_t (nI_le (by omega) (by omega)) ?_
      rcases hI with ⟨e, hz⟩ | ⟨b, e, hb, hub, hz⟩
      · rw [e]; exact h2 hz
      · rw [e]; exact h1 b hb hub hz
theorem bc_all (hg : ∀ i, g i ≤ 20) (hp : s < 6 ∧ t < 6 ∧ s ≠ t) (I : ye_I g s t wc rc P pr br rk R) (C : cs_is g wc rc P pr br rk pl sz wl pt bd ro rj)
    (h1 : ∀ b, b < wc → ye_un rc rk b → (∀ w, w < wc → ye_un rc rk w → w = b ∨ bf_b g (P b) (P w) = true) → post (nI b))
    (h2 : (∀ w, w < wc → ¬ ye_un rc rk w) → post (-1)) : wpX_bestCandidate post (fk, ff, ft, nI wc, fc, aL, pl, sz, wl, pt, bd, ro, rj, di) :=
  ⟨wc + 1, bc_4 hg hp I C h1 h2 (wc + 1) 0 (-1) (by omega) (by omega) (Or.inl ⟨rfl, fun z hz => absurd hz (Nat.not_lt_zero z)⟩)⟩
end
end
section
/-! X: rank -/
theorem cs_add {g : Nat → Nat} {s t wc rc : Nat} {P pr : Nat → List Nat} {br rk : Nat → Nat} {R : List Nat → Prop} {pl sz wl pt bd ro rj pl' : Nat → Int32} {a p : List Nat} {bars : Nat} (I : ye_I g s t wc rc P pr br rk R) (C : cs_is g wc rc P pr br rk pl sz wl pt bd ro rj) (h1 : ∀ j, j < 6 * wc → pl' j = pl j) (h2 : ∀ j x, p[j]? = some x → pl' (6 * wc + j) = nI x) :
    cs_is g (wc + 1) rc (fu_ P wc p) (fu_ pr wc (s :: a)) (fu_ br wc bars) rk pl' (upd sz wc (nI p.length)) (upd wl wc (nI (gr_lp g p))) (upd pt wc (nI a.length)) (upd bd wc (nI bars)) (upd ro wc (-1)) rj := by
  obtain ⟨c1, c2, c3, c4⟩ := C
  refine ⟨fun w hw => ?_, fun w hw u => ?_, fun w hw u => ?_, c4⟩
  · rcases Nat.lt_or_ge w wc with h | h
    · rw [fu_l h, fu_l h, fu_l h]
      have hne : w ≠ wc := by omega
      have h6 := wy_six (ye_way I h)
      obtain ⟨⟨p1, p2, p3⟩, p4, p5⟩ := c1 w h
      refine ⟨⟨by rw [pk_un hne]; exact p1, by rw [pk_un hne]; exact p2, fun j x hx => ?_⟩, by rw [pk_un hne]; exact p4, by rw [pk_un hne]; exact p5⟩
      have hj := (List.getElem?_eq_some_iff.mp hx).1
      rw [h1 _ (by omega)]
      exact p3 j x hx
    · have e : w = wc := by omega
      subst e
      rw [fu_s, fu_s, fu_s]
      exact ⟨⟨pk_us, pk_us, h2⟩, pk_us, pk_us⟩
  · rcases Nat.lt_or_ge w wc with h | h
    · rw [pk_un (by omega)]; exact c2 w h u
    · have e : w = wc := by omega
      rw [e, pk_us]
  · rcases Nat.lt_or_ge w wc with h | h
    · rw [pk_un (by omega)]; exact c3 w h u
    · exact absurd (fun k hk => by have := I.2.2.1 k hk; omega) u
theorem cs_rank {g : Nat → Nat} {wc rc w0 : Nat} {P pr : Nat → List Nat} {br rk : Nat → Nat} {pl sz wl pt bd ro rj : Nat → Int32} (hrc : rc < 2 ^ 31) (C : cs_is g wc rc P pr br rk pl sz wl pt bd ro rj) : cs_is g wc (rc + 1) P pr br (fu_ rk rc w0) pl sz wl pt bd (upd ro w0 (nI rc)) (upd rj rc (nI w0)) := by
  obtain ⟨c1, c2, c3, c4⟩ := C
  refine ⟨c1, fun w hw u => ?_, fun w hw u => ?_, fun k hk => ?_⟩
  · obtain ⟨u1, u2⟩ := ye_unr u
    rw [pk_un u2]; exact c2 w hw u1
  · by_cases e : w = w0
    · rw [e, pk_us]; exact nI_pos' hrc
    · rw [pk_un e]
      refine c3 w hw (fun u1 => u (fun k hk => ?_))
      rcases Nat.lt_or_ge k rc with h | h
      · rw [fu_l h]; exact u1 k h
      · have e2 : k = rc := by omega
        rw [e2, fu_s]; exact fun e3 => e e3.symm
  · rcases Nat.lt_or_ge k rc with h | h
    · rw [fu_l h, pk_un (by omega)]; exact c4 k h
    · have e2 : k = rc := by omega
      rw [e2, fu_s, pk_us]
/-- the ways xs are ranked, in the arrays -/
def xs_is (g : Nat → Nat) (xs : List (List Nat)) (fc : Int32) (pl sz wl rj : Nat → Int32) : Prop := fc = nI xs.length ∧ ∀ k p, xs[k]? = some p → ∃ w, w < 66 ∧ rj k = nI w ∧ pw_is g pl sz wl w p
section
variable {fk ff ft fw fc : Int32} {aL pl sz wl pt bd ro rj di : Nat → Int32} {g : Nat → Nat} {s t : Nat} {post : Int32 → SX → Prop}
theorem rk_139 {J77 : Int32 → Int32 → Int32 → Int32 → Int32 → Int32 → (Nat → Int32) → (Nat → Int32) → (Nat → Int32) → (Nat → Int32) → (Nat → Int32) → (Nat → Int32) → (Nat → Int32) → (Nat → Int32) → (Nat → Int32) → Prop} {rc w0 k : Nat} {rk : Nat → Nat} (hg : ∀ i, g i ≤ 20) (hL : ∀ i, aL i = nI (g i)) (hp : s < 6 ∧ t < 6 ∧ s ≠ t)
    (hJ : ∀ wc P pr br pl sz wl pt bd ro di, ye_I g s t wc rc P pr br rk (fun _ => False) → cs_is g wc rc P pr br rk pl sz wl pt bd ro rj → J77 (nI (k + 1)) fk ff (nI t) (nI wc) (nI rc) aL pl sz wl pt bd ro rj di) :
    ∀ v a bb n wc P pr br pl sz wl pt bd ro di, v.length < n → w0 < wc → P w0 = (s :: a) ++ v → bb < 64 → ((a.length = (pr w0).length - 1 ∧ bb = br w0) ∨ ((pr w0).length - 1 < a.length ∧ bb = 0)) → ye_I g s t wc rc P pr br rk (fun q => ye_cl g s t (s :: a) bb q ∧ q ≠ P w0) → cs_is g wc rc P pr br rk pl sz wl pt bd ro rj → wX_rank_139 post J77 (nI k) (nI w0) n (nI a.length) fk ff (nI t) (nI wc) (nI rc) aL pl sz wl pt bd ro rj di := by
  intro v
  induction v with
  | nil =>
    intro a bb n wc P pr br pl sz wl pt bd ro di hn hw he hb hbb I C
    obtain ⟨n, rfl⟩ : ∃ n', n = n' + 1 := ⟨n - 1, by rw [List.length_nil] at hn; omega⟩
    have hwc := ye_cnt I hp
    have hway := ye_way I hw
    have h6 := wy_six hway
    rw [List.append_nil] at he
    have ecl : (nI w0).toNatClampNeg = w0 := nI_clamp (by omega)
    have e1 : sz (nI w0).toNatClampNeg - 1 = nI a.length := by
      rw [ecl, (C.1 w0 hw).1.1, he, List.length_cons, nI_pred]
    refine ⟨vp_in_nI (by omega) (by decide), br_t (by rw [e1]; exact Int32.le_refl _) (nm_r (nI_1 k) (hJ wc P pr br pl sz wl pt bd ro di ?_ C))⟩
    refine ye_R I (fun q h => ?_) (fun q h => h.elim)
    rw [he] at hway
    exact ye_sp4 hway h.1
  | cons y0 v ih =>
    intro a bb n wc P pr br pl sz wl pt bd ro di hn hw he hb hbb I C
    rw [List.length_cons] at hn
    obtain ⟨n, rfl⟩ : ∃ n', n = n' + 1 := ⟨n - 1, by omega⟩
    have hwc := ye_cnt I hp
    have hway := ye_way I hw
    have h6 := wy_six hway
    have hlen : (P w0).length = a.length + 1 + (v.length + 1) := by rw [he]; simp; omega
    have ecl : (nI w0).toNatClampNeg = w0 := nI_clamp (by omega)
    obtain ⟨⟨z1, z2, z3⟩, z4, z5⟩ := C.1 w0 hw
    have e1 : sz (nI w0).toNatClampNeg - 1 = nI (a.length + (v.length + 1)) := by
      rw [ecl, z1, hlen, show a.length + 1 + (v.length + 1) = a.length + (v.length + 1) + 1 by omega, nI_pred]
    have hy : (P w0)[a.length + 1]? = some y0 := by rw [he]; simp
    have hy6 : y0 < 6 := wy_lt hway y0 (List.mem_of_getElem? hy)
    have i1 : vp_in (nI w0) 66 := vp_in_nI (by omega) (by decide)
    -- y0 isn't barred
    have hbar : bb.testBit y0 = false := by
      rcases hbb with ⟨h1, h2⟩ | ⟨_, h2⟩
      · obtain ⟨⟨a', ea⟩, _, _, y, r, er, hbr⟩ := I.1 w0 hw
        rw [ea, List.length_cons] at h1
        rw [ea, he] at er
        have h3 := List.append_inj er (by simp; omega)
        have h4 := (List.cons.inj h3.2).1
        rw [h2, h4]; exact hbr
      · rw [h2]; exact Nat.zero_testBit _
    have hbars : bb ||| 2 ^ y0 < 64 := Nat.or_lt_two_pow (n := 6) hb (Nat.pow_lt_pow_right (by decide) hy6)
    have hway2 : wy_is g s t ((s :: a) ++ y0 :: v) := he ▸ hway
    -- the body, for either set of bars
    have body : wX_rank_176 post J77 (wX_rank_139 post J77 (nI k) (nI w0) n) (nI k) (nI w0) (nI a.length) (nI bb) fk ff (nI t) (nI wc) (nI rc) aL pl sz wl pt bd ro rj di := by
      have e2 : ((nI w0 * 6) + nI a.length) + 1 = nI (6 * w0 + a.length + 1) := by rw [ix_6, nI_1]
      refine ⟨by rw [e2]; exact vp_in_nI (by omega) (by decide), nm_r (e' := nI y0) (by rw [e2, nI_clamp (by omega)]; exact z3 _ _ hy) ?_⟩
      rw [sh_1 y0 hy6, nx_or]
      have hnext : ∀ q, (ye_cl g s t (s :: a) bb q ∧ q ≠ P w0) ∧ ¬ ye_cl g s t (s :: a) (bb ||| 2 ^ y0) q ↔ ye_cl g s t (s :: (a ++ [y0])) 0 q ∧ q ≠ P w0 := by
        intro q
        constructor
        · rintro ⟨⟨h1, h2⟩, h3⟩
          exact ⟨ye_sp2 hway2 h1 (he ▸ h2) h3, h2⟩
        · rintro ⟨h1, h2⟩
          have h3 := ye_sp3 hbar h1
          exact ⟨⟨h3.1, h2⟩, h3.2⟩
      have he2 : P w0 = (s :: (a ++ [y0])) ++ v := by rw [he]; simp
      have hl2 : (a ++ [y0]).length = a.length + 1 := by simp
      refine ad_all hg hL (by omega) (by omega) hbars (Or.inl hway2) (fun j x hx => z3 j x (by rw [he, List.getElem?_append_left (List.getElem?_eq_some_iff.mp hx).1]; exact hx)) (fun hno di => ?_) (fun p pl' di hcl hle k1 k2 => ?_)
      · refine nm_r (nI_1 a.length) ?_
        have h := ih (a ++ [y0]) 0 n wc P pr br pl sz wl pt bd ro di (by omega) hw he2 (by decide) (Or.inr ⟨by rw [hl2]; rcases hbb with h | h <;> omega, rfl⟩) (ye_R (ye_skip I hno) (fun q h => (hnext q).mp h) (fun q h => (hnext q).mpr h)) C
        rw [hl2] at h
        exact h
      · refine nm_r (nI_1 a.length) ?_
        have hne : w0 ≠ wc := by omega
        have eP : fu_ P wc p w0 = P w0 := fu_n hne
        have epr : fu_ pr wc (s :: a) w0 = pr w0 := fu_n hne
        have I2 := ye_add I (fun q h => by have h5 := ye_sp1 (r0 := v) h; exact ⟨h5.1, he ▸ h5.2⟩) hbars hcl hle
        have h := ih (a ++ [y0]) 0 n (wc + 1) (fu_ P wc p) (fu_ pr wc (s :: a)) (fu_ br wc (bb ||| 2 ^ y0)) pl' _ _ _ _ _ di (by omega) (by omega) (by rw [eP]; exact he2) (by decide) (Or.inr ⟨by rw [hl2, epr]; rcases hbb with h | h <;> omega, rfl⟩) (ye_R I2 (fun q h => by rw [eP]; exact (hnext q).mp h) (fun q h => by rw [eP] at h; exact (hnext q).mpr h)) (cs_add I C k1 k2)
        rw [hl2] at h
        exact h
    refine ⟨i1, br_f (by rw [e1]; exact nI_ge (by omega) (by omega)) ⟨i1, ?_⟩⟩
    rw [ecl, z4, z5]
    refine pk_eq a.length ((pr w0).length - 1) (fun h => ⟨i1, ?_⟩) (fun h => ?_) rfl rfl (by omega) ?_
    · rcases hbb with ⟨_, h2⟩ | ⟨h1, _⟩
      · rw [← h2]; exact body
      · omega
    · rcases hbb with ⟨h1, _⟩ | ⟨_, h2⟩
      · exact absurd h1 h
      · rw [h2] at body
        exact body
    · rcases hbb with ⟨h1, _⟩ | ⟨h1, _⟩ <;> omega
theorem rk_77 (hg : ∀ i, g i ≤ 20) (hL : ∀ i, aL i = nI (g i)) (hp : s < 6 ∧ t < 6 ∧ s ≠ t)
    (hP : ∀ fw fc pl sz wl pt bd ro rj di xs, sa_is g (nI s) (nI t) xs → xs_is g xs fc pl sz wl rj → post 1 (fk, ff, nI t, fw, fc, aL, pl, sz, wl, pt, bd, ro, rj, di)) :
    ∀ n rc wc P pr br rk pl sz wl pt bd ro rj di, 66 - rc < n → ye_I g s t wc rc P pr br rk (fun _ => False) → cs_is g wc rc P pr br rk pl sz wl pt bd ro rj → wX_rank_77 post n (nI rc) fk ff (nI t) (nI wc) (nI rc) aL pl sz wl pt bd ro rj di := by
  intro n
  induction n with
  | zero => intro rc wc P pr br rk pl sz wl pt bd ro rj di h; omega
  | succ n ih =>
    intro rc wc P pr br rk pl sz wl pt bd ro rj di hn I C
    have hwc := ye_cnt I hp
    have hrc := ye_rc I
    refine br_f (nI_ge (b := 66) (by omega) (by decide)) (bc_all hg hp I C (fun b hb hu hle => ?_) (fun hno => ?_))
    · have ecl : (nI b).toNatClampNeg = b := nI_clamp (by omega)
      have i1 : vp_in (nI b) 66 := vp_in_nI (by omega) (by decide)
      obtain ⟨⟨a, ea⟩, hbr, _, y, r, er, _⟩ := I.1 b hb
      have z4 := (C.1 b hb).2.1
      refine br_t (nI_pos' (by omega)) ⟨i1, nm_r (e' := upd ro b (nI rc)) (by rw [ecl, nb_bb (by omega)]) ⟨vp_in_nI (by omega) (by decide), nm_r (e' := upd rj rc (nI b)) (by rw [nI_clamp (by omega), nb_bb (by omega)]) (nm_r (nI_1 rc) ⟨i1, nm_r (e' := nI a.length) (by rw [ecl, z4, ea]; rfl) ⟨(y :: r).length + 1, ?_⟩⟩)⟩⟩
      have I2 := ye_rank I hb hu hle
      rw [ea] at I2 er
      refine rk_139 hg hL hp (fun wc P pr br pl sz wl pt bd ro di I3 C3 => ih (rc + 1) wc P pr br _ pl sz wl pt bd ro _ di (by omega) I3 C3) (y :: r) a (br b) _ wc P pr br pl sz wl pt bd _ di (by omega) hb er hbr (Or.inl ⟨by rw [ea]; rfl, rfl⟩) I2 (cs_rank (by omega) C)
    · refine br_f (by decide) ?_
      refine hP (nI wc) (nI rc) pl sz wl pt bd ro rj di ((List.range rc).map (fun k => P (rk k))) ⟨?_, fun p => ?_⟩ ⟨by rw [List.length_map, List.length_range], fun k p hk => ?_⟩
      · rw [List.pairwise_map]
        exact List.Pairwise.imp_of_mem (fun _ hb h => I.2.2.2.1 _ _ h (List.mem_range.mp hb)) List.pairwise_lt_range
      · rw [sa_pair hp.1 hp.2.1, List.mem_map]
        constructor
        · rintro ⟨k, hk, e⟩
          rw [← e]
          exact ye_way I (I.2.2.1 k (List.mem_range.mp hk))
        · intro h
          obtain ⟨k, hk, e⟩ := ye_fin I hno h
          exact ⟨k, List.mem_range.mpr hk, e.symm⟩
      · have hk2 := (List.getElem?_eq_some_iff.mp hk).1
        rw [List.length_map, List.length_range] at hk2
        have e : P (rk k) = p := by
          rw [List.getElem?_map, List.getElem?_range hk2] at hk
          exact Option.some.inj hk
        have h1 := I.2.2.1 k hk2
        exact ⟨rk k, by omega, C.2.2.2 k hk2, e ▸ (C.1 _ h1).1⟩
theorem rk_35 (hg : ∀ i, g i ≤ 20) (hL : ∀ i, aL i = nI (g i)) (hp : s < 6 ∧ t < 6 ∧ s ≠ t)
    (hP : ∀ fw fc pl sz wl pt bd ro rj di xs, sa_is g (nI s) (nI t) xs → xs_is g xs fc pl sz wl rj → post 1 (1, nI s, nI t, fw, fc, aL, pl, sz, wl, pt, bd, ro, rj, di)) :
    wX_rank_35 post (nI s) (nI t) fk ff ft fw fc aL pl sz wl pt bd ro rj di := by
  refine nm_r (e' := upd pl 0 (nI s)) (by rw [nb_bb (by omega)]) ?_
  have hall : ∀ q, wy_is g s t q → ye_cl g s t [s] 0 q := by
    intro q hq
    obtain ⟨m, e⟩ := wy_mid hq
    cases m with
    | nil => exact ⟨hq, t, [], e, Nat.zero_testBit _⟩
    | cons y m => exact ⟨hq, y, m ++ [t], e, Nat.zero_testBit _⟩
  have I0 : ye_I g s t 0 0 (fun _ => []) (fun _ => []) (fun _ => 0) (fun _ => 0) (wy_is g s t) := ye_0
  have C0 : cs_is g 0 0 (fun _ => []) (fun _ => []) (fun _ => 0) (fun _ => 0) (upd pl 0 (nI s)) sz wl pt bd ro rj := ⟨fun w h => absurd h (Nat.not_lt_zero w), fun w h => absurd h (Nat.not_lt_zero w), fun w h => absurd h (Nat.not_lt_zero w), fun w h => absurd h (Nat.not_lt_zero w)⟩
  refine ad_all (w := 0) (c := 0) (bars := 0) (s := s) (t := t) (a := []) (y0 := 0) (r0 := []) hg hL (by omega) (by omega) (by omega) (Or.inr ⟨rfl, hp⟩) (fun j x hx => ?_) (fun hno di => ⟨67, ?_⟩) (fun p pl' di hcl hle k1 k2 => ⟨67, ?_⟩)
  · cases j with
    | zero =>
      have e : s = x := by simpa using hx
      rw [← e]; exact pk_us
    | succ j => simp at hx
  · exact rk_77 hg hL hp (fun fw fc pl sz wl pt bd ro rj di xs h1 h2 => hP fw fc pl sz wl pt bd ro rj di xs h1 h2) 67 0 0 _ _ _ _ _ sz wl pt bd ro rj di (by omega) (ye_R I0 (fun q h => hno q (hall q h)) (fun q h => h.elim)) C0
  · have I2 := ye_add I0 (fun q h => h.1) (by omega) hcl hle
    exact rk_77 hg hL hp (fun fw fc pl sz wl pt bd ro rj di xs h1 h2 => hP fw fc pl sz wl pt bd ro rj di xs h1 h2) 67 0 1 _ _ _ _ _ _ _ _ _ _ rj di (by omega) (ye_R I2 (fun q h => h.2 (hall q h.1)) (fun q h => h.elim)) (cs_add I0 C0 k1 k2)
end
/-! X's invariant -/
def xi_is (g : Nat → Nat) : SX → Prop
  | (fk, ff, ft, fw, fc, aL, pl, sz, wl, pt, bd, ro, rj, di) => (∀ i, aL i = nI (g i)) ∧ (fk = 0 ∨ ∃ s t xs, s < 6 ∧ t < 6 ∧ s ≠ t ∧ ff = nI s ∧ ft = nI t ∧ sa_is g (nI s) (nI t) xs ∧ xs_is g xs fc pl sz wl rj)
section
variable {fk ff ft fw fc : Int32} {aL pl sz wl pt bd ro rj di : Nat → Int32} {g : Nat → Nat} {post : Int32 → SX → Prop} {p0 p1 : Int32} {xs : List (List Nat)}
theorem rk_all (hg : ∀ i, g i ≤ 20) (hX : xi_is g (fk, ff, ft, fw, fc, aL, pl, sz, wl, pt, bd, ro, rj, di)) (hs : sa_is g p0 p1 xs)
    (hy : ∀ s t, p0 = nI s → p1 = nI t → s < 6 → t < 6 → s ≠ t → ∀ fk ff ft fw fc pl sz wl pt bd ro rj di, xi_is g (fk, ff, ft, fw, fc, aL, pl, sz, wl, pt, bd, ro, rj, di) → xs_is g xs fc pl sz wl rj → post 1 (fk, ff, ft, fw, fc, aL, pl, sz, wl, pt, bd, ro, rj, di))
    (hn : pr_no p0 p1 → xs = [] → post 0 (fk, ff, ft, fw, fc, aL, pl, sz, wl, pt, bd, ro, rj, di)) : wpX_rank post (fk, ff, ft, fw, fc, aL, pl, sz, wl, pt, bd, ro, rj, di) p0 p1 := by
  unfold wpX_rank
  refine ip_any (fun s t e1 e2 h1 h2 h3 => ?_) (fun h => ?_)
  rotate_left
  · exact br_t rfl (hn h (sa_no hs h))
  subst e1 e2
  have new : wX_rank_35 post (nI s) (nI t) fk ff ft fw fc aL pl sz wl pt bd ro rj di := by
    refine rk_35 hg hX.1 ⟨h1, h2, h3⟩ (fun fw fc pl sz wl pt bd ro rj di ys h4 h5 => ?_)
    have e := sa_uni h4 hs
    rw [e] at h4 h5
    exact hy s t rfl rfl h1 h2 h3 _ _ _ fw fc pl sz wl pt bd ro rj di ⟨hX.1, Or.inr ⟨s, t, xs, h1, h2, h3, rfl, rfl, h4, h5⟩⟩ h5
  refine br_f (by decide) (br_c (fun _ => new) (fun hk => br_c (fun ef => br_c (fun et => ?_) (fun _ => new)) (fun _ => new)))
  rcases hX.2 with h | ⟨s', t', ys, h4, h5, h6, e3, e4, h7, h8⟩
  · exact absurd h hk
  · rw [← e3, ← e4, ef, et] at h7
    have e := sa_uni h7 hs
    rw [e] at h8
    exact hy s t rfl rfl h1 h2 h3 _ _ _ _ _ _ _ _ _ _ _ _ _ hX h8
end
end
section
/-! the answers -/
theorem sa_at0 {v : Int32} : sa_at [] v = none := by
  unfold sa_at
  split
  · rfl
  · rfl
theorem sa_way {g : Nat → Nat} {p0 p1 v : Int32} {xs : List (List Nat)} {p : List Nat} (hs : sa_is g p0 p1 xs) (h : sa_at xs v = some p) : ∃ s t, p0 = nI s ∧ p1 = nI t ∧ wy_is g s t p := by
  obtain ⟨k, _, _, hk⟩ := sa_atm h
  exact (hs.2 p).mp (List.mem_of_getElem? hk)
def an_len (g : Nat → Nat) : Option (List Nat) → Int32
  | none => -1
  | some p => nI (gr_lp g p)
def an_size : Option (List Nat) → Int32
  | none => -1
  | some p => nI p.length
def an_cell : Option Nat → Int32
  | none => -1
  | some x => nI x
def an_place (v : Int32) : Option (List Nat) → Int32
  | none => -1
  | some p => if v < 0 then -1 else an_cell p[v.toNatClampNeg]?
theorem an_pn {v : Int32} {p : List Nat} (h : v < 0) : an_place v (some p) = -1 := if_pos h
theorem an_pk {k : Nat} {p : List Nat} (h : k < 2 ^ 31) : an_place (nI k) (some p) = an_cell p[k]? := by
  show (if nI k < 0 then _ else _) = _
  rw [if_neg (nI_pos h), nI_clamp h]
/-- ways not longer than v -/
def an_c (g : Nat → Nat) (v : Int32) (p : List Nat) : Bool := decide (¬ v < nI (gr_lp g p))
theorem an_ct {g : Nat → Nat} {v : Int32} {p : List Nat} : an_c g v p = true ↔ ¬ v < nI (gr_lp g p) := by
  unfold an_c
  rw [decide_eq_true_iff]
def an_within (g : Nat → Nat) (xs : List (List Nat)) (v : Int32) : Int32 := nI (xs.countP (an_c g v))
def an_short (g : Nat → Nat) (xs : List (List Nat)) : Int32 := if 0 ≤ an_len g (sa_at xs 0) then an_within g xs (an_len g (sa_at xs 0)) else 0
/-- roads -/
def rd_is (g : Nat → Nat) (p0 p1 r : Int32) : Prop := (∃ a b, p0 = nI a ∧ p1 = nI b ∧ a < 6 ∧ b < 6 ∧ a ≠ b ∧ 0 < g (6 * a + b) ∧ r = nI (g (6 * a + b))) ∨ ((∀ a b, p0 = nI a → p1 = nI b → a < 6 → b < 6 → a ≠ b → 0 < g (6 * a + b) → False) ∧ r = -1)
theorem nI_i6 {a b : Nat} (ha : a < 6) (hb : b < 6) (e : nI a = nI b) : a = b := (nI_eq (by omega) (by omega)).mp e
theorem rd_uni {g : Nat → Nat} {p0 p1 r r' : Int32} (h : rd_is g p0 p1 r) (h' : rd_is g p0 p1 r') : r' = r := by
  rcases h with ⟨a, b, e1, e2, h1, h2, h3, h4, e3⟩ | ⟨h, e⟩
  · rcases h' with ⟨a', b', e1', e2', h1', h2', h3', h4', e3'⟩ | ⟨h', e'⟩
    · have ea := nI_i6 h1 h1' (e1.symm.trans e1')
      have eb := nI_i6 h2 h2' (e2.symm.trans e2')
      rw [e3, e3', ea, eb]
    · exact (h' a b e1 e2 h1 h2 h3 h4).elim
  · rcases h' with ⟨a', b', e1', e2', h1', h2', h3', h4', e3'⟩ | ⟨h', e'⟩
    · exact (h a' b' e1' e2' h1' h2' h3' h4').elim
    · rw [e, e']
/-- places that all ways pass -/
def mu_is (xs : List (List Nat)) (p0 p1 : Int32) (M : Nat) : Prop := M < 64 ∧ (xs = [] → M = 0) ∧ (xs ≠ [] → ∀ v, v < 6 → (M.testBit v = true ↔ nI v ≠ p0 ∧ nI v ≠ p1 ∧ ∀ p, p ∈ xs → v ∈ p))
theorem mu_ext {M N : Nat} (hM : M < 64) (hN : N < 64) (h : ∀ v, v < 6 → (M.testBit v = true ↔ N.testBit v = true)) : M = N := by
  apply Nat.eq_of_testBit_eq
  intro i
  rcases Nat.lt_or_ge i 6 with hi | hi
  · have h1 := h i hi
    cases h2 : M.testBit i <;> cases h3 : N.testBit i <;> simp_all
  · have h6 : 2 ^ 6 ≤ 2 ^ i := Nat.pow_le_pow_right (by decide) hi
    rw [Nat.testBit_lt_two_pow (by omega), Nat.testBit_lt_two_pow (by omega)]
theorem mu_uni {xs : List (List Nat)} {p0 p1 : Int32} {M N : Nat} (h : mu_is xs p0 p1 M) (h' : mu_is xs p0 p1 N) : N = M := by
  by_cases e : xs = []
  · rw [h.2.1 e, h'.2.1 e]
  · exact mu_ext h'.1 h.1 (fun v hv => (h'.2.2 e v hv).trans (h.2.2 e v hv).symm)
/-- the first way that avoids v -/
def fa_sp (xs : List (List Nat)) (v : Nat) (r : Int32) : Prop := (r = -1 ∧ ∀ p, p ∈ xs → v ∈ p) ∨ (∃ k p, r = nI k ∧ xs[k]? = some p ∧ v ∉ p ∧ ∀ j q, j < k → xs[j]? = some q → v ∈ q)
theorem fa_spu {xs : List (List Nat)} {v : Nat} {r r' : Int32} (h : fa_sp xs v r) (h' : fa_sp xs v r') : r' = r := by
  rcases h with ⟨e, h⟩ | ⟨k, p, e, hk, hp, hl⟩
  · rcases h' with ⟨e', h'⟩ | ⟨k', p', e', hk', hp', hl'⟩
    · rw [e, e']
    · exact absurd (h p' (List.mem_of_getElem? hk')) hp'
  · rcases h' with ⟨e', h'⟩ | ⟨k', p', e', hk', hp', hl'⟩
    · exact absurd (h' p (List.mem_of_getElem? hk)) hp
    · rcases Nat.lt_trichotomy k k' with h1 | h1 | h1
      · exact absurd (hl' k p h1 hk) hp
      · rw [e, e', h1]
      · exact absurd (hl k' p' h1 hk') hp'
def fa_is (xs : List (List Nat)) (p0 p1 p2 r : Int32) : Prop := (∃ v, v < 6 ∧ p2 = nI v ∧ p2 ≠ p0 ∧ p2 ≠ p1 ∧ fa_sp xs v r) ∨ ((∀ v, v < 6 → p2 = nI v → p2 ≠ p0 → p2 ≠ p1 → False) ∧ r = -1)
theorem fa_uni {xs : List (List Nat)} {p0 p1 p2 r r' : Int32} (h : fa_is xs p0 p1 p2 r) (h' : fa_is xs p0 p1 p2 r') : r' = r := by
  rcases h with ⟨v, h1, e1, h2, h3, h4⟩ | ⟨h, e⟩
  · rcases h' with ⟨v', h1', e1', h2', h3', h4'⟩ | ⟨h', e'⟩
    · have ev := nI_i6 h1 h1' (e1.symm.trans e1')
      subst ev
      exact fa_spu h4 h4'
    · exact (h' v h1 e1 h2 h3).elim
  · rcases h' with ⟨v', h1', e1', h2', h3', h4'⟩ | ⟨h', e'⟩
    · exact (h v' h1' e1' h2' h3').elim
    · rw [e, e']
/-- the detour round a closed road -/
def dt_sp (g g' : Nat → Nat) (xs xs' : List (List Nat)) : Int32 := match sa_at xs 0 with
  | none => 0
  | some p => match sa_at xs' 0 with
    | none => -1
    | some q => nI (gr_lp g' q) - nI (gr_lp g p)
def dt_is (g : Nat → Nat) (p0 p1 p2 p3 r : Int32) : Prop := (∃ a b xs xs', p2 = nI a ∧ p3 = nI b ∧ a < 6 ∧ b < 6 ∧ a ≠ b ∧ 0 < g (6 * a + b) ∧ sa_is g p0 p1 xs ∧ sa_is (na_up g (6 * a + b) 0) p0 p1 xs' ∧ r = dt_sp g (na_up g (6 * a + b) 0) xs xs') ∨ ((∀ a b, p2 = nI a → p3 = nI b → a < 6 → b < 6 → a ≠ b → 0 < g (6 * a + b) → False) ∧ r = 0)
theorem dt_uni {g : Nat → Nat} {p0 p1 p2 p3 r r' : Int32} (h : dt_is g p0 p1 p2 p3 r) (h' : dt_is g p0 p1 p2 p3 r') : r' = r := by
  rcases h with ⟨a, b, xs, ys, e1, e2, h1, h2, h3, h4, h5, h6, e3⟩ | ⟨h, e⟩
  · rcases h' with ⟨a', b', xs', ys', e1', e2', h1', h2', h3', h4', h5', h6', e3'⟩ | ⟨h', e'⟩
    · have ea := nI_i6 h1 h1' (e1.symm.trans e1')
      have eb := nI_i6 h2 h2' (e2.symm.trans e2')
      subst ea eb
      rw [e3, e3', sa_uni h5 h5', sa_uni h6 h6']
    · exact (h' a b e1 e2 h1 h2 h3 h4).elim
  · rcases h' with ⟨a', b', xs', ys', e1', e2', h1', h2', h3', h4', h5', h6', e3'⟩ | ⟨h', e'⟩
    · exact (h a' b' e1' e2' h1' h2' h3' h4').elim
    · rw [e, e']
/-- the distance is the length of the best way -/
theorem dt_d {g d : Nat → Nat} {s t : Nat} {xs : List (List Nat)} (h : ds_all g 0 t d) (hp : s < 6 ∧ t < 6 ∧ s ≠ t) (hs : sa_is g (nI s) (nI t) xs) : (sa_at xs 0 = none → d s = 1048576) ∧ (∀ p, sa_at xs 0 = some p → d s = gr_lp g p ∧ d s ≤ 100) := by
  have hat : sa_at xs 0 = xs[0]? := sa_atk (k := 0) (by decide)
  have key : d s < 1048576 → ∃ q, q ∈ xs ∧ gr_lp g q ≤ d s := by
    intro hf
    obtain ⟨r, hr, hl⟩ := h.1.2.2 s hp.1 hf
    obtain ⟨q, hq, hlq, hn⟩ := gr_short hr
    refine ⟨s :: q, (hs.2 _).mpr ((sa_pair hp.1 hp.2.1).mpr ⟨hp.1, hp.2.1, hp.2.2, hn, q, rfl, hq⟩), ?_⟩
    show gr_ln g s q ≤ d s
    omega
  refine ⟨fun hn => ?_, fun p hp2 => ?_⟩
  · have hle := h.1.2.1 s hp.1
    rcases Nat.lt_or_ge (d s) 1048576 with hf | hf
    · obtain ⟨q, hq, _⟩ := key hf
      cases xs with
      | nil => cases hq
      | cons x xs => rw [hat] at hn; simp at hn
    · omega
  · rw [hat] at hp2
    obtain ⟨_, _, _, hnd, r, e, hw⟩ := (sa_pair hp.1 hp.2.1).mp ((hs.2 p).mp (List.mem_of_getElem? hp2))
    have h1 := h.2 s hp.1 (Nat.zero_testBit _) r hw
    have e2 : gr_lp g p = gr_ln g s r := by rw [e]; rfl
    obtain ⟨q, hq, hlq⟩ := key (by omega)
    cases xs with
    | nil => cases hq
    | cons x xs =>
      have ex : x = p := by simpa using hp2
      have h3 := List.pairwise_cons.mp hs.1
      rcases List.mem_cons.mp hq with e3 | hq
      · rw [e3, ex] at hlq
        omega
      · have h4 := bf_ln (h3.1 q hq)
        rw [ex] at h4
        omega
end
section
/-! X: the methods -/
section
variable {fk ff ft fw fc : Int32} {aL pl sz wl pt bd ro rj di : Nat → Int32} {g : Nat → Nat} {p0 p1 p2 p3 : Int32} {xs : List (List Nat)}
theorem xm_road {post : Int32 → Prop} (hg : ∀ i, g i ≤ 20) (hL : ∀ i, aL i = nI (g i)) (h : ∀ r, rd_is g p0 p1 r → post r) : wpX_road post (fk, ff, ft, fw, fc, aL, pl, sz, wl, pt, bd, ro, rj, di) p0 p1 := by
  unfold wpX_road
  refine ip_any (fun a b e1 e2 ha hb hne => ?_) (fun hno => ?_)
  · subst e1 e2
    have i1 : vp_in ((nI a * 6) + nI b) 36 := ix_in (by omega) (by decide)
    have hgi := hg (6 * a + b)
    have eL := ix_L hL ha hb
    refine br_f (by decide) ⟨i1, pk_le (g (6 * a + b)) 0 (fun hz => h _ (Or.inr ⟨fun a' b' e1 e2 h1 h2 _ h4 => ?_, rfl⟩)) (fun hz => ⟨i1, h _ (Or.inl ⟨a, b, rfl, rfl, ha, hb, hne, hz, eL⟩)⟩) eL rfl (by omega) (by decide)⟩
    rw [← nI_i6 ha h1 e1, ← nI_i6 hb h2 e2] at h4
    omega
  · exact br_t rfl (h _ (Or.inr ⟨fun a b e1 e2 h1 h2 h3 _ => hno a b e1 e2 h1 h2 h3, rfl⟩))
theorem xm_wayAt {post : Int32 → SX → Prop} (hg : ∀ i, g i ≤ 20) (hX : xi_is g (fk, ff, ft, fw, fc, aL, pl, sz, wl, pt, bd, ro, rj, di)) (hs : sa_is g p0 p1 xs)
    (hy : ∀ p w fk ff ft fw fc pl sz wl pt bd ro rj di, xi_is g (fk, ff, ft, fw, fc, aL, pl, sz, wl, pt, bd, ro, rj, di) → sa_at xs p2 = some p → w < 66 → pw_is g pl sz wl w p → post (nI w) (fk, ff, ft, fw, fc, aL, pl, sz, wl, pt, bd, ro, rj, di))
    (hn : ∀ u, xi_is g u → sa_at xs p2 = none → post (-1) u) : wpX_wayAt post (fk, ff, ft, fw, fc, aL, pl, sz, wl, pt, bd, ro, rj, di) p0 p1 p2 := by
  unfold wpX_wayAt
  refine rk_all hg hX hs (fun s t e1 e2 h1 h2 h3 fk ff ft fw fc pl sz wl pt bd ro rj di hX' hxs => ?_) (fun _ e => ?_)
  · refine br_f (by decide) (br_c (fun hv => hn _ hX' (sa_atn hv)) (fun hv => ?_))
    obtain ⟨k, hk, rfl⟩ := nI_of hv
    have h65 := sa_65 hs
    refine pk_le xs.length k (fun hle => hn _ hX' ?_) (fun hlt => ⟨vp_in_nI (by omega) (by decide), ?_⟩) hxs.1 rfl (by omega) hk
    · rw [sa_atk hk]
      exact List.getElem?_eq_none hle
    · have ek : xs[k]? = some xs[k] := List.getElem?_eq_getElem hlt
      obtain ⟨w, hw, ew, hpw⟩ := hxs.2 k _ ek
      rw [nI_clamp hk, ew]
      exact hy _ w fk ff ft fw fc pl sz wl pt bd ro rj di hX' (by rw [sa_atk hk]; exact ek) hw hpw
  · exact br_t rfl (hn _ hX (by rw [e]; exact sa_at0))
theorem xm_ways {post : Int32 → SX → Prop} (hg : ∀ i, g i ≤ 20) (hX : xi_is g (fk, ff, ft, fw, fc, aL, pl, sz, wl, pt, bd, ro, rj, di)) (hs : sa_is g p0 p1 xs) (h : ∀ u, xi_is g u → post (nI xs.length) u) : wpX_ways post (fk, ff, ft, fw, fc, aL, pl, sz, wl, pt, bd, ro, rj, di) p0 p1 := by
  unfold wpX_ways
  refine rk_all hg hX hs (fun s t e1 e2 h1 h2 h3 fk ff ft fw fc pl sz wl pt bd ro rj di hX' hxs => ?_) (fun _ e => ?_)
  · refine br_f (by decide) ?_
    have h4 := h _ hX'
    rw [← hxs.1] at h4
    exact h4
  · have h4 := h _ hX
    rw [e] at h4
    exact br_t rfl h4
theorem xm_length {post : Int32 → SX → Prop} (hg : ∀ i, g i ≤ 20) (hX : xi_is g (fk, ff, ft, fw, fc, aL, pl, sz, wl, pt, bd, ro, rj, di)) (hs : sa_is g p0 p1 xs) (h : ∀ u, xi_is g u → post (an_len g (sa_at xs p2)) u) : wpX_length post (fk, ff, ft, fw, fc, aL, pl, sz, wl, pt, bd, ro, rj, di) p0 p1 p2 := by
  unfold wpX_length
  refine xm_wayAt hg hX hs (fun p w fk ff ft fw fc pl sz wl pt bd ro rj di hX' e hw hpw => ?_) (fun u hX' e => ?_)
  · have h4 := h _ hX'
    rw [e] at h4
    refine br_t (nI_pos' (by omega)) ⟨vp_in_nI hw (by decide), ?_⟩
    rw [nI_clamp (by omega), hpw.2.1]
    exact h4
  · have h4 := h _ hX'
    rw [e] at h4
    obtain ⟨fk, ff, ft, fw, fc, aL, pl, sz, wl, pt, bd, ro, rj, di⟩ := u
    exact br_f (by decide) h4
theorem xm_size {post : Int32 → SX → Prop} (hg : ∀ i, g i ≤ 20) (hX : xi_is g (fk, ff, ft, fw, fc, aL, pl, sz, wl, pt, bd, ro, rj, di)) (hs : sa_is g p0 p1 xs) (h : ∀ u, xi_is g u → post (an_size (sa_at xs p2)) u) : wpX_size post (fk, ff, ft, fw, fc, aL, pl, sz, wl, pt, bd, ro, rj, di) p0 p1 p2 := by
  unfold wpX_size
  refine xm_wayAt hg hX hs (fun p w fk ff ft fw fc pl sz wl pt bd ro rj di hX' e hw hpw => ?_) (fun u hX' e => ?_)
  · have h4 := h _ hX'
    rw [e] at h4
    refine br_t (nI_pos' (by omega)) ⟨vp_in_nI hw (by decide), ?_⟩
    rw [nI_clamp (by omega), hpw.1]
    exact h4
  · have h4 := h _ hX'
    rw [e] at h4
    obtain ⟨fk, ff, ft, fw, fc, aL, pl, sz, wl, pt, bd, ro, rj, di⟩ := u
    exact br_f (by decide) h4
theorem xm_place {post : Int32 → SX → Prop} (hg : ∀ i, g i ≤ 20) (hX : xi_is g (fk, ff, ft, fw, fc, aL, pl, sz, wl, pt, bd, ro, rj, di)) (hs : sa_is g p0 p1 xs) (h : ∀ u, xi_is g u → post (an_place p3 (sa_at xs p2)) u) : wpX_place post (fk, ff, ft, fw, fc, aL, pl, sz, wl, pt, bd, ro, rj, di) p0 p1 p2 p3 := by
  unfold wpX_place
  refine xm_wayAt hg hX hs (fun p w fk ff ft fw fc pl sz wl pt bd ro rj di hX' e hw hpw => ?_) (fun u hX' e => ?_)
  · have h4 := h _ hX'
    rw [e] at h4
    obtain ⟨s, t, _, _, hway⟩ := sa_way hs e
    have h6 := wy_six hway
    refine br_f (nI_pos (by omega)) (br_c (fun hv => ?_) (fun hv => ⟨vp_in_nI hw (by decide), ?_⟩))
    · rw [an_pn hv] at h4; exact h4
    · obtain ⟨k, hk, rfl⟩ := nI_of hv
      rw [an_pk hk] at h4
      refine pk_lt k p.length (fun hlt => ⟨ix_in (by omega) (by decide), ?_⟩) (fun hge => ?_) rfl (by rw [nI_clamp (by omega)]; exact hpw.1) hk (by omega)
      · have ek : p[k]? = some p[k] := List.getElem?_eq_getElem hlt
        rw [ek] at h4
        rw [ix_cl (by omega), hpw.2.2 k _ ek]
        exact h4
      · rw [List.getElem?_eq_none hge] at h4
        exact h4
  · have h4 := h _ hX'
    rw [e] at h4
    obtain ⟨fk, ff, ft, fw, fc, aL, pl, sz, wl, pt, bd, ro, rj, di⟩ := u
    exact br_t (by decide) h4
/-- reading the ranked way number k -/
theorem xs_rd {fc : Int32} {pl sz wl rj : Nat → Int32} {k : Nat} {p : List Nat} (hs : sa_is g p0 p1 xs) (hxs : xs_is g xs fc pl sz wl rj) (hk : xs[k]? = some p) : k < 66 ∧ ∃ w, w < 66 ∧ rj (nI k).toNatClampNeg = nI w ∧ pw_is g pl sz wl w p ∧ ∃ s t, p0 = nI s ∧ p1 = nI t ∧ wy_is g s t p := by
  have h65 := sa_65 hs
  have hlt := (List.getElem?_eq_some_iff.mp hk).1
  obtain ⟨w, hw, ew, hpw⟩ := hxs.2 k p hk
  exact ⟨by omega, w, hw, by rw [nI_clamp (by omega)]; exact ew, hpw, (hs.2 p).mp (List.mem_of_getElem? hk)⟩
theorem xm_w14 {post : Int32 → SX → Prop} (hg : ∀ i, g i ≤ 20) (hs : sa_is g p0 p1 xs) (hxs : xs_is g xs (nI xs.length) pl sz wl rj) (h : post (an_within g xs p2) (fk, ff, ft, fw, nI xs.length, aL, pl, sz, wl, pt, bd, ro, rj, di)) :
    ∀ v u n, xs = u ++ v → (∀ p, p ∈ u → an_c g p2 p = true) → v.length < n → wX_within_14 post p2 fk ff ft fw (nI xs.length) aL pl sz wl pt bd ro rj di n (nI u.length) := by
  have h65 := sa_65 hs
  intro v
  induction v with
  | nil =>
    intro u n e hu hn
    obtain ⟨n, rfl⟩ : ∃ n', n = n' + 1 := ⟨n - 1, by rw [List.length_nil] at hn; omega⟩
    rw [List.append_nil] at e
    have ec : xs.countP (an_c g p2) = u.length := by rw [e]; exact List.countP_eq_length.mpr hu
    have h2 : post (nI u.length) (fk, ff, ft, fw, nI xs.length, aL, pl, sz, wl, pt, bd, ro, rj, di) := by
      rw [← ec]; exact h
    have el : xs.length = u.length := by rw [e]
    exact br_t (nI_le (by omega) (by omega)) h2
  | cons p v ih =>
    intro u n e hu hn
    rw [List.length_cons] at hn
    obtain ⟨n, rfl⟩ : ∃ n', n = n' + 1 := ⟨n - 1, by omega⟩
    have hk : xs[u.length]? = some p := by rw [e]; simp
    have hlt := (List.getElem?_eq_some_iff.mp hk).1
    obtain ⟨hk66, w, hw, ew, hpw, s, t, _, _, hway⟩ := xs_rd hs hxs hk
    have h100 := wy_100 hg hway
    refine br_f (nI_ge (by omega) (by omega)) ⟨vp_in_nI hk66 (by decide), by rw [ew]; exact vp_in_nI hw (by decide), ?_⟩
    rw [ew, nI_clamp (by omega : w < 2 ^ 31), hpw.2.1]
    refine br_c (fun hc => ?_) (fun hc => nm_r (nI_1 u.length) ?_)
    · have ec : xs.countP (an_c g p2) = u.length := by
        rw [e, List.countP_append, List.countP_eq_length.mpr hu, List.countP_eq_zero.mpr]
        · omega
        · intro q hq hcq
          rw [an_ct] at hcq
          have hle : gr_lp g p ≤ gr_lp g q := by
            rcases List.mem_cons.mp hq with e2 | hq
            · rw [e2]; exact Nat.le_refl _
            · have h3 := hs.1
              rw [e] at h3
              exact bf_ln ((List.pairwise_cons.mp (List.pairwise_append.mp h3).2.1).1 q hq)
          have hq2 : gr_lp g q ≤ 100 := by
            obtain ⟨s', t', _, _, hw'⟩ := (hs.2 q).mp (by rw [e]; exact List.mem_append_right _ hq)
            exact wy_100 hg hw'
          exact hcq (Int32.lt_of_lt_of_le hc (nI_le hle (by omega)))
      rw [← ec]; exact h
    · have h4 := ih (u ++ [p]) n (by rw [e]; simp) (fun q hq => ?_) (by omega)
      · rw [show (u ++ [p]).length = u.length + 1 by simp] at h4
        exact h4
      · rcases List.mem_append.mp hq with hq | hq
        · exact hu q hq
        · have e2 : q = p := by simpa using hq
          rw [e2]
          exact an_ct.mpr hc
theorem xm_within {post : Int32 → SX → Prop} (hg : ∀ i, g i ≤ 20) (hX : xi_is g (fk, ff, ft, fw, fc, aL, pl, sz, wl, pt, bd, ro, rj, di)) (hs : sa_is g p0 p1 xs) (h : ∀ u, xi_is g u → post (an_within g xs p2) u) : wpX_within post (fk, ff, ft, fw, fc, aL, pl, sz, wl, pt, bd, ro, rj, di) p0 p1 p2 := by
  unfold wpX_within
  refine rk_all hg hX hs (fun s t e1 e2 h1 h2 h3 fk ff ft fw fc pl sz wl pt bd ro rj di hX' hxs => ?_) (fun _ e => ?_)
  · obtain ⟨rfl, hxs2⟩ := id hxs
    exact br_f (by decide) ⟨xs.length + 1, xm_w14 hg hs hxs (h _ hX') xs [] (xs.length + 1) rfl (fun p hp => by cases hp) (by omega)⟩
  · have h4 := h _ hX
    rw [e] at h4
    exact br_t rfl h4
theorem xm_shortest {post : Int32 → SX → Prop} (hg : ∀ i, g i ≤ 20) (hX : xi_is g (fk, ff, ft, fw, fc, aL, pl, sz, wl, pt, bd, ro, rj, di)) (hs : sa_is g p0 p1 xs) (h : ∀ u, xi_is g u → post (an_short g xs) u) : wpX_shortest post (fk, ff, ft, fw, fc, aL, pl, sz, wl, pt, bd, ro, rj, di) p0 p1 := by
  unfold wpX_shortest
  refine xm_length hg hX hs (fun u hX' => ?_)
  obtain ⟨fk, ff, ft, fw, fc, aL, pl, sz, wl, pt, bd, ro, rj, di⟩ := u
  refine br_c (fun hc => ?_) (fun hc => ?_)
  · refine xm_within hg hX' hs (fun u hX2 => ?_)
    have h4 := h u hX2
    unfold an_short at h4
    rw [if_pos hc] at h4
    obtain ⟨fk, ff, ft, fw, fc, aL, pl, sz, wl, pt, bd, ro, rj, di⟩ := u
    exact h4
  · have h4 := h _ hX'
    unfold an_short at h4
    rw [if_neg hc] at h4
    exact h4
theorem xm_po {post : Int32 → Prop} {w : Nat} {p : List Nat} (hw : w < 66) (hlt : ∀ x, x ∈ p → x < 6) (h6 : p.length ≤ 6) (hpw : pw_is g pl sz wl w p) (h : post (nI (mk_s p 0))) :
    ∀ v u n, p = u ++ v → v.length < n → wX_placesOf_4 post (nI w) fk ff ft fw fc aL pl sz wl pt bd ro rj di n (nI (mk_s u 0)) (nI u.length) := by
  have ecl : sz (nI w).toNatClampNeg = nI p.length := by rw [nI_clamp (by omega)]; exact hpw.1
  intro v
  induction v with
  | nil =>
    intro u n e hn
    obtain ⟨n, rfl⟩ : ∃ n', n = n' + 1 := ⟨n - 1, by rw [List.length_nil] at hn; omega⟩
    rw [List.append_nil] at e
    subst e
    exact ⟨vp_in_nI hw (by decide), br_t (by rw [ecl]; exact Int32.le_refl _) h⟩
  | cons z v ih =>
    intro u n e hn
    rw [List.length_cons] at hn
    obtain ⟨n, rfl⟩ : ∃ n', n = n' + 1 := ⟨n - 1, by omega⟩
    have hk : p[u.length]? = some z := by rw [e]; simp
    have hl := (List.getElem?_eq_some_iff.mp hk).1
    refine ⟨vp_in_nI hw (by decide), br_f (by rw [ecl]; exact nI_ge hl (by omega)) ⟨ix_in (by omega) (by decide), nm_r (e' := nI (mk_s (u ++ [z]) 0)) ?_ (nm_r (nI_1 u.length) ?_)⟩⟩
    · rw [ix_cl (by omega), hpw.2.2 _ _ hk, sh_1 z (hlt z (List.mem_of_getElem? hk)), nx_or, mk_app]
      rfl
    · have h4 := ih (u ++ [z]) n (by rw [e]; simp) (by omega)
      rw [show (u ++ [z]).length = u.length + 1 by simp] at h4
      exact h4
theorem xm_placesOf {post : Int32 → Prop} {w : Nat} {p : List Nat} (hw : w < 66) (hlt : ∀ x, x ∈ p → x < 6) (h6 : p.length ≤ 6) (hpw : pw_is g pl sz wl w p) (h : post (nI (mk_s p 0))) : wpX_placesOf post (fk, ff, ft, fw, fc, aL, pl, sz, wl, pt, bd, ro, rj, di) (nI w) :=
  ⟨p.length + 1, xm_po hw hlt h6 hpw h p [] (p.length + 1) rfl (by omega)⟩
theorem mu_0 : ∀ s, s < 6 → ∀ t, t < 6 → 63 &&& ((((1 : Int32) <<< (nI s &&& 31)) ||| ((1 : Int32) <<< (nI t &&& 31))) ^^^ (-1)) = nI (63 &&& ((2 ^ s ||| 2 ^ t) ^^^ 63)) := by decide +kernel
theorem mu_1 : ∀ s, s < 6 → ∀ t, t < 6 → (63 &&& ((2 ^ s ||| 2 ^ t) ^^^ 63)) < 64 ∧ ∀ v, v < 6 → ((63 &&& ((2 ^ s ||| 2 ^ t) ^^^ 63)).testBit v = true ↔ v ≠ s ∧ v ≠ t) := by decide +kernel
theorem xm_m34 {post : Int32 → SX → Prop} {s t : Nat} (hs : sa_is g (nI s) (nI t) xs) (hxs : xs_is g xs (nI xs.length) pl sz wl rj) (h : ∀ M, M < 64 → (∀ v, v < 6 → (M.testBit v = true ↔ v ≠ s ∧ v ≠ t ∧ ∀ p, p ∈ xs → v ∈ p)) → post (nI M) (fk, ff, ft, fw, nI xs.length, aL, pl, sz, wl, pt, bd, ro, rj, di)) :
    ∀ v u n M, xs = u ++ v → v.length < n → M < 64 → (∀ v, v < 6 → (M.testBit v = true ↔ v ≠ s ∧ v ≠ t ∧ ∀ p, p ∈ u → v ∈ p)) → wX_musts_34 post fk ff ft fw (nI xs.length) aL pl sz wl pt bd ro rj di n (nI M) (nI u.length) := by
  have h65 := sa_65 hs
  intro v
  induction v with
  | nil =>
    intro u n M e hn hM hb
    obtain ⟨n, rfl⟩ : ∃ n', n = n' + 1 := ⟨n - 1, by rw [List.length_nil] at hn; omega⟩
    rw [List.append_nil] at e
    subst e
    exact br_t (Int32.le_refl _) (h M hM hb)
  | cons p v ih =>
    intro u n M e hn hM hb
    rw [List.length_cons] at hn
    obtain ⟨n, rfl⟩ : ∃ n', n = n' + 1 := ⟨n - 1, by omega⟩
    have hk : xs[u.length]? = some p := by rw [e]; simp
    have hlt := (List.getElem?_eq_some_iff.mp hk).1
    obtain ⟨hk66, w, hw, ew, hpw, s', t', _, _, hway⟩ := xs_rd hs hxs hk
    refine br_f (nI_ge (by omega) (by omega)) ⟨vp_in_nI hk66 (by decide), ?_⟩
    rw [ew]
    refine xm_placesOf hw (wy_lt hway) (wy_six hway) hpw (nm_r (nx_and _ _) (nm_r (nI_1 u.length) ?_))
    have h4 := ih (u ++ [p]) n (M &&& mk_s p 0) (by rw [e]; simp) (by omega) (Nat.lt_of_le_of_lt Nat.and_le_left hM) (fun x hx => ?_)
    · rw [show (u ++ [p]).length = u.length + 1 by simp] at h4
      exact h4
    · rw [Nat.testBit_and, Bool.and_eq_true, hb x hx, mk_bit, Nat.zero_testBit, Bool.false_or, decide_eq_true_iff]
      constructor
      · rintro ⟨⟨h1, h2, h3⟩, h5⟩
        refine ⟨h1, h2, fun q hq => ?_⟩
        rcases List.mem_append.mp hq with hq | hq
        · exact h3 q hq
        · have e2 : q = p := by simpa using hq
          rw [e2]; exact h5
      · rintro ⟨h1, h2, h3⟩
        exact ⟨⟨h1, h2, fun q hq => h3 q (List.mem_append_left _ hq)⟩, h3 p (List.mem_append_right _ (by simp))⟩
theorem xm_musts {post : Int32 → SX → Prop} (hg : ∀ i, g i ≤ 20) (hX : xi_is g (fk, ff, ft, fw, fc, aL, pl, sz, wl, pt, bd, ro, rj, di)) (hs : sa_is g p0 p1 xs) (h : ∀ M u, mu_is xs p0 p1 M → xi_is g u → post (nI M) u) : wpX_musts post (fk, ff, ft, fw, fc, aL, pl, sz, wl, pt, bd, ro, rj, di) p0 p1 := by
  unfold wpX_musts
  refine rk_all hg hX hs (fun s t e1 e2 h1 h2 h3 fk ff ft fw fc pl sz wl pt bd ro rj di hX' hxs => ?_) (fun _ e => ?_)
  · subst e1 e2
    obtain ⟨rfl, hxs2⟩ := id hxs
    have h65 := sa_65 hs
    refine br_f (by decide) (pk_eq xs.length 0 (fun e => ?_) (fun e => ?_) rfl rfl (by omega) (by decide))
    · exact h 0 _ ⟨by decide, fun _ => rfl, fun h4 => absurd (List.length_eq_zero_iff.mp e) h4⟩ hX'
    · refine nm_r (mu_0 s h1 t h2) ⟨xs.length + 1, xm_m34 hs hxs (fun M hM hb => ?_) xs [] (xs.length + 1) _ rfl (by omega) (mu_1 s h1 t h2).1 (fun v hv => ?_)⟩
      · refine h M _ ⟨hM, fun e2 => absurd (by rw [e2]; rfl) e, fun _ v hv => ?_⟩ hX'
        rw [hb v hv]
        constructor
        · rintro ⟨h4, h5, h6⟩
          exact ⟨fun e => h4 (nI_i6 hv h1 e), fun e => h5 (nI_i6 hv h2 e), h6⟩
        · rintro ⟨h4, h5, h6⟩
          exact ⟨fun e => h4 (by rw [e]), fun e => h5 (by rw [e]), h6⟩
      · rw [(mu_1 s h1 t h2).2 v hv]
        constructor
        · rintro ⟨h4, h5⟩
          exact ⟨h4, h5, fun p hp => by cases hp⟩
        · rintro ⟨h4, h5, _⟩
          exact ⟨h4, h5⟩
  · exact br_t rfl (h 0 _ ⟨by decide, fun _ => rfl, fun h4 => absurd e h4⟩ hX)
theorem xm_f31 {post : Int32 → SX → Prop} {z : Nat} (hz : z < 6) (hs : sa_is g p0 p1 xs) (hxs : xs_is g xs (nI xs.length) pl sz wl rj) (h : ∀ r, fa_sp xs z r → post r (fk, ff, ft, fw, nI xs.length, aL, pl, sz, wl, pt, bd, ro, rj, di)) :
    ∀ v u n, xs = u ++ v → v.length < n → (∀ p, p ∈ u → z ∈ p) → wX_firstAvoiding_31 post (nI z) fk ff ft fw (nI xs.length) aL pl sz wl pt bd ro rj di n (nI u.length) := by
  have h65 := sa_65 hs
  intro v
  induction v with
  | nil =>
    intro u n e hn hb
    obtain ⟨n, rfl⟩ : ∃ n', n = n' + 1 := ⟨n - 1, by rw [List.length_nil] at hn; omega⟩
    rw [List.append_nil] at e
    subst e
    exact br_t (Int32.le_refl _) (h _ (Or.inl ⟨rfl, hb⟩))
  | cons p v ih =>
    intro u n e hn hb
    rw [List.length_cons] at hn
    obtain ⟨n, rfl⟩ : ∃ n', n = n' + 1 := ⟨n - 1, by omega⟩
    have hk : xs[u.length]? = some p := by rw [e]; simp
    have hlt := (List.getElem?_eq_some_iff.mp hk).1
    obtain ⟨hk66, w, hw, ew, hpw, s', t', _, _, hway⟩ := xs_rd hs hxs hk
    refine br_f (nI_ge (by omega) (by omega)) ⟨vp_in_nI hk66 (by decide), ?_⟩
    rw [ew]
    refine xm_placesOf hw (wy_lt hway) (wy_six hway) hpw (in_any (mk_64 _ _ (by decide) (wy_lt hway)) hz (fun h1 => br_f (by decide) (nm_r (nI_1 u.length) ?_)) (fun h1 => br_t rfl (h _ (Or.inr ⟨u.length, p, rfl, hk, mk_false.mp h1, fun j q hj hq => ?_⟩))))
    · have h4 := ih (u ++ [p]) n (by rw [e]; simp) (by omega) (fun q hq => ?_)
      · rw [show (u ++ [p]).length = u.length + 1 by simp] at h4
        exact h4
      · rcases List.mem_append.mp hq with hq | hq
        · exact hb q hq
        · have e2 : q = p := by simpa using hq
          rw [e2]
          rw [mk_bit, Nat.zero_testBit, Bool.false_or, decide_eq_true_iff] at h1
          exact h1
    · rw [e, List.getElem?_append_left hj] at hq
      exact hb q (List.mem_of_getElem? hq)
theorem xm_firstAvoiding {post : Int32 → SX → Prop} (hg : ∀ i, g i ≤ 20) (hX : xi_is g (fk, ff, ft, fw, fc, aL, pl, sz, wl, pt, bd, ro, rj, di)) (hs : sa_is g p0 p1 xs) (h : ∀ r u, fa_is xs p0 p1 p2 r → xi_is g u → post r u) : wpX_firstAvoiding post (fk, ff, ft, fw, fc, aL, pl, sz, wl, pt, bd, ro, rj, di) p0 p1 p2 := by
  unfold wpX_firstAvoiding
  refine pl_any (fun z ez hz => ?_) (fun hno => ?_)
  · refine br_f (by decide) (br_c (fun e => h _ _ (Or.inr ⟨fun _ _ _ h1 _ => h1 e, rfl⟩) hX) (fun hn0 => br_c (fun e => h _ _ (Or.inr ⟨fun _ _ _ _ h1 => h1 e, rfl⟩) hX) (fun hn1 => ?_)))
    refine rk_all hg hX hs (fun s t e1 e2 h1 h2 h3 fk ff ft fw fc pl sz wl pt bd ro rj di hX' hxs => ?_) (fun _ e => ?_)
    · obtain ⟨rfl, hxs2⟩ := id hxs
      subst ez
      exact br_f (by decide) ⟨xs.length + 1, xm_f31 hz hs hxs (fun r hr => h r _ (Or.inl ⟨z, hz, rfl, hn0, hn1, hr⟩) hX') xs [] (xs.length + 1) rfl (by omega) (fun p hp => by cases hp)⟩
    · exact br_t rfl (h _ _ (Or.inl ⟨z, hz, ez, hn0, hn1, Or.inl ⟨rfl, fun p hp => by rw [e] at hp; cases hp⟩⟩) hX)
  · exact br_t rfl (h _ _ (Or.inr ⟨fun v hv e _ _ => hno v e hv, rfl⟩) hX)
end
end
section
/-! X: roads, build, close, detour -/
def rs_n (g : Nat → Nat) : Nat → Nat → Int32 → Int32
  | 0, _, x => x
  | k + 1, i, x => rs_n g k (i + 1) (if g i = 0 then x else x + 1)
theorem hL_up {L : Nat → Int32} {g : Nat → Nat} {k m : Nat} (hL : ∀ i, L i = nI (g i)) : ∀ i, upd L k (nI m) i = nI (na_up g k m i) := by
  intro i
  by_cases e : i = k
  · rw [e, pk_us, na_s]
  · rw [pk_un e, na_n e]; exact hL i
theorem hg_up {g : Nat → Nat} {k m : Nat} (hg : ∀ i, g i ≤ 20) (hm : m ≤ 20) : ∀ i, na_up g k m i ≤ 20 := by
  intro i
  by_cases e : i = k
  · rw [e, na_s]; exact hm
  · rw [na_n e]; exact hg i
theorem dt_s0 {g g' : Nat → Nat} {xs xs' : List (List Nat)} (e : sa_at xs 0 = none) : dt_sp g g' xs xs' = 0 := by
  unfold dt_sp
  rw [e]
theorem dt_s1 {g g' : Nat → Nat} {xs xs' : List (List Nat)} {p : List Nat} (e : sa_at xs 0 = some p) (e' : sa_at xs' 0 = none) : dt_sp g g' xs xs' = -1 := by
  unfold dt_sp
  rw [e, e']
theorem dt_s2 {g g' : Nat → Nat} {xs xs' : List (List Nat)} {p q : List Nat} (e : sa_at xs 0 = some p) (e' : sa_at xs' 0 = some q) : dt_sp g g' xs xs' = nI (gr_lp g' q) - nI (gr_lp g p) := by
  unfold dt_sp
  rw [e, e']
theorem dt_none {g : Nat → Nat} {p0 p1 p2 p3 : Int32} {xs : List (List Nat)} (hs : sa_is g p0 p1 xs) (e : sa_at xs 0 = none) : dt_is g p0 p1 p2 p3 0 := by
  by_cases hr : ∃ a b, p2 = nI a ∧ p3 = nI b ∧ a < 6 ∧ b < 6 ∧ a ≠ b ∧ 0 < g (6 * a + b)
  · obtain ⟨a, b, h1, h2, h3, h4, h5, h6⟩ := hr
    obtain ⟨xs', hs'⟩ := sa_ex (na_up g (6 * a + b) 0) p0 p1
    exact Or.inl ⟨a, b, xs, xs', h1, h2, h3, h4, h5, h6, hs, hs', (dt_s0 e).symm⟩
  · exact Or.inr ⟨fun a b h1 h2 h3 h4 h5 h6 => hr ⟨a, b, h1, h2, h3, h4, h5, h6⟩, rfl⟩
section
variable {fk ff ft fw fc : Int32} {aL pl sz wl pt bd ro rj di : Nat → Int32} {g : Nat → Nat} {p0 p1 p2 p3 : Int32}
theorem xm_r4 {post : Int32 → Prop} (hg : ∀ i, g i ≤ 20) (hL : ∀ i, aL i = nI (g i)) :
    ∀ k i n x, i + k = 36 → k < n → post (rs_n g k i x) → wX_roads_4 post fk ff ft fw fc aL pl sz wl pt bd ro rj di n x (nI i) := by
  intro k
  induction k with
  | zero =>
    intro i n x hi hn h
    obtain ⟨n, rfl⟩ : ∃ n', n = n' + 1 := ⟨n - 1, by omega⟩
    exact br_t (nI_le (a := 36) (by omega) (by omega)) h
  | succ k ih =>
    intro i n x hi hn h
    obtain ⟨n, rfl⟩ : ∃ n', n = n' + 1 := ⟨n - 1, by omega⟩
    have hgi := hg i
    refine br_f (nI_ge (b := 36) (by omega) (by decide)) ⟨vp_in_nI (by omega) (by decide), pk_le (g i) 0 (fun hz => nm_r (e' := x) (Int32.add_zero x) (nm_r (nI_1 i) (ih (i + 1) n x (by omega) (by omega) ?_))) (fun hz => nm_e (nm_r (nI_1 i) (ih (i + 1) n (x + 1) (by omega) (by omega) ?_))) (by rw [nI_clamp (by omega)]; exact hL i) rfl (by omega) (by decide)⟩
    · have h2 : post (rs_n g k (i + 1) (if g i = 0 then x else x + 1)) := h
      rw [if_pos (by omega)] at h2
      exact h2
    · have h2 : post (rs_n g k (i + 1) (if g i = 0 then x else x + 1)) := h
      rw [if_neg (by omega)] at h2
      exact h2
theorem xm_roads {post : Int32 → Prop} (hg : ∀ i, g i ≤ 20) (hL : ∀ i, aL i = nI (g i)) (h : post (rs_n g 36 0 0)) : wpX_roads post (fk, ff, ft, fw, fc, aL, pl, sz, wl, pt, bd, ro, rj, di) :=
  ⟨37, xm_r4 hg hL 36 0 37 0 rfl (by omega) h⟩
theorem xm_build {post : Int32 → SX → Prop} (hX : xi_is g (fk, ff, ft, fw, fc, aL, pl, sz, wl, pt, bd, ro, rj, di))
    (hy : ∀ a b m u, p0 = nI a → p1 = nI b → p2 = nI m → a < 6 → b < 6 → a ≠ b → 1 ≤ m → m ≤ 20 → xi_is (na_up g (6 * a + b) m) u → post 1 u)
    (hn : (∀ a b m, p0 = nI a → p1 = nI b → p2 = nI m → a < 6 → b < 6 → a ≠ b → 1 ≤ m → m ≤ 20 → False) → post 0 (fk, ff, ft, fw, fc, aL, pl, sz, wl, pt, bd, ro, rj, di)) : wpX_build post (fk, ff, ft, fw, fc, aL, pl, sz, wl, pt, bd, ro, rj, di) p0 p1 p2 := by
  unfold wpX_build
  refine ip_any (fun a b e1 e2 ha hb hne => ?_) (fun hno => ?_)
  · subst e1 e2
    refine br_f (by decide) ?_
    rcases pk_ix p2 (n := 21) (by decide) with h | h | ⟨m, hm, e⟩
    · have h1 : p2 < 1 := Int32.lt_of_lt_of_le h (by decide)
      refine br_t h1 (hn (fun a' b' m _ _ e _ _ _ h3 h4 => ?_))
      rw [e] at h
      exact nI_pos (by omega) h
    · have h0 : post 0 (fk, ff, ft, fw, fc, aL, pl, sz, wl, pt, bd, ro, rj, di) := hn (fun a' b' m _ _ e _ _ _ h3 h4 => by rw [e] at h; exact nI_ge (b := 21) (a := m) (by omega) (by decide) h)
      refine br_c (fun _ => h0) (fun _ => br_f (fun h5 => ?_) h0)
      exact absurd (Int32.le_trans h h5) (by decide)
    · subst e
      refine pk_lt m 1 (fun h => hn (fun a' b' m' _ _ e _ _ _ h3 h4 => ?_)) (fun h => ?_) rfl rfl (by omega) (by decide)
      · rw [nI_eq (by omega) (by omega)] at e
        omega
      · refine br_t (nI_le (b := 20) (by omega) (by decide)) ⟨ix_in (by omega) (by decide), nm_r (e' := upd aL (6 * a + b) (nI m)) (by rw [ix_cl (by omega), nb_bb (by omega)]) ?_⟩
        exact hy a b m _ rfl rfl rfl ha hb hne h (by omega) ⟨hL_up hX.1, Or.inl rfl⟩
  · exact br_t rfl (hn (fun a b m e1 e2 _ h1 h2 h3 _ _ => hno a b e1 e2 h1 h2 h3))
theorem xm_close {post : Int32 → SX → Prop} (hg : ∀ i, g i ≤ 20) (hX : xi_is g (fk, ff, ft, fw, fc, aL, pl, sz, wl, pt, bd, ro, rj, di))
    (hy : ∀ a b u, p0 = nI a → p1 = nI b → a < 6 → b < 6 → a ≠ b → 0 < g (6 * a + b) → xi_is (na_up g (6 * a + b) 0) u → post 1 u)
    (hn : (∀ a b, p0 = nI a → p1 = nI b → a < 6 → b < 6 → a ≠ b → 0 < g (6 * a + b) → False) → post 0 (fk, ff, ft, fw, fc, aL, pl, sz, wl, pt, bd, ro, rj, di)) : wpX_close post (fk, ff, ft, fw, fc, aL, pl, sz, wl, pt, bd, ro, rj, di) p0 p1 := by
  unfold wpX_close
  refine xm_road hg hX.1 (fun r hr => ?_)
  rcases hr with ⟨a, b, e1, e2, ha, hb, hne, hpos, er⟩ | ⟨hno, er⟩
  · subst e1 e2 er
    have hgi := hg (6 * a + b)
    refine br_t (nI_pos' (by omega)) ⟨ix_in (by omega) (by decide), nm_r (e' := upd aL (6 * a + b) (nI 0)) (by rw [ix_cl (by omega)]; exact congrArg (upd aL _) (nb_b (x := 0) (by decide))) ?_⟩
    exact hy a b _ rfl rfl ha hb hne hpos ⟨hL_up hX.1, Or.inl rfl⟩
  · subst er
    exact br_f (by decide) (hn hno)
theorem xm_detour {post : Int32 → SX → Prop} (hg : ∀ i, g i ≤ 20) (hX : xi_is g (fk, ff, ft, fw, fc, aL, pl, sz, wl, pt, bd, ro, rj, di)) (h : ∀ r u, dt_is g p0 p1 p2 p3 r → xi_is g u → post r u) : wpX_detour post (fk, ff, ft, fw, fc, aL, pl, sz, wl, pt, bd, ro, rj, di) p0 p1 p2 p3 := by
  obtain ⟨xs, hs⟩ := sa_ex g p0 p1
  unfold wpX_detour
  refine ip_any (fun s t e1 e2 h1 h2 h3 => ?_) (fun hno => ?_)
  · subst e1 e2
    refine br_f (by decide) (xm_road hg hX.1 (fun r hr => ?_))
    rcases hr with ⟨a, b, e1, e2, ha, hb, hne, hpos, er⟩ | ⟨hno, er⟩
    · subst e1 e2 er
      have hgi := hg (6 * a + b)
      obtain ⟨xs', hs'⟩ := sa_ex (na_up g (6 * a + b) 0) (nI s) (nI t)
      have i1 : vp_in (nI s) 6 := vp_in_nI h1 (by decide)
      have i2 : vp_in ((nI a * 6) + nI b) 36 := ix_in (by omega) (by decide)
      refine br_t (nI_pos' (by omega)) (me_all (o := 0) hg hX.1 (by decide) h2 (fun di d hd hda => ?_))
      refine ⟨i1, nm_r (di_at hd h1) ⟨i2, nm_r (ix_L hX.1 ha hb) ⟨i2, nm_r (e' := upd aL (6 * a + b) (nI 0)) (by rw [ix_cl (by omega)]; exact congrArg (upd aL _) (nb_b (x := 0) (by decide))) ?_⟩⟩⟩
      have hL' := hL_up (k := 6 * a + b) (m := 0) hX.1
      refine me_all (o := 0) (hg_up hg (by decide)) hL' (by decide) h2 (fun di' d' hd' hda' => ?_)
      refine ⟨i2, nm_r (e' := upd (upd aL (6 * a + b) (nI 0)) (6 * a + b) (nI (g (6 * a + b)))) (by rw [ix_cl (by omega), nb_b (by omega)]) ?_⟩
      have hL2 : ∀ i, upd (upd aL (6 * a + b) (nI 0)) (6 * a + b) (nI (g (6 * a + b))) i = nI (g i) := by
        intro i
        by_cases e : i = 6 * a + b
        · rw [e, pk_us]
        · rw [pk_un e, pk_un e]; exact hX.1 i
      have done : ∀ r, r = dt_sp g (na_up g (6 * a + b) 0) xs xs' → post r (fk, ff, ft, fw, fc, upd (upd aL (6 * a + b) (nI 0)) (6 * a + b) (nI (g (6 * a + b))), pl, sz, wl, pt, bd, ro, rj, di') := fun r e => h r _ (Or.inl ⟨a, b, xs, xs', rfl, rfl, ha, hb, hne, hpos, hs, hs', e⟩) ⟨hL2, hX.2⟩
      have D := dt_d hda ⟨h1, h2, h3⟩ hs
      have D' := dt_d hda' ⟨h1, h2, h3⟩ hs'
      have f1 := hda.1.2.1 s h1
      have f2 := hda'.1.2.1 s h1
      cases e : sa_at xs 0 with
      | none =>
        have e0 := D.1 e
        refine br_f ?_ (done 0 (dt_s0 e).symm)
        rw [e0]
        decide
      | some p =>
        obtain ⟨e0, e9⟩ := D.2 p e
        refine br_t (nI_lt (b := 1048576) (by omega) (by decide)) ⟨i1, pk_le 1048576 (d' s) (fun hz => done _ ?_) (fun hz => ⟨i1, done _ ?_⟩) rfl (di_at hd' h1) (by decide) (by omega)⟩
        · cases e' : sa_at xs' 0 with
          | none => exact (dt_s1 e e').symm
          | some q =>
            have := (D'.2 q e').2
            omega
        · cases e' : sa_at xs' 0 with
          | none =>
            have := D'.1 e'
            omega
          | some q =>
            rw [dt_s2 e e', di_at hd' h1, (D'.2 q e').1, e0]
    · subst er
      exact br_f (by decide) (h 0 _ (Or.inr ⟨hno, rfl⟩) hX)
  · exact br_t rfl (h 0 _ (dt_none hs (by rw [sa_no hs hno]; exact sa_at0)) hX)
end
end
section
/-! Y: look and list -/
theorem cd_or {l : List Nat} {v : Nat} {y : Int32} (hl : ∀ x, x ∈ l → x < 16) (hn : l.length ≤ 6) (hv : v < 16) (hy : y = nI (4 * l.length)) : nI (cd_n l) ||| (nI v <<< (y &&& 31)) = nI (cd_n (l ++ [v])) := by
  have h16 : 2 ^ (4 * l.length) = 16 ^ l.length := by rw [Nat.pow_mul]
  have hlt := cd_lt l hl
  have hp : (2 : Nat) ^ (4 * l.length) ≤ 2 ^ 24 := Nat.pow_le_pow_right (by decide) (by omega)
  have hm : v * 2 ^ (4 * l.length) < 2 ^ 32 := by
    have : v * 2 ^ (4 * l.length) ≤ 15 * 2 ^ 24 := Nat.mul_le_mul (by omega) hp
    omega
  rw [hy, pk_shlN (nI (4 * l.length) &&& 31) (4 * l.length) (s_l _ (by omega)) hm, nx_or, cd_app]
  refine congrArg nI ?_
  rw [Nat.or_comm, Nat.mul_comm v, ← Nat.two_pow_add_eq_or_of_lt (by omega), h16]
  show 16 ^ l.length * v + cd_n l = cd_n l + 16 ^ l.length * (v + 16 * 0)
  rw [Nat.mul_zero, Nat.add_zero, Nat.add_comm]
/-- way p stands at number w in Y's arrays -/
def yw_z (p : List Nat) (z : Nat) : Prop := z < 2 ^ 24 ∧ ∀ i x, p[i]? = some x → z / 16 ^ i % 16 = x
def yw_is (g : Nat → Nat) (yw yu : Nat → Int32) (w : Nat) (p : List Nat) : Prop := (∃ z, yw w = nI z ∧ yw_z p z) ∧ yu w = nI (gr_lp g p)
theorem yw_z6 {p : List Nat} (hl : ∀ x, x ∈ p → x < 16) (h6 : p.length ≤ 6) : yw_z p (cd_n p) := by
  refine ⟨?_, fun i x hx => cd_dig p i x hl hx⟩
  have h := cd_lt p hl
  have h2 : (16 : Nat) ^ p.length ≤ 16 ^ 6 := Nat.pow_le_pow_right (by decide) h6
  have h3 : (16 : Nat) ^ 6 = 2 ^ 24 := by decide
  omega
theorem yw_z15 {p : List Nat} (hl : ∀ x, x ∈ p → x < 16) (h6 : p.length < 6) : yw_z p (cd_n (p ++ [15])) := by
  have hl2 : ∀ x, x ∈ p ++ [15] → x < 16 := by
    intro x hx
    rcases List.mem_append.mp hx with h | h
    · exact hl x h
    · have : x = 15 := by simpa using h
      omega
  obtain ⟨h1, h2⟩ := yw_z6 hl2 (by rw [List.length_append]; simp; omega)
  refine ⟨h1, fun i x hx => h2 i x ?_⟩
  rw [List.getElem?_append_left (List.getElem?_eq_some_iff.mp hx).1]
  exact hx
section
variable {yL yw yu : Nat → Int32} {c : Nat} {g : Nat → Nat} {s t : Nat} {post : SY → Prop}
theorem lk_149 {J33 : Int32 → Int32 → Int32 → Int32 → Int32 → Int32 → Int32 → Int32 → Int32 → Prop} {x2 x4 x5 x6 x7 x8 x9 x10 x11 x13 yc : Int32} {j : Nat} (h : ∀ x11, J33 x4 x5 x6 x7 x8 x9 x10 x11 (nI (j + 1))) : wY_look_149 post J33 x2 x4 x5 x6 x7 x8 x9 x10 x11 (nI j) x13 yc yL yw yu :=
  br_c (fun _ => br_c (fun _ => nm_r (nI_1 j) (h 1)) (fun _ => nm_r (nI_1 j) (h 0))) (fun _ => nm_r (nI_1 j) (h 1))
theorem lk_bad {x2 : Int32} {yc : Int32} (h : post (yc, yL, yw, yu)) :
    ∀ k n rest a j x5 x7 x8 x9 x11, k + j = 4 → k < n → a < 6 → rest < 2 ^ 31 → wY_look_33 post x2 yc yL yw yu n (nI rest) x5 (nI a) x7 x8 x9 0 x11 (nI j) := by
  intro k
  induction k with
  | zero =>
    intro n rest a j x5 x7 x8 x9 x11 hj hn ha hr
    obtain ⟨n, rfl⟩ : ∃ n', n = n' + 1 := ⟨n - 1, by omega⟩
    exact br_t (nI_le (a := 4) (by omega) (by omega)) (br_t rfl h)
  | succ k ih =>
    intro n rest a j x5 x7 x8 x9 x11 hj hn ha hr
    obtain ⟨n, rfl⟩ : ∃ n', n = n' + 1 := ⟨n - 1, by omega⟩
    have hd : rest / 7 < 2 ^ 31 := Nat.lt_of_le_of_lt (Nat.div_le_self _ _) hr
    refine br_f (nI_ge (b := 4) (by omega) (by decide)) ⟨by decide, nm_r (pk_rem (d := 7) hr (by decide) (by decide)) ⟨by decide, nm_r (pk_div (d := 7) hr (by decide) (by decide)) (pk_le 6 (rest % 7) (fun _ => ?_) (fun hv => br_t rfl ?_))⟩⟩
    · exact lk_149 (fun x11 => ih n (rest / 7) a (j + 1) _ _ _ _ _ (by omega) (by omega) ha hd)
    · refine ⟨iy_in (by omega) (by decide), nm_e (nm_e (nm_e (nm_e ?_)))⟩
      exact lk_149 (fun x11 => ih n (rest / 7) (rest % 7) (j + 1) _ _ _ _ _ (by omega) (by omega) (by omega) hd)
/-- the last step: the way is noted -/
theorem lk_245 {x2 x6 x7 z0 : Int32} {z e : Nat} (hc : c < 65) (hz : z0 = nI z) (i1 : vp_in ((6 * x6) + x2) 36) (he : x7 + yL ((6 * x6) + x2).toNatClampNeg = nI e) (h : post (nI (c + 1), yL, upd yw c (nI z), upd yu c (nI e))) : wY_look_245 post x2 x6 x7 z0 (nI c) (nI c) yL yw yu := by
  have i2 : vp_in (nI c) 65 := vp_in_nI hc (by decide)
  have e1 : (nI c).toNatClampNeg = c := nI_clamp (by omega)
  exact ⟨i2, nm_r (e' := upd yw c (nI z)) (by rw [e1, hz]) ⟨i1, i2, nm_r (e' := upd yu c (nI e)) (by rw [e1, he]) (nm_r (nI_1 c) h)⟩⟩
theorem lk_wy {a r : List Nat} (hw : ∀ r, gr_wk g 0 t (a.getLastD s) r → gr_wk g 0 t s (a ++ r)) (hp : s < 6 ∧ t < 6 ∧ s ≠ t) (hn : (s :: a).Nodup) (ht : t ∉ s :: a) (he : 0 < g (6 * (a.getLastD s) + t)) : wy_is g s t (s :: (a ++ [t])) := by
  refine ⟨hp.1, hp.2.1, hp.2.2, ?_, a ++ [t], rfl, hw [t] ⟨he, hp.2.1, Nat.zero_testBit _, rfl⟩⟩
  rw [← List.cons_append]
  refine List.nodup_append.mpr ⟨hn, by simp, fun x hx y hy e => ?_⟩
  have e2 : y = t := by simpa using hy
  rw [e, e2] at hx
  exact ht hx
theorem lk_ok (hg : ∀ i, g i ≤ 20) (hL : ∀ i, yL i = nI (g i)) (hp : s < 6 ∧ t < 6 ∧ s ≠ t) :
    ∀ k n rest j a en, k + j = 4 → k < n → rest < 2 ^ 31 → rest < 7 ^ k → a.length ≤ j → (en = 0 ∨ en = 1) → (s :: a).Nodup → t ∉ s :: a → (∀ x, x ∈ s :: a → x < 6) → (∀ r, gr_wk g 0 t (a.getLastD s) r → gr_wk g 0 t s (a ++ r)) →
    (∀ m z, m.length ≤ k → (en = 1 → m = []) → rest = en_c k m → wy_is g s t (s :: (a ++ (m ++ [t]))) → yw_z (s :: (a ++ (m ++ [t]))) z → c < 65 ∧ post (nI (c + 1), yL, upd yw c (nI z), upd yu c (nI (gr_lp g (s :: (a ++ (m ++ [t]))))))) →
    ((∀ m, m.length ≤ k → (en = 1 → m = []) → rest = en_c k m → ¬ wy_is g s t (s :: (a ++ (m ++ [t])))) → post (nI c, yL, yw, yu)) →
    wY_look_33 post (nI t) (nI c) yL yw yu n (nI rest) (nI (mk_s a (2 ^ s ||| 2 ^ t))) (nI (a.getLastD s)) (nI (gr_ln g s a)) (nI (cd_n (s :: a))) (nI (a.length + 1)) 1 (nI en) (nI j) := by
  intro k
  induction k with
  | zero =>
    intro n rest j a en hj hn hr2 hr hal hen hnd ht hlt hw hyes hno
    obtain ⟨n, rfl⟩ : ∃ n', n = n' + 1 := ⟨n - 1, by omega⟩
    have hla : a.getLastD s < 6 := hlt _ (gl_mem a s)
    have hr0 : rest = 0 := by
      have : rest < 1 := hr
      omega
    have i1 : vp_in ((6 * nI (a.getLastD s)) + nI t) 36 := iy_in (by omega) (by decide)
    have hgi := hg (6 * (a.getLastD s) + t)
    have eL := iy_L hL hla hp.2.1
    refine br_t (nI_le (a := 4) (by omega) (by omega)) (br_f (by decide) ⟨i1, pk_le (g (6 * (a.getLastD s) + t)) 0 (fun hz => hno (fun m hm0 _ hm hwy => ?_)) (fun hz => ?_) eL rfl (by omega) (by decide)⟩)
    · -- no road: no way
      have em : m = [] := List.length_eq_zero_iff.mp (by omega)
      subst em
      obtain ⟨_, _, _, _, r, e, hwk⟩ := hwy
      have e2 := (List.cons.inj e).2
      rw [← e2] at hwk
      have h1 := (gr_app1 hwk).1
      omega
    · have hwy := lk_wy (r := []) hw hp hnd ht hz
      have h6 := wy_six hwy
      have hl16 : ∀ x, x ∈ s :: (a ++ [t]) → x < 16 := fun x hx => by have := wy_lt hwy x hx; omega
      have hz6 := hyes [] _ (by decide) (fun _ => rfl) hr0 hwy (yw_z6 hl16 h6)
      have hc65 := hz6.1
      have hla16 : ∀ x, x ∈ s :: a → x < 16 := fun x hx => by have := hlt x hx; omega
      have hlen : (s :: (a ++ [t])).length = a.length + 2 := by simp
      have e4 : (4 : Int32) * nI (a.length + 1) = nI (4 * (s :: a).length) := by
        show nI 4 * _ = _
        rw [pk_mul]; rfl
      have e5 : (4 : Int32) * nI (a.length + 1) + 4 = nI (4 * (s :: (a ++ [t])).length) := by
        rw [e4]
        show _ + nI 4 = _
        rw [nI_add, hlen, List.length_cons]
        rfl
      have he : nI (gr_ln g s a) + yL ((6 * nI (a.getLastD s)) + nI t).toNatClampNeg = nI (gr_lp g (s :: (a ++ [t]))) := by
        rw [eL, nI_add]
        exact congrArg nI ad_lp.symm
      refine br_f (nI_ge (b := 65) hc65 (by decide)) (nm_r (cd_or (l := s :: a) (v := t) hla16 (by rw [List.length_cons]; omega) (by omega) e4) (pk_le 5 (a.length + 1) (fun h5 => ?_) (fun h5 => ?_) rfl rfl (by decide) (by omega)))
      · exact lk_245 hc65 rfl i1 he hz6.2
      · have hz15 : yw_z (s :: (a ++ [t])) (cd_n (s :: (a ++ [t]) ++ [15])) := yw_z15 hl16 (by omega)
        exact lk_245 hc65 (cd_or (l := s :: (a ++ [t])) (v := 15) hl16 h6 (by decide) e5) i1 he (hyes [] _ (by decide) (fun _ => rfl) hr0 hwy hz15).2
  | succ k ih =>
    intro n rest j a en hj hn hr2 hr hal hen hnd ht hlt hw hyes hno
    obtain ⟨n, rfl⟩ : ∃ n', n = n' + 1 := ⟨n - 1, by omega⟩
    have hla : a.getLastD s < 6 := hlt _ (gl_mem a s)
    have hd : rest / 7 < 2 ^ 31 := Nat.lt_of_le_of_lt (Nat.div_le_self _ _) hr2
    have hdk : rest / 7 < 7 ^ k := by
      rw [Nat.pow_succ] at hr
      omega
    -- what a code's first digit says
    have hfirst : ∀ m, rest = en_c (k + 1) m → wy_is g s t (s :: (a ++ (m ++ [t]))) → (m = [] ∧ rest % 7 = 6 ∧ rest / 7 = en_c k []) ∨ (∃ v m', m = v :: m' ∧ v < 6 ∧ rest % 7 = v ∧ rest / 7 = en_c k m') := by
      intro m e hwy
      cases m with
      | nil =>
        have e2 : rest = 6 + 7 * en_c k [] := e
        exact Or.inl ⟨rfl, by omega, by omega⟩
      | cons v m' =>
        have hv : v < 6 := wy_lt hwy v (by simp)
        have e2 : rest = v + 7 * en_c k m' := e
        exact Or.inr ⟨v, m', rfl, hv, by omega, by omega⟩
    refine br_f (nI_ge (b := 4) (by omega) (by decide)) ⟨by decide, nm_r (pk_rem (d := 7) hr2 (by decide) (by decide)) ⟨by decide, nm_r (pk_div (d := 7) hr2 (by decide) (by decide)) (pk_le 6 (rest % 7) (fun hv => ?_) (fun hv => br_f (by decide) ?_))⟩⟩
    · -- the digit 6: the way has no more places between
      have h6 : rest % 7 = 6 := by omega
      have H : wY_look_33 post (nI t) (nI c) yL yw yu n (nI (rest / 7)) (nI (mk_s a (2 ^ s ||| 2 ^ t))) (nI (a.getLastD s)) (nI (gr_ln g s a)) (nI (cd_n (s :: a))) (nI (a.length + 1)) 1 (nI 1) (nI (j + 1)) := by
        refine ih n (rest / 7) (j + 1) a 1 (by omega) (by omega) hd hdk (by omega) (Or.inr rfl) hnd ht hlt hw (fun m z hm hm1 hme hwy hz => ?_) (fun hn2 => hno (fun m hm hm1 hme hwy => ?_))
        · have em := hm1 rfl
          subst em
          refine hyes [] z (by simp) (fun _ => rfl) ?_ hwy hz
          show rest = 6 + 7 * en_c k []
          omega
        · rcases hfirst m hme hwy with ⟨em, _, e2⟩ | ⟨v, m', _, hv6, e1, _⟩
          · subst em
            exact hn2 [] (by simp) (fun _ => rfl) e2 hwy
          · omega
      rcases hen with e0 | e0
      · subst e0
        exact br_t rfl (pk_eq (rest % 7) 6 (fun _ => nm_r (nI_1 j) H) (fun h => absurd h6 h))
      · subst e0
        exact br_f (by decide) (nm_r (nI_1 j) H)
    · -- a place
      have hv7 : vp_in ((6 * nI (a.getLastD s)) + nI (rest % 7)) 36 := iy_in (by omega) (by decide)
      have bad : (∀ m, m.length ≤ k + 1 → (en = 1 → m = []) → rest = en_c (k + 1) m → ¬ wy_is g s t (s :: (a ++ (m ++ [t])))) → ∀ x11, wY_look_101 post (wY_look_33 post (nI t) (nI c) yL yw yu n) (nI t) (nI (rest / 7)) (nI (mk_s a (2 ^ s ||| 2 ^ t))) (nI (a.getLastD s)) (nI (gr_ln g s a)) (nI (cd_n (s :: a))) (nI (a.length + 1)) x11 (nI j) (nI (rest % 7)) 0 (nI c) yL yw yu := by
        intro hb x11
        refine ⟨hv7, nm_e (nm_e (nm_e (nm_e ?_)))⟩
        exact lk_149 (fun x11 => lk_bad (hno hb) k n (rest / 7) (rest % 7) (j + 1) _ _ _ _ _ (by omega) (by omega) (by omega) hd)
      rcases hen with e0 | e0
      · subst e0
        have hm64 : mk_s a (2 ^ s ||| 2 ^ t) < 64 := mk_64 _ _ (Nat.or_lt_two_pow (n := 6) (Nat.pow_lt_pow_right (by decide) hp.1) (Nat.pow_lt_pow_right (by decide) hp.2.1)) (fun x hx => hlt x (List.mem_cons_of_mem _ hx))
        have hbit : (mk_s a (2 ^ s ||| 2 ^ t)).testBit (rest % 7) = true ↔ rest % 7 ∈ s :: a ∨ rest % 7 = t := by
          rw [mk_bit, Nat.testBit_or, Nat.testBit_two_pow, Nat.testBit_two_pow, List.mem_cons]
          simp
          constructor
          · rintro ((h | h) | h)
            · exact Or.inl (Or.inl h.symm)
            · exact Or.inr h.symm
            · exact Or.inl (Or.inr h)
          · rintro ((h | h) | h)
            · exact Or.inl (Or.inl h.symm)
            · exact Or.inr h
            · exact Or.inl (Or.inr h.symm)
        refine br_t rfl ?_
        cases hb : (mk_s a (2 ^ s ||| 2 ^ t)).testBit (rest % 7) with
        | true =>
          refine br_f (fun z => by rw [tb_6 (rest % 7) (by omega) _ hm64, hb] at z; cases z) (bad (fun m _ _ hme hwy => ?_) _)
          rcases hfirst m hme hwy with ⟨em, e1, e2⟩ | ⟨v, m', em, hv6, e1, _⟩
          · omega
          · subst em
            have hin := hbit.mp hb
            rw [e1] at hin
            have hn2 := hwy.2.2.2.1
            rw [← List.cons_append] at hn2
            have hn3 := List.nodup_append.mp hn2
            rcases hin with hin | hin
            · exact hn3.2.2 v hin v (by simp) rfl
            · have hn4 := hn3.2.1
              rw [List.cons_append] at hn4
              exact (List.nodup_cons.mp hn4).1 (by rw [hin]; simp)
        | false =>
          have hnin : ¬ (rest % 7 ∈ s :: a ∨ rest % 7 = t) := fun h => by rw [hbit.mpr h] at hb; cases hb
          have hgi := hg (6 * (a.getLastD s) + rest % 7)
          have eL := iy_L hL hla hv
          refine br_t ((tb_6 (rest % 7) (by omega) _ hm64).mpr hb) ⟨hv7, pk_le (g (6 * (a.getLastD s) + rest % 7)) 0 (fun hz => bad (fun m _ _ hme hwy => ?_) _) (fun hz => ⟨hv7, ?_⟩) eL rfl (by omega) (by decide)⟩
          · rcases hfirst m hme hwy with ⟨em, e1, e2⟩ | ⟨v, m', em, hv6, e1, _⟩
            · omega
            · subst em
              obtain ⟨_, _, _, _, r, e, hwk⟩ := hwy
              have e2 := (List.cons.inj e).2
              rw [← e2] at hwk
              have h1 := (gr_app1 hwk).1
              rw [e1] at hz
              omega
          · -- on to the place
            have elen : (a ++ [rest % 7]).length = a.length + 1 := by simp
            have elast : (a ++ [rest % 7]).getLastD s = rest % 7 := by simp
            have hl16 : ∀ x, x ∈ s :: a → x < 16 := fun x hx => by have := hlt x hx; omega
            have e4 : (4 : Int32) * nI (a.length + 1) = nI (4 * (s :: a).length) := by
              show nI 4 * _ = _
              rw [pk_mul]; rfl
            refine nm_r (e' := nI (gr_ln g s (a ++ [rest % 7]))) ?_ (nm_r (e' := nI (mk_s (a ++ [rest % 7]) (2 ^ s ||| 2 ^ t))) ?_ (nm_r (cd_or (l := s :: a) (v := rest % 7) hl16 (by rw [List.length_cons]; omega) (by omega) e4) (nm_r (nI_1 (a.length + 1)) (br_t rfl (pk_eq (rest % 7) 6 (fun h => absurd h (by omega)) (fun _ => nm_r (nI_1 j) ?_))))))
            · rw [eL, nI_add]
              exact congrArg nI ad_lp.symm
            · rw [sh_1 _ hv, nx_or, mk_app]
              rfl
            · have h := ih n (rest / 7) (j + 1) (a ++ [rest % 7]) 0 (by omega) (by omega) hd hdk (by omega) (Or.inl rfl) (by
                rw [← List.cons_append]
                refine List.nodup_append.mpr ⟨hnd, by simp, fun x hx y hy e => ?_⟩
                have e2 : y = rest % 7 := by simpa using hy
                rw [e, e2] at hx
                exact hnin (Or.inl hx)) (by
                intro h
                rw [← List.cons_append] at h
                rcases List.mem_append.mp h with h | h
                · exact ht h
                · have e2 : t = rest % 7 := by simpa using h
                  exact hnin (Or.inr e2.symm)) (by
                intro x hx
                rw [← List.cons_append] at hx
                rcases List.mem_append.mp hx with h | h
                · exact hlt x h
                · have e2 : x = rest % 7 := by simpa using h
                  omega) (by
                intro r hr3
                rw [elast] at hr3
                have h := hw (rest % 7 :: r) ⟨hz, hv, Nat.zero_testBit _, hr3⟩
                rw [List.append_assoc]
                exact h) (fun m z hm _ hme hwy hz2 => by
                have el : a ++ [rest % 7] ++ (m ++ [t]) = a ++ ((rest % 7 :: m) ++ [t]) := by simp
                rw [el] at hwy hz2 ⊢
                refine hyes (rest % 7 :: m) z (by rw [List.length_cons]; omega) (fun h => absurd h (by decide)) ?_ hwy hz2
                show rest = rest % 7 + 7 * en_c k m
                omega) (fun hn2 => hno (fun m hm _ hme hwy => by
                rcases hfirst m hme hwy with ⟨em, e1, e2⟩ | ⟨v, m', em, hv6, e1, e2⟩
                · omega
                · subst em
                  rw [List.length_cons] at hm
                  refine hn2 m' (by omega) (fun h => absurd h (by decide)) e2 ?_
                  rw [e1]
                  have el : a ++ [v] ++ (m' ++ [t]) = a ++ ((v :: m') ++ [t]) := by simp
                  rw [el]
                  exact hwy))
              rw [elen, elast] at h
              exact h
      · subst e0
        refine br_f (by decide) (bad (fun m _ hm1 hme hwy => ?_) _)
        rcases hfirst m hme hwy with ⟨em, e1, e2⟩ | ⟨v, m', em, _, _, _⟩
        · omega
        · rw [hm1 rfl] at em
          cases em
theorem lk_all {code : Nat} (hg : ∀ i, g i ≤ 20) (hL : ∀ i, yL i = nI (g i)) (hp : s < 6 ∧ t < 6 ∧ s ≠ t) (hcode : code < 2401)
    (hyes : ∀ p z, wy_is g s t p → en_p p = code → yw_z p z → c < 65 ∧ post (nI (c + 1), yL, upd yw c (nI z), upd yu c (nI (gr_lp g p))))
    (hno : (∀ p, wy_is g s t p → en_p p ≠ code) → post (nI c, yL, yw, yu)) : wpY_look post (nI c, yL, yw, yu) (nI s) (nI t) (nI code) := by
  refine nm_r (e' := nI (2 ^ s ||| 2 ^ t)) (by rw [sh_1 s hp.1, sh_1 t hp.2.1, nx_or]) ⟨5, ?_⟩
  refine lk_ok hg hL hp 4 5 code 0 [] 0 rfl (by decide) (by omega) hcode (by decide) (Or.inl rfl) (by simp) (by simp; exact fun e => hp.2.2 e.symm) (fun x hx => ?_) (fun r hr => hr) (fun m z _ _ hm hwy hz => hyes _ z hwy (en_pm.trans hm.symm) hz) (fun h => hno (fun p hwy e => ?_))
  · have e : x = s := by simpa using hx
    rw [e]; exact hp.1
  · obtain ⟨m, rfl⟩ := wy_mid hwy
    exact h m (en_pfacts hwy).1 (fun h2 => absurd h2 (by decide)) (e.symm.trans en_pm) hwy
/-- Y's arrays hold the ways ys -/
def yl_is (g : Nat → Nat) (ys : List (List Nat)) (yw yu : Nat → Int32) : Prop := ∀ w p, ys[w]? = some p → yw_is g yw yu w p
theorem yl_add {ys : List (List Nat)} {p : List Nat} {z : Nat} (h : yl_is g ys yw yu) (hz : yw_z p z) : yl_is g (ys ++ [p]) (upd yw ys.length (nI z)) (upd yu ys.length (nI (gr_lp g p))) := by
  intro w q hw
  have hl := (List.getElem?_eq_some_iff.mp hw).1
  rw [List.length_append, List.length_singleton] at hl
  rcases Nat.lt_or_ge w ys.length with h1 | h1
  · rw [List.getElem?_append_left h1] at hw
    obtain ⟨h2, h3⟩ := h w q hw
    unfold yw_is
    rw [pk_un (by omega), pk_un (by omega)]
    exact ⟨h2, h3⟩
  · have e : w = ys.length := by omega
    subst e
    have e2 : p = q := by simpa using hw
    subst e2
    unfold yw_is
    rw [pk_us, pk_us]
    exact ⟨⟨z, rfl, hz⟩, rfl⟩
theorem ls_7 (hg : ∀ i, g i ≤ 20) (hL : ∀ i, yL i = nI (g i)) (hp : s < 6 ∧ t < 6 ∧ s ≠ t) (h : ∀ ys yw yu, en_L g s t 2401 ys → yl_is g ys yw yu → post (nI ys.length, yL, yw, yu)) :
    ∀ n code ys yw yu, code ≤ 2401 → 2401 - code < n → en_L g s t code ys → yl_is g ys yw yu → wY_list_7 post (nI s) (nI t) n (nI code) (nI ys.length) yL yw yu := by
  intro n
  induction n with
  | zero => intro code ys yw yu _ hn; omega
  | succ n ih =>
    intro code ys yw yu hcode hn hI hy
    rcases Nat.lt_or_ge code 2401 with hlt | hge
    · refine br_f (nI_ge (b := 2401) hlt (by decide)) (yp_any (fun s' t' e1 e2 h1 h2 h3 => ?_) (fun hno => (hno s t rfl rfl hp.1 hp.2.1 hp.2.2).elim))
      refine br_f (by decide) (lk_all hg hL hp hlt (fun p z hwy e hz => ?_) (fun hno => ?_))
      · have I2 := en_La hI hwy e
        have h65 := en_L65 hp I2
        rw [List.length_append, List.length_singleton] at h65
        refine ⟨by omega, nm_r (nI_1 code) ?_⟩
        have h4 := ih (code + 1) (ys ++ [p]) _ _ (by omega) (by omega) I2 (yl_add hy hz)
        rw [List.length_append, List.length_singleton] at h4
        exact h4
      · exact nm_r (nI_1 code) (ih (code + 1) ys yw yu (by omega) (by omega) (en_Ls hI hno) hy)
    · have e : code = 2401 := by omega
      subst e
      exact br_t (nI_le (by omega) (by decide)) (h ys yw yu hI hy)
theorem ls_all {p0 p1 yc : Int32} {xs : List (List Nat)} (hg : ∀ i, g i ≤ 20) (hL : ∀ i, yL i = nI (g i)) (hs : sa_is g p0 p1 xs) (h : ∀ ys yw yu, ys.Perm xs → yl_is g ys yw yu → post (nI ys.length, yL, yw, yu)) : wpY_list post (yc, yL, yw, yu) p0 p1 := by
  by_cases hp : ∃ s t, p0 = nI s ∧ p1 = nI t ∧ s < 6 ∧ t < 6 ∧ s ≠ t
  · obtain ⟨s, t, e1, e2, h1, h2, h3⟩ := hp
    subst e1 e2
    refine ⟨2402, ls_7 hg hL ⟨h1, h2, h3⟩ (fun ys yw yu hI hy => ?_) 2402 0 [] yw yu (by omega) (by omega) en_L0 (fun w p hw => by simp at hw)⟩
    have hf := en_Lfin hI
    exact h ys yw yu (sa_per hs hf.1 (fun p => (hf.2 p).trans (sa_pair h1 h2).symm)) hy
  · have hno : pr_no p0 p1 := fun s t e1 e2 h1 h2 h3 => hp ⟨s, t, e1, e2, h1, h2, h3⟩
    have e := sa_no hs hno
    refine ⟨1, br_f (by decide) (yp_any (fun s t e1 e2 h1 h2 h3 => (hno s t e1 e2 h1 h2 h3).elim) (fun _ => br_t rfl ?_))⟩
    exact h [] yw yu (by rw [e]) (fun w p hw => by simp at hw)
end
end
section
/-! Y: the methods over the listed ways -/
section
variable {yL yw yu : Nat → Int32} {yc : Int32} {g : Nat → Nat} {s t w : Nat} {p q : List Nat}
theorem ym_digit {post : Int32 → Prop} {i x : Nat} (hw : w < 65) (hy : yw_is g yw yu w p) (hi : p[i]? = some x) (h6 : i < 6) (h : post (nI x)) : wpY_digit post (yc, yL, yw, yu) (nI w) (nI i) := by
  obtain ⟨⟨z, ez, hz, hd⟩, _⟩ := hy
  have e : ((yw (nI w).toNatClampNeg) >>> ((4 * nI i) &&& 31)) &&& 15 = nI x := by
    have e1 : (4 : Int32) * nI i = nI (4 * i) := by
      show nI 4 * _ = _
      exact pk_mul 4 i
    rw [nI_clamp (by omega), ez, e1, pk_shrN (by omega) _ (4 * i) (s_l _ (by omega)), pk_andN (Nat.lt_of_le_of_lt (Nat.div_le_self _ _) (by omega)) 4 (by decide), Nat.pow_mul]
    exact congrArg nI (hd i x hi)
  refine ⟨vp_in_nI hw (by decide), ?_⟩
  rw [e]
  exact h
theorem ym_b38 {post : Int32 → Prop} {v : Nat} (hp : wy_is g s t p) (hq : wy_is g s t q) (hv : v < 65) (hw : w < 65) (cp : yw_is g yw yu v p) (cq : yw_is g yw yu w q) (hne : p ≠ q) (h1 : lx_b p q = true → post 1) (h0 : lx_b q p = true → post 0) :
    ∀ p' u q' n, p = u ++ p' → q = u ++ q' → p'.length < n → wY_before_38 post (nI v) (nI w) yc yL yw yu n (nI u.length) := by
  intro p'
  induction p' with
  | nil =>
    intro u q' n e1 e2 _
    rw [List.append_nil] at e1
    rw [← e1] at e2
    have h := sa_pre hp hq q' e2
    rw [h, List.append_nil] at e2
    exact absurd e2.symm hne
  | cons x p' ih =>
    intro u q' n e1 e2 hn
    rw [List.length_cons] at hn
    obtain ⟨n, rfl⟩ : ∃ n', n = n' + 1 := ⟨n - 1, by omega⟩
    cases q' with
    | nil =>
      rw [List.append_nil] at e2
      rw [← e2] at e1
      exact absurd (sa_pre hq hp _ e1) (by simp)
    | cons y q' =>
      have h6 := wy_six hp
      rw [e1, List.length_append, List.length_cons] at h6
      have hx : p[u.length]? = some x := by rw [e1]; simp
      have hy : q[u.length]? = some y := by rw [e2]; simp
      have hx6 := wy_lt hp x (List.mem_of_getElem? hx)
      have hy6 := wy_lt hq y (List.mem_of_getElem? hy)
      refine br_f (nI_ge (b := 6) (by omega) (by decide)) (ym_digit hv cp hx (by omega) (ym_digit hw cq hy (by omega) (pk_eq x y (fun e => nm_r (nI_1 u.length) ?_) (fun hxy => ym_digit hv cp hx (by omega) (ym_digit hw cq hy (by omega) (pk_le y x (fun h => h0 ?_) (fun h => h1 ?_)))))))
      · subst e
        have h := ih (u ++ [x]) q' n (by rw [e1]; simp) (by rw [e2]; simp) (by omega)
        rw [show (u ++ [x]).length = u.length + 1 by simp] at h
        exact h
      · rw [e1, e2, lx_pre, lx_cc]
        exact Or.inl (by omega)
      · rw [e1, e2, lx_pre, lx_cc]
        exact Or.inl (by omega)
theorem ym_before {post : Int32 → Prop} {v : Nat} (hg : ∀ i, g i ≤ 20) (hp : wy_is g s t p) (hq : wy_is g s t q) (hv : v < 65) (hw : w < 65) (cp : yw_is g yw yu v p) (cq : yw_is g yw yu w q) (hne : p ≠ q) (h1 : bf_b g p q = true → post 1) (h0 : bf_b g q p = true → post 0) : wpY_before post (yc, yL, yw, yu) (nI v) (nI w) := by
  have i1 : vp_in (nI v) 65 := vp_in_nI hv (by decide)
  have i2 : vp_in (nI w) 65 := vp_in_nI hw (by decide)
  have e1 : yu (nI v).toNatClampNeg = nI (gr_lp g p) := by rw [nI_clamp (by omega)]; exact cp.2
  have e2 : yu (nI w).toNatClampNeg = nI (gr_lp g q) := by rw [nI_clamp (by omega)]; exact cq.2
  have l1 := wy_100 hg hp
  have l2 := wy_100 hg hq
  have l3 := wy_six hp
  refine ⟨i1, i2, pk_eq (gr_lp g p) (gr_lp g q) (fun e => ⟨7, ?_⟩) (fun e => ⟨i1, i2, pk_le (gr_lp g q) (gr_lp g p) (fun h => h0 (bf_if.mpr (Or.inl (by omega)))) (fun h => h1 (bf_if.mpr (Or.inl (by omega)))) e2 e1 (by omega) (by omega)⟩) e1 e2 (by omega) (by omega)⟩
  exact ym_b38 hp hq hv hw cp cq hne (fun h => h1 (bf_if.mpr (Or.inr ⟨e, h⟩))) (fun h => h0 (bf_if.mpr (Or.inr ⟨e.symm, h⟩))) p [] q 7 rfl rfl (by omega)
theorem wy_tl {a v : List Nat} (h : wy_is g s t (a ++ t :: v)) : v = [] := by
  have h2 : wy_is g s t ((a ++ [t]) ++ v) := by rw [List.append_assoc]; exact h
  obtain ⟨_, _, hne, hn, r, e, hw⟩ := h
  cases a with
  | nil =>
    have e2 : t = s := (List.cons.inj e).1
    exact absurd e2.symm hne
  | cons s' a =>
    have es : s' = s := (List.cons.inj e).1
    have er : a ++ t :: v = r := (List.cons.inj e).2
    rw [← er] at hw
    have hw2 := (gr_app1 hw).2.2.2
    cases v with
    | nil => rfl
    | cons y v =>
      obtain ⟨m, em⟩ := gr_end hw2 (by simp)
      have hn2 := (List.nodup_append.mp hn).2.1
      exact absurd (by rw [em]; simp) (List.nodup_cons.mp hn2).1
theorem ym_z2 {post : Int32 → Prop} (hp : wy_is g s t p) (hw : w < 65) (cp : yw_is g yw yu w p) (h : post (nI p.length)) :
    ∀ v u n, p = u ++ v → v.length < n → (∀ y, y ∈ u → y ≠ t) → wY_sizeOf_2 post (nI w) (nI t) yc yL yw yu n (nI u.length) := by
  have h6 := wy_six hp
  have htin : t ∈ p := by
    obtain ⟨m, e⟩ := wy_mid hp
    rw [e]; simp
  intro v
  induction v with
  | nil =>
    intro u n e hn hu
    rw [List.append_nil] at e
    rw [e] at htin
    exact absurd rfl (hu t htin)
  | cons x v ih =>
    intro u n e hn hu
    rw [List.length_cons] at hn
    obtain ⟨n, rfl⟩ : ∃ n', n = n' + 1 := ⟨n - 1, by omega⟩
    have hx : p[u.length]? = some x := by rw [e]; simp
    have hlen : p.length = u.length + (v.length + 1) := by rw [e]; simp
    have hx6 := wy_lt hp x (List.mem_of_getElem? hx)
    have ht6 := hp.2.1
    refine pk_le 5 u.length (fun h5 => ?_) (fun h5 => ym_digit hw cp hx (by omega) (pk_eq x t (fun ext => ?_) (fun hxt => nm_r (nI_1 u.length) ?_)))
    · rw [nI_1, show u.length + 1 = p.length by omega]
      exact h
    · rw [ext] at e
      have hv : v = [] := by
        rw [e] at hp
        exact wy_tl hp
      rw [hv, List.length_nil] at hlen
      rw [nI_1, show u.length + 1 = p.length by omega]
      exact h
    · have h4 := ih (u ++ [x]) n (by rw [e]; simp) (by omega) (fun y hy => ?_)
      · rw [show (u ++ [x]).length = u.length + 1 by simp] at h4
        exact h4
      · rcases List.mem_append.mp hy with hy | hy
        · exact hu y hy
        · have e2 : y = x := by simpa using hy
          rw [e2]; exact hxt
theorem ym_sizeOf {post : Int32 → Prop} (hp : wy_is g s t p) (hw : w < 65) (cp : yw_is g yw yu w p) (h : post (nI p.length)) : wpY_sizeOf post (yc, yL, yw, yu) (nI w) (nI t) :=
  ⟨p.length + 1, ym_z2 hp hw cp h p [] (p.length + 1) rfl (by omega) (fun y hy => by cases hy)⟩
theorem ym_t14 {post : Int32 → Prop} {x : Nat} (hx6 : x < 6) (hp : wy_is g s t p) (hw : w < 65) (cp : yw_is g yw yu w p) (h1 : x ∈ p → post 1) (h0 : x ∉ p → post 0) :
    ∀ v u n b, p = u ++ v → v.length < n → ((b = 1 ∧ x ∈ u) ∨ (b = 0 ∧ x ∉ u)) → wY_through_14 post (nI w) (nI x) (nI p.length) yc yL yw yu n (nI b) (nI u.length) := by
  have h6 := wy_six hp
  intro v
  induction v with
  | nil =>
    intro u n b e hn hb
    obtain ⟨n, rfl⟩ : ∃ n', n = n' + 1 := ⟨n - 1, by rw [List.length_nil] at hn; omega⟩
    rw [List.append_nil] at e
    subst e
    rcases hb with ⟨e, hb⟩ | ⟨e, hb⟩
    · subst e
      exact br_t (Int32.le_refl _) ⟨rfl, h1 hb⟩
    · subst e
      exact br_t (Int32.le_refl _) ⟨rfl, h0 hb⟩
  | cons y v ih =>
    intro u n b e hn hb
    rw [List.length_cons] at hn
    obtain ⟨n, rfl⟩ : ∃ n', n = n' + 1 := ⟨n - 1, by omega⟩
    have hy : p[u.length]? = some y := by rw [e]; simp
    have hlen : p.length = u.length + (v.length + 1) := by rw [e]; simp
    have hy6 := wy_lt hp y (List.mem_of_getElem? hy)
    have e3 : (u ++ [y]).length = u.length + 1 := by simp
    have e2 : p = (u ++ [y]) ++ v := by rw [e]; simp
    refine br_f (nI_ge (by omega) (by omega)) ?_
    rcases hb with ⟨eb, hb⟩ | ⟨eb, hb⟩
    · subst eb
      have h4 := ih (u ++ [y]) n 1 e2 (by omega) (Or.inl ⟨rfl, List.mem_append_left _ hb⟩)
      rw [e3] at h4
      exact br_f (by decide) (nm_r (nI_1 u.length) h4)
    · subst eb
      refine br_t rfl (ym_digit hw cp hy (by omega) (pk_eq y x (fun exy => nm_r (nI_1 u.length) ?_) (fun hxy => nm_r (nI_1 u.length) ?_)))
      · have h4 := ih (u ++ [y]) n 1 e2 (by omega) (Or.inl ⟨rfl, by rw [exy]; simp⟩)
        rw [e3] at h4
        exact h4
      · have h4 := ih (u ++ [y]) n 0 e2 (by omega) (Or.inr ⟨rfl, fun hin => by
          rcases List.mem_append.mp hin with h5 | h5
          · exact hb h5
          · have e5 : x = y := by simpa using h5
            exact hxy e5.symm⟩)
        rw [e3] at h4
        exact h4
theorem ym_through {post : Int32 → Prop} {x : Nat} (hx6 : x < 6) (hp : wy_is g s t p) (hw : w < 65) (cp : yw_is g yw yu w p) (h1 : x ∈ p → post 1) (h0 : x ∉ p → post 0) : wpY_through post (yc, yL, yw, yu) (nI w) (nI x) (nI t) := by
  unfold wpY_through
  exact ym_sizeOf hp hw cp ⟨p.length + 1, ym_t14 hx6 hp hw cp h1 h0 p [] (p.length + 1) 0 rfl (by omega) (Or.inr ⟨rfl, by simp⟩)⟩
end
section
variable {yL yw yu : Nat → Int32} {g : Nat → Nat} {p0 p1 p2 p3 : Int32} {xs ys : List (List Nat)}
/-- two listed ways go from and to the same places -/
theorem ym_el (hs : sa_is g p0 p1 xs) (hP : ys.Perm xs) {w : Nat} {p : List Nat} (hw : ys[w]? = some p) : w < 65 ∧ ∃ s t, p0 = nI s ∧ p1 = nI t ∧ wy_is g s t p := by
  have h65 := sa_65 hs
  rw [← hP.length_eq] at h65
  have hl := (List.getElem?_eq_some_iff.mp hw).1
  exact ⟨by omega, (hs.2 p).mp (hP.mem_iff.mp (List.mem_of_getElem? hw))⟩
theorem ym_wy (hs : sa_is g p0 p1 xs) (hP : ys.Perm xs) {w s t : Nat} {p : List Nat} (hw : ys[w]? = some p) (e1 : p0 = nI s) (e2 : p1 = nI t) (h1 : s < 6) (h2 : t < 6) : wy_is g s t p := by
  have h := (hs.2 p).mp (hP.mem_iff.mp (List.mem_of_getElem? hw))
  rw [e1, e2] at h
  exact (sa_pair h1 h2).mp h
theorem ym_nd (hs : sa_is g p0 p1 xs) (hP : ys.Perm xs) : ys.Nodup := hP.nodup_iff.mpr (sa_nd hs)
theorem ym_r4 {post : Int32 → Prop} {w : Nat} {p : List Nat} (hg : ∀ i, g i ≤ 20) (hs : sa_is g p0 p1 xs) (hP : ys.Perm xs) (hl : yl_is g ys yw yu) (hw : ys[w]? = some p) (h : post (nI (ys.countP (fun q => bf_b g q p)))) :
    ∀ v u n, ys = u ++ v → v.length < n → wY_rank_4 post (nI w) (nI ys.length) yL yw yu n (nI (u.countP (fun q => bf_b g q p))) (nI u.length) := by
  have h65 := sa_65 hs
  rw [← hP.length_eq] at h65
  obtain ⟨hw65, s, t, e1, e2, hway⟩ := ym_el hs hP hw
  intro v
  induction v with
  | nil =>
    intro u n e hn
    obtain ⟨n, rfl⟩ : ∃ n', n = n' + 1 := ⟨n - 1, by rw [List.length_nil] at hn; omega⟩
    rw [List.append_nil] at e
    subst e
    exact br_t (Int32.le_refl _) h
  | cons q v ih =>
    intro u n e hn
    rw [List.length_cons] at hn
    obtain ⟨n, rfl⟩ : ∃ n', n = n' + 1 := ⟨n - 1, by omega⟩
    have hq : ys[u.length]? = some q := by rw [e]; simp
    have hul := (List.getElem?_eq_some_iff.mp hq).1
    have h4 := ih (u ++ [q]) n (by rw [e]; simp) (by omega)
    rw [show (u ++ [q]).length = u.length + 1 by simp, List.countP_append, List.countP_singleton] at h4
    refine br_f (nI_ge hul (by omega)) (pk_eq u.length w (fun euw => nm_r (nI_1 u.length) ?_) (fun huw => ?_))
    · have eqp : q = p := by
        rw [euw, hw] at hq
        exact (Option.some.inj hq).symm
      rw [eqp, if_neg (bf_irr p)] at h4
      exact h4
    · have hne : q ≠ p := by
        intro eqp
        have hnd := ym_nd hs hP
        rw [eqp] at hq
        exact huw ((List.getElem?_inj hul hnd).mp (hq.trans hw.symm))
      have hwayq := ym_wy hs hP hq e1 e2 hway.1 hway.2.1
      refine ym_before hg hwayq hway (ym_el hs hP hq).1 hw65 (hl _ _ hq) (hl _ _ hw) hne (fun hb => br_f (by decide) (nm_r (nI_1 _) (nm_r (nI_1 u.length) ?_))) (fun hb => br_t rfl (nm_r (nI_1 u.length) ?_))
      · rw [if_pos hb] at h4
        exact h4
      · rw [if_neg (bf_as hb)] at h4
        exact h4
theorem ym_rank {post : Int32 → Prop} {w k : Nat} {p : List Nat} (hg : ∀ i, g i ≤ 20) (hs : sa_is g p0 p1 xs) (hP : ys.Perm xs) (hl : yl_is g ys yw yu) (hw : ys[w]? = some p) (hk : xs[k]? = some p) (h : post (nI k)) : wpY_rank post (nI ys.length, yL, yw, yu) (nI w) := by
  refine ⟨ys.length + 1, ym_r4 hg hs hP hl hw ?_ ys [] (ys.length + 1) rfl (by omega)⟩
  rw [hP.countP_eq, sa_cnt xs k p hs.1 hk]
  exact h
theorem ym_idx (hP : ys.Perm xs) {w : Nat} {p : List Nat} (hw : ys[w]? = some p) : ∃ k, k < xs.length ∧ xs[k]? = some p := by
  obtain ⟨k, hk⟩ := List.getElem?_of_mem (hP.mem_iff.mp (List.mem_of_getElem? hw))
  exact ⟨k, (List.getElem?_eq_some_iff.mp hk).1, hk⟩
theorem ym_f9 {post : Int32 → SY → Prop} (hg : ∀ i, g i ≤ 20) (hs : sa_is g p0 p1 xs) (hP : ys.Perm xs) (hl : yl_is g ys yw yu)
    (hy : ∀ w p, ys[w]? = some p → sa_at xs p2 = some p → post (nI w) (nI ys.length, yL, yw, yu))
    (hn : sa_at xs p2 = none → post (-1) (nI ys.length, yL, yw, yu)) :
    ∀ v u n, ys = u ++ v → v.length < n → (∀ p, p ∈ u → sa_at xs p2 ≠ some p) → wY_find_9 post p2 (nI ys.length) yL yw yu n (nI u.length) := by
  have h65 := sa_65 hs
  intro v
  induction v with
  | nil =>
    intro u n e hn2 hu
    obtain ⟨n, rfl⟩ : ∃ n', n = n' + 1 := ⟨n - 1, by rw [List.length_nil] at hn2; omega⟩
    rw [List.append_nil] at e
    subst e
    refine br_t (Int32.le_refl _) (hn ?_)
    cases e : sa_at xs p2 with
    | none => rfl
    | some p =>
      obtain ⟨k, _, _, hk⟩ := sa_atm e
      exact absurd e (hu p (hP.mem_iff.mpr (List.mem_of_getElem? hk)))
  | cons p v ih =>
    intro u n e hn2 hu
    rw [List.length_cons] at hn2
    obtain ⟨n, rfl⟩ : ∃ n', n = n' + 1 := ⟨n - 1, by omega⟩
    have hw : ys[u.length]? = some p := by rw [e]; simp
    have hul := (List.getElem?_eq_some_iff.mp hw).1
    have hul65 := (ym_el hs hP hw).1
    have hlen := hP.length_eq
    obtain ⟨k, hk, hxk⟩ := ym_idx hP hw
    refine br_f (nI_ge hul (by omega)) (ym_rank hg hs hP hl hw hxk (br_c (fun ek => hy u.length p hw ?_) (fun ek => nm_r (nI_1 u.length) ?_)))
    · rw [← ek, sa_atk (by omega)]
      exact hxk
    · have h4 := ih (u ++ [p]) n (by rw [e]; simp) (by omega) (fun q hq => ?_)
      · rw [show (u ++ [p]).length = u.length + 1 by simp] at h4
        exact h4
      · rcases List.mem_append.mp hq with hq | hq
        · exact hu q hq
        · have e2 : q = p := by simpa using hq
          rw [e2]
          intro e3
          obtain ⟨k', _, ek', hk'⟩ := sa_atm e3
          rw [sa_inj hs hxk hk'] at ek
          exact ek ek'.symm
/-- Y's invariant -/
theorem ym_find {post : Int32 → SY → Prop} {yc : Int32} (hg : ∀ i, g i ≤ 20) (hL : ∀ i, yL i = nI (g i)) (hs : sa_is g p0 p1 xs)
    (hy : ∀ w p ys yw yu, ys.Perm xs → yl_is g ys yw yu → ys[w]? = some p → sa_at xs p2 = some p → post (nI w) (nI ys.length, yL, yw, yu))
    (hn : ∀ c yw yu, sa_at xs p2 = none → post (-1) (c, yL, yw, yu)) : wpY_find post (yc, yL, yw, yu) p0 p1 p2 := by
  unfold wpY_find
  refine ls_all hg hL hs (fun ys yw yu hP hl => ⟨ys.length + 1, ?_⟩)
  exact ym_f9 hg hs hP hl (fun w p h1 h2 => hy w p ys yw yu hP hl h1 h2) (fun h => hn _ _ _ h) ys [] (ys.length + 1) rfl (by omega) (fun p hp => by cases hp)
theorem ym_ways {post : Int32 → SY → Prop} {yc : Int32} (hg : ∀ i, g i ≤ 20) (hL : ∀ i, yL i = nI (g i)) (hs : sa_is g p0 p1 xs) (h : ∀ c yw yu, post (nI xs.length) (c, yL, yw, yu)) : wpY_ways post (yc, yL, yw, yu) p0 p1 := by
  unfold wpY_ways
  refine ls_all hg hL hs (fun ys yw yu hP hl => ?_)
  have h4 := h (nI ys.length) yw yu
  rw [← hP.length_eq] at h4
  exact h4
theorem ym_length {post : Int32 → SY → Prop} {yc : Int32} (hg : ∀ i, g i ≤ 20) (hL : ∀ i, yL i = nI (g i)) (hs : sa_is g p0 p1 xs) (h : ∀ c yw yu, post (an_len g (sa_at xs p2)) (c, yL, yw, yu)) : wpY_length post (yc, yL, yw, yu) p0 p1 p2 := by
  unfold wpY_length
  refine ym_find hg hL hs (fun w p ys yw yu hP hl hw e => ?_) (fun c yw yu e => ?_)
  · have h4 := h (nI ys.length) yw yu
    rw [e] at h4
    have h65 := (ym_el hs hP hw).1
    refine br_t (nI_pos' (by omega)) ⟨vp_in_nI h65 (by decide), ?_⟩
    rw [nI_clamp (by omega), (hl w p hw).2]
    exact h4
  · have h4 := h c yw yu
    rw [e] at h4
    exact br_f (by decide) h4
theorem ym_size {post : Int32 → SY → Prop} {yc : Int32} (hg : ∀ i, g i ≤ 20) (hL : ∀ i, yL i = nI (g i)) (hs : sa_is g p0 p1 xs) (h : ∀ c yw yu, post (an_size (sa_at xs p2)) (c, yL, yw, yu)) : wpY_size post (yc, yL, yw, yu) p0 p1 p2 := by
  unfold wpY_size
  refine ym_find hg hL hs (fun w p ys yw yu hP hl hw e => ?_) (fun c yw yu e => ?_)
  · have h4 := h (nI ys.length) yw yu
    rw [e] at h4
    obtain ⟨h65, s, t, e1, e2, hway⟩ := ym_el hs hP hw
    refine br_t (nI_pos' (by omega)) ?_
    rw [e2]
    exact ym_sizeOf hway h65 (hl w p hw) h4
  · have h4 := h c yw yu
    rw [e] at h4
    exact br_f (by decide) h4
theorem ym_place {post : Int32 → SY → Prop} {yc : Int32} (hg : ∀ i, g i ≤ 20) (hL : ∀ i, yL i = nI (g i)) (hs : sa_is g p0 p1 xs) (h : ∀ c yw yu, post (an_place p3 (sa_at xs p2)) (c, yL, yw, yu)) : wpY_place post (yc, yL, yw, yu) p0 p1 p2 p3 := by
  unfold wpY_place
  refine ym_find hg hL hs (fun w p ys yw yu hP hl hw e => ?_) (fun c yw yu e => ?_)
  · have h4 := h (nI ys.length) yw yu
    rw [e] at h4
    obtain ⟨h65, s, t, e1, e2, hway⟩ := ym_el hs hP hw
    have h6 := wy_six hway
    refine br_f (nI_pos (by omega)) (br_c (fun hv => ?_) (fun hv => ?_))
    · rw [an_pn hv] at h4; exact h4
    · obtain ⟨k, hk, rfl⟩ := nI_of hv
      rw [an_pk hk] at h4
      rw [e2]
      refine ym_sizeOf hway h65 (hl w p hw) (pk_lt k p.length (fun hlt => ?_) (fun hge => ?_) rfl rfl hk (by omega))
      · have ek : p[k]? = some p[k] := List.getElem?_eq_getElem hlt
        rw [ek] at h4
        exact ym_digit h65 (hl w p hw) ek (by omega) h4
      · rw [List.getElem?_eq_none hge] at h4
        exact h4
  · have h4 := h c yw yu
    rw [e] at h4
    exact br_t (by decide) h4
end
end
section
/-! Y: the rest of the methods -/
section
variable {yL yw yu : Nat → Int32} {g : Nat → Nat} {p0 p1 p2 p3 yc : Int32} {xs ys : List (List Nat)}
theorem ym_w12 {post : Int32 → SY → Prop} (hs : sa_is g p0 p1 xs) (hP : ys.Perm xs) (hl : yl_is g ys yw yu) (h : post (an_within g ys p2) (nI ys.length, yL, yw, yu)) :
    ∀ v u n, ys = u ++ v → v.length < n → wY_within_12 post p2 (nI ys.length) yL yw yu n (nI (u.countP (an_c g p2))) (nI u.length) := by
  have h65 := sa_65 hs
  rw [← hP.length_eq] at h65
  intro v
  induction v with
  | nil =>
    intro u n e hn
    obtain ⟨n, rfl⟩ : ∃ n', n = n' + 1 := ⟨n - 1, by rw [List.length_nil] at hn; omega⟩
    rw [List.append_nil] at e
    subst e
    exact br_t (Int32.le_refl _) h
  | cons q v ih =>
    intro u n e hn
    rw [List.length_cons] at hn
    obtain ⟨n, rfl⟩ : ∃ n', n = n' + 1 := ⟨n - 1, by omega⟩
    have hq : ys[u.length]? = some q := by rw [e]; simp
    have hul := (List.getElem?_eq_some_iff.mp hq).1
    have h4 := ih (u ++ [q]) n (by rw [e]; simp) (by omega)
    rw [show (u ++ [q]).length = u.length + 1 by simp, List.countP_append, List.countP_singleton] at h4
    refine br_f (nI_ge hul (by omega)) ⟨vp_in_nI (by omega) (by decide), ?_⟩
    rw [nI_clamp (by omega), (hl _ _ hq).2]
    refine br_c (fun hc => nm_r (nI_1 u.length) ?_) (fun hc => nm_r (nI_1 _) (nm_r (nI_1 u.length) ?_))
    · rw [if_neg (fun h5 => an_ct.mp h5 hc)] at h4
      exact h4
    · rw [if_pos (an_ct.mpr hc)] at h4
      exact h4
theorem ym_within {post : Int32 → SY → Prop} (hg : ∀ i, g i ≤ 20) (hL : ∀ i, yL i = nI (g i)) (hs : sa_is g p0 p1 xs) (h : ∀ c yw yu, post (an_within g xs p2) (c, yL, yw, yu)) : wpY_within post (yc, yL, yw, yu) p0 p1 p2 := by
  unfold wpY_within
  refine ls_all hg hL hs (fun ys yw yu hP hl => ⟨ys.length + 1, ?_⟩)
  refine ym_w12 hs hP hl ?_ ys [] (ys.length + 1) rfl (by omega)
  have h4 := h (nI ys.length) yw yu
  unfold an_within at h4 ⊢
  rw [hP.countP_eq]
  exact h4
theorem ym_shortest {post : Int32 → SY → Prop} (hg : ∀ i, g i ≤ 20) (hL : ∀ i, yL i = nI (g i)) (hs : sa_is g p0 p1 xs) (h : ∀ c yw yu, post (an_short g xs) (c, yL, yw, yu)) : wpY_shortest post (yc, yL, yw, yu) p0 p1 := by
  unfold wpY_shortest
  refine ym_length hg hL hs (fun c yw yu => ?_)
  refine br_c (fun hc => ?_) (fun hc => ?_)
  · refine ym_within hg hL hs (fun c yw yu => ?_)
    have h4 := h c yw yu
    unfold an_short at h4
    rw [if_pos hc] at h4
    exact h4
  · have h4 := h c yw yu
    unfold an_short at h4
    rw [if_neg hc] at h4
    exact h4
theorem ym_m47 {post : Int32 → SY → Prop} {J11 : Int32 → Int32 → Prop} {x1 : Int32} {M x s t : Nat} (hx : x < 6) (hM : M < 64) (hs : sa_is g p0 (nI t) xs) (e0 : p0 = nI s) (h1 : s < 6) (h2 : t < 6) (hP : ys.Perm xs) (hl : yl_is g ys yw yu) (A : Prop)
    (hy : A → (∀ p, p ∈ ys → x ∈ p) → J11 (nI (M ||| 2 ^ x)) (nI (x + 1))) (hn : ¬ (A ∧ ∀ p, p ∈ ys → x ∈ p) → J11 (nI M) (nI (x + 1))) :
    ∀ v u n b, ys = u ++ v → v.length < n → ((b = 1 ∧ A ∧ ∀ p, p ∈ u → x ∈ p) ∨ (b = 0 ∧ ¬ (A ∧ ∀ p, p ∈ u → x ∈ p))) → wY_musts_47 post J11 x1 (nI t) (nI M) (nI x) (nI ys.length) yL yw yu n (nI b) (nI u.length) := by
  have h65 := sa_65 hs
  rw [← hP.length_eq] at h65
  intro v
  induction v with
  | nil =>
    intro u n b e hn2 hb
    obtain ⟨n, rfl⟩ : ∃ n', n = n' + 1 := ⟨n - 1, by rw [List.length_nil] at hn2; omega⟩
    rw [List.append_nil] at e
    subst e
    rcases hb with ⟨e, hA, hb⟩ | ⟨e, hb⟩
    · subst e
      refine br_t (Int32.le_refl _) (br_f (by decide) (nm_r (e' := nI (M ||| 2 ^ x)) ?_ (nm_r (nI_1 x) (hy hA hb))))
      rw [sh_1 x hx, nx_or]
    · subst e
      exact br_t (Int32.le_refl _) (br_t rfl (nm_r (nI_1 x) (hn hb)))
  | cons q v ih =>
    intro u n b e hn2 hb
    rw [List.length_cons] at hn2
    obtain ⟨n, rfl⟩ : ∃ n', n = n' + 1 := ⟨n - 1, by omega⟩
    have hq : ys[u.length]? = some q := by rw [e]; simp
    have hul := (List.getElem?_eq_some_iff.mp hq).1
    have e3 : (u ++ [q]).length = u.length + 1 := by simp
    have e2 : ys = (u ++ [q]) ++ v := by rw [e]; simp
    refine br_f (nI_ge hul (by omega)) ?_
    have hno : ∀ x6, ¬ (A ∧ ∀ p, p ∈ u ++ [q] → x ∈ p) → x6 = nI (u.length + 1) → wY_musts_47 post J11 x1 (nI t) (nI M) (nI x) (nI ys.length) yL yw yu n 0 x6 := by
      intro x6 hb2 e6
      have h4 := ih (u ++ [q]) n 0 e2 (by omega) (Or.inr ⟨rfl, hb2⟩)
      rw [e3] at h4
      rw [e6]
      exact h4
    rcases hb with ⟨eb, hA, hb⟩ | ⟨eb, hb⟩
    · subst eb
      refine br_f (by decide) (ym_through hx (ym_wy hs hP hq e0 rfl h1 h2) (by omega) (hl _ _ hq) (fun hin => br_f (by decide) (nm_r (nI_1 u.length) ?_)) (fun hin => br_t rfl (nm_r (nI_1 u.length) (hno _ (fun h5 => hin (h5.2 q (by simp))) rfl))))
      have h4 := ih (u ++ [q]) n 1 e2 (by omega) (Or.inl ⟨rfl, hA, fun p hp => ?_⟩)
      · rw [e3] at h4
        exact h4
      · rcases List.mem_append.mp hp with hp | hp
        · exact hb p hp
        · have e5 : p = q := by simpa using hp
          rw [e5]; exact hin
    · subst eb
      exact br_t rfl (nm_r (nI_1 u.length) (hno _ (fun h5 => hb ⟨h5.1, fun p hp => h5.2 p (List.mem_append_left _ hp)⟩) rfl))
theorem ym_m11 {post : Int32 → SY → Prop} {s t : Nat} (hs : sa_is g (nI s) (nI t) xs) (h1 : s < 6) (h2 : t < 6) (hP : ys.Perm xs) (hl : yl_is g ys yw yu) (hne : xs ≠ [])
    (h : ∀ M, mu_is xs (nI s) (nI t) M → post (nI M) (nI ys.length, yL, yw, yu)) :
    ∀ n x M, x ≤ 6 → 6 - x < n → M < 64 → (∀ v, v < 6 → (M.testBit v = true ↔ v < x ∧ v ≠ s ∧ v ≠ t ∧ ∀ p, p ∈ xs → v ∈ p)) → wY_musts_11 post (nI s) (nI t) (nI ys.length) yL yw yu n (nI M) (nI x) := by
  have h65 := sa_65 hs
  rw [← hP.length_eq] at h65
  have hpos : 0 < ys.length := by
    rw [hP.length_eq]
    exact List.length_pos_iff.mpr hne
  intro n
  induction n with
  | zero => intro x M _ hn; omega
  | succ n ih =>
    intro x M hx6 hn hM hb
    rcases Nat.lt_or_ge x 6 with hx | hx
    · refine br_f (nI_ge (b := 6) hx (by decide)) (br_f (nI_nle hpos (by omega)) ?_)
      have hmem : (∀ p, p ∈ ys → x ∈ p) ↔ ∀ p, p ∈ xs → x ∈ p := ⟨fun h5 p hp => h5 p (hP.mem_iff.mpr hp), fun h5 p hp => h5 p (hP.mem_iff.mp hp)⟩
      have yes : (x ≠ s ∧ x ≠ t) → (∀ p, p ∈ ys → x ∈ p) → wY_musts_11 post (nI s) (nI t) (nI ys.length) yL yw yu n (nI (M ||| 2 ^ x)) (nI (x + 1)) := by
        intro hA hB
        refine ih (x + 1) _ (by omega) (by omega) (Nat.or_lt_two_pow (n := 6) hM (Nat.pow_lt_pow_right (by decide) hx)) (fun v hv => ?_)
        rw [Nat.testBit_or, Bool.or_eq_true, hb v hv, Nat.testBit_two_pow, decide_eq_true_iff]
        constructor
        · rintro (⟨h5, h6⟩ | h5)
          · exact ⟨by omega, h6⟩
          · subst h5
            exact ⟨by omega, hA.1, hA.2, hmem.mp hB⟩
        · rintro ⟨h5, h6⟩
          rcases Nat.lt_or_ge v x with h7 | h7
          · exact Or.inl ⟨h7, h6⟩
          · exact Or.inr (by omega)
      have no : ¬ ((x ≠ s ∧ x ≠ t) ∧ ∀ p, p ∈ ys → x ∈ p) → wY_musts_11 post (nI s) (nI t) (nI ys.length) yL yw yu n (nI M) (nI (x + 1)) := by
        intro hB
        refine ih (x + 1) M (by omega) (by omega) hM (fun v hv => ?_)
        rw [hb v hv]
        constructor
        · rintro ⟨h5, h6⟩
          exact ⟨by omega, h6⟩
        · rintro ⟨h5, h6⟩
          rcases Nat.lt_or_ge v x with h7 | h7
          · exact ⟨h7, h6⟩
          · have e : v = x := by omega
            subst e
            exact absurd ⟨⟨h6.1, h6.2.1⟩, hmem.mpr h6.2.2⟩ hB
      have run := ym_m47 (post := post) (x1 := nI s) (J11 := wY_musts_11 post (nI s) (nI t) (nI ys.length) yL yw yu n) (yL := yL) hx hM hs rfl h1 h2 hP hl (x ≠ s ∧ x ≠ t) yes no
      refine pk_eq x s (fun e => ⟨ys.length + 1, ?_⟩) (fun e => pk_eq x t (fun e2 => ⟨ys.length + 1, ?_⟩) (fun e2 => ⟨ys.length + 1, ?_⟩))
      · exact run ys [] (ys.length + 1) 0 rfl (by omega) (Or.inr ⟨rfl, fun h5 => h5.1.1 e⟩)
      · exact run ys [] (ys.length + 1) 0 rfl (by omega) (Or.inr ⟨rfl, fun h5 => h5.1.2 e2⟩)
      · exact run ys [] (ys.length + 1) 1 rfl (by omega) (Or.inl ⟨rfl, ⟨e, e2⟩, fun p hp => by cases hp⟩)
    · have e : x = 6 := by omega
      subst e
      refine br_t (nI_le (by omega) (by decide)) (h M ⟨hM, fun e => absurd e hne, fun _ v hv => ?_⟩)
      rw [hb v hv]
      constructor
      · rintro ⟨_, h4, h5, h6⟩
        exact ⟨fun e => h4 (nI_i6 hv h1 e), fun e => h5 (nI_i6 hv h2 e), h6⟩
      · rintro ⟨h4, h5, h6⟩
        exact ⟨hv, fun e => h4 (by rw [e]), fun e => h5 (by rw [e]), h6⟩
theorem ym_musts {post : Int32 → SY → Prop} (hg : ∀ i, g i ≤ 20) (hL : ∀ i, yL i = nI (g i)) (hs : sa_is g p0 p1 xs) (h : ∀ M c yw yu, mu_is xs p0 p1 M → post (nI M) (c, yL, yw, yu)) : wpY_musts post (yc, yL, yw, yu) p0 p1 := by
  unfold wpY_musts
  refine ls_all hg hL hs (fun ys yw yu hP hl => ⟨8, ?_⟩)
  cases xs with
  | nil =>
    have e : ys = [] := List.perm_nil.mp hP
    subst e
    exact br_f (by decide) (br_t (by decide) (h 0 _ _ _ ⟨by decide, fun _ => rfl, fun h4 => absurd rfl h4⟩))
  | cons p xs =>
    obtain ⟨s, t, e1, e2, hway⟩ := (hs.2 p).mp List.mem_cons_self
    subst e1 e2
    exact ym_m11 hs hway.1 hway.2.1 hP hl (by simp) (fun M hM => h M _ _ _ hM) 8 0 0 (by omega) (by omega) (by decide) (fun v hv => by rw [Nat.zero_testBit]; simp)
theorem ym_f33 {post : Int32 → SY → Prop} {z : Nat} (hg : ∀ i, g i ≤ 20) (hz : z < 6) (hs : sa_is g p0 p1 xs) (hP : ys.Perm xs) (hl : yl_is g ys yw yu) (h : ∀ r, fa_sp xs z r → post r (nI ys.length, yL, yw, yu)) :
    ∀ v u n x4, ys = u ++ v → v.length < n → ((x4 = -1 ∧ ∀ p, p ∈ u → z ∈ p) ∨ (∃ k p, x4 = nI k ∧ xs[k]? = some p ∧ z ∉ p ∧ ∀ j q, j < k → xs[j]? = some q → q ∈ u → z ∈ q)) → wY_firstAvoiding_33 post p1 (nI z) (nI ys.length) yL yw yu n x4 (nI u.length) := by
  have h65 := sa_65 hs
  have hlen := hP.length_eq
  intro v
  induction v with
  | nil =>
    intro u n x4 e hn hb
    obtain ⟨n, rfl⟩ : ∃ n', n = n' + 1 := ⟨n - 1, by rw [List.length_nil] at hn; omega⟩
    rw [List.append_nil] at e
    subst e
    refine br_t (Int32.le_refl _) (h _ ?_)
    rcases hb with ⟨e, hb⟩ | ⟨k, p, e, hk, hp, hb⟩
    · exact Or.inl ⟨e, fun p hp => hb p (hP.mem_iff.mpr hp)⟩
    · exact Or.inr ⟨k, p, e, hk, hp, fun j q hj hq => hb j q hj hq (hP.mem_iff.mpr (List.mem_of_getElem? hq))⟩
  | cons q v ih =>
    intro u n x4 e hn hb
    rw [List.length_cons] at hn
    obtain ⟨n, rfl⟩ : ∃ n', n = n' + 1 := ⟨n - 1, by omega⟩
    have hq : ys[u.length]? = some q := by rw [e]; simp
    have hul := (List.getElem?_eq_some_iff.mp hq).1
    have e3 : (u ++ [q]).length = u.length + 1 := by simp
    have e2 : ys = (u ++ [q]) ++ v := by rw [e]; simp
    obtain ⟨h65w, s, t, e0, e1, hway⟩ := ym_el hs hP hq
    obtain ⟨k, hk, hxk⟩ := ym_idx hP hq
    have step : ∀ x4, ((x4 = -1 ∧ ∀ p, p ∈ u ++ [q] → z ∈ p) ∨ (∃ k p, x4 = nI k ∧ xs[k]? = some p ∧ z ∉ p ∧ ∀ j q', j < k → xs[j]? = some q' → q' ∈ u ++ [q] → z ∈ q')) → wY_firstAvoiding_33 post p1 (nI z) (nI ys.length) yL yw yu n x4 (nI (u.length + 1)) := by
      intro x4 hb2
      have h4 := ih (u ++ [q]) n x4 e2 (by omega) hb2
      rw [e3] at h4
      exact h4
    refine br_f (nI_ge hul (by omega)) (ym_rank hg hs hP hl hq hxk ?_)
    have hcase : (z ∈ q → wY_firstAvoiding_33 post p1 (nI z) (nI ys.length) yL yw yu n x4 (nI (u.length + 1))) := by
      intro hin
      refine step x4 ?_
      rcases hb with ⟨e, hb⟩ | ⟨k', p, e, hk', hp, hb⟩
      · refine Or.inl ⟨e, fun p hp => ?_⟩
        rcases List.mem_append.mp hp with hp | hp
        · exact hb p hp
        · have e5 : p = q := by simpa using hp
          rw [e5]; exact hin
      · refine Or.inr ⟨k', p, e, hk', hp, fun j q' hj hq' hm => ?_⟩
        rcases List.mem_append.mp hm with hm | hm
        · exact hb j q' hj hq' hm
        · have e5 : q' = q := by simpa using hm
          rw [e5]; exact hin
    rw [e1]
    refine ym_through hz hway h65w (hl _ _ hq) (fun hin => br_f (by decide) (nm_r (nI_1 u.length) ?_)) (fun hin => br_t rfl ?_)
    · rw [← e1]
      exact hcase hin
    · rcases hb with ⟨e, hb⟩ | ⟨k', p, e, hk', hp, hb⟩
      · subst e
        refine br_t (by decide) (nm_r (nI_1 u.length) ?_)
        rw [← e1]
        refine step _ (Or.inr ⟨k, q, rfl, hxk, hin, fun j q' hj hq' hm => ?_⟩)
        rcases List.mem_append.mp hm with hm | hm
        · exact hb q' hm
        · have e5 : q' = q := by simpa using hm
          rw [e5] at hq'
          have := sa_inj hs hq' hxk
          omega
      · subst e
        have hk65 := (List.getElem?_eq_some_iff.mp hk').1
        refine br_f (nI_pos (by omega)) (pk_le k' k (fun hle => nm_r (nI_1 u.length) ?_) (fun hgt => nm_r (nI_1 u.length) ?_) rfl rfl (by omega) (by omega))
        · rw [← e1]
          refine step _ (Or.inr ⟨k', p, rfl, hk', hp, fun j q' hj hq' hm => ?_⟩)
          rcases List.mem_append.mp hm with hm | hm
          · exact hb j q' hj hq' hm
          · have e5 : q' = q := by simpa using hm
            rw [e5] at hq'
            have := sa_inj hs hq' hxk
            omega
        · rw [← e1]
          refine step _ (Or.inr ⟨k, q, rfl, hxk, hin, fun j q' hj hq' hm => ?_⟩)
          rcases List.mem_append.mp hm with hm | hm
          · exact hb j q' (by omega) hq' hm
          · have e5 : q' = q := by simpa using hm
            rw [e5] at hq'
            have := sa_inj hs hq' hxk
            omega
theorem ym_firstAvoiding {post : Int32 → SY → Prop} (hg : ∀ i, g i ≤ 20) (hL : ∀ i, yL i = nI (g i)) (hs : sa_is g p0 p1 xs) (h : ∀ r c yw yu, fa_is xs p0 p1 p2 r → post r (c, yL, yw, yu)) : wpY_firstAvoiding post (yc, yL, yw, yu) p0 p1 p2 := by
  unfold wpY_firstAvoiding
  refine br_c (fun e => h _ _ _ _ (Or.inr ⟨fun _ _ _ h1 _ => h1 e, rfl⟩)) (fun hn0 => br_c (fun e => h _ _ _ _ (Or.inr ⟨fun _ _ _ _ h1 => h1 e, rfl⟩)) (fun hn1 => ?_))
  refine br_c (fun e => h _ _ _ _ (Or.inr ⟨fun v hv h1 _ _ => ?_, rfl⟩)) (fun hv => ?_)
  · rw [h1] at e
    exact nI_pos (by omega) e
  · obtain ⟨k, hk, rfl⟩ := nI_of hv
    refine pk_le k 5 (fun hle => ?_) (fun hgt => h _ _ _ _ (Or.inr ⟨fun v hv h1 _ _ => ?_, rfl⟩)) rfl rfl hk (by decide)
    · refine ls_all hg hL hs (fun ys yw yu hP hl => ⟨ys.length + 1, ?_⟩)
      exact ym_f33 hg (by omega) hs hP hl (fun r hr => h r _ _ _ (Or.inl ⟨k, by omega, rfl, hn0, hn1, hr⟩)) ys [] (ys.length + 1) (-1) rfl (by omega) (Or.inl ⟨rfl, fun p hp => by cases hp⟩)
    · rw [nI_eq hk (by omega)] at h1
      omega
theorem ym_road {post : Int32 → Prop} (hg : ∀ i, g i ≤ 20) (hL : ∀ i, yL i = nI (g i)) (h : ∀ r, rd_is g p0 p1 r → post r) : wpY_road post (yc, yL, yw, yu) p0 p1 := by
  unfold wpY_road
  refine yp_any (fun a b e1 e2 ha hb hne => ?_) (fun hno => ?_)
  · subst e1 e2
    have i1 : vp_in ((6 * nI a) + nI b) 36 := iy_in (by omega) (by decide)
    have hgi := hg (6 * a + b)
    have eL := iy_L hL ha hb
    refine br_f (by decide) ⟨i1, pk_le (g (6 * a + b)) 0 (fun hz => h _ (Or.inr ⟨fun a' b' e1 e2 h1 h2 _ h4 => ?_, rfl⟩)) (fun hz => ⟨i1, h _ (Or.inl ⟨a, b, rfl, rfl, ha, hb, hne, hz, eL⟩)⟩) eL rfl (by omega) (by decide)⟩
    rw [← nI_i6 ha h1 e1, ← nI_i6 hb h2 e2] at h4
    omega
  · exact br_t rfl (h _ (Or.inr ⟨fun a b e1 e2 h1 h2 h3 _ => hno a b e1 e2 h1 h2 h3, rfl⟩))
theorem ym_rs4 {post : Int32 → Prop} (hg : ∀ i, g i ≤ 20) (hL : ∀ i, yL i = nI (g i)) :
    ∀ k i n x, i + k = 36 → k < n → post (rs_n g k i x) → wY_roads_4 post yc yL yw yu n x (nI i) := by
  intro k
  induction k with
  | zero =>
    intro i n x hi hn h
    obtain ⟨n, rfl⟩ : ∃ n', n = n' + 1 := ⟨n - 1, by omega⟩
    exact br_t (nI_le (a := 36) (by omega) (by omega)) h
  | succ k ih =>
    intro i n x hi hn h
    obtain ⟨n, rfl⟩ : ∃ n', n = n' + 1 := ⟨n - 1, by omega⟩
    have hgi := hg i
    refine br_f (nI_ge (b := 36) (by omega) (by decide)) ⟨vp_in_nI (by omega) (by decide), pk_le (g i) 0 (fun hz => nm_r (nI_1 i) (ih (i + 1) n x (by omega) (by omega) ?_)) (fun hz => nm_e (nm_r (nI_1 i) (ih (i + 1) n (x + 1) (by omega) (by omega) ?_))) (by rw [nI_clamp (by omega)]; exact hL i) rfl (by omega) (by decide)⟩
    · have h2 : post (rs_n g k (i + 1) (if g i = 0 then x else x + 1)) := h
      rw [if_pos (by omega)] at h2
      exact h2
    · have h2 : post (rs_n g k (i + 1) (if g i = 0 then x else x + 1)) := h
      rw [if_neg (by omega)] at h2
      exact h2
theorem ym_roads {post : Int32 → Prop} (hg : ∀ i, g i ≤ 20) (hL : ∀ i, yL i = nI (g i)) (h : post (rs_n g 36 0 0)) : wpY_roads post (yc, yL, yw, yu) :=
  ⟨37, ym_rs4 hg hL 36 0 37 0 rfl (by omega) h⟩
theorem ym_build {post : Int32 → SY → Prop} (hL : ∀ i, yL i = nI (g i))
    (hy : ∀ a b m yL, p0 = nI a → p1 = nI b → p2 = nI m → a < 6 → b < 6 → a ≠ b → 1 ≤ m → m ≤ 20 → (∀ i, yL i = nI (na_up g (6 * a + b) m i)) → post 1 (yc, yL, yw, yu))
    (hn : (∀ a b m, p0 = nI a → p1 = nI b → p2 = nI m → a < 6 → b < 6 → a ≠ b → 1 ≤ m → m ≤ 20 → False) → post 0 (yc, yL, yw, yu)) : wpY_build post (yc, yL, yw, yu) p0 p1 p2 := by
  unfold wpY_build
  refine yp_any (fun a b e1 e2 ha hb hne => ?_) (fun hno => ?_)
  · subst e1 e2
    refine br_f (by decide) ?_
    rcases pk_ix p2 (n := 21) (by decide) with h | h | ⟨m, hm, e⟩
    · have h1 : p2 < 1 := Int32.lt_of_lt_of_le h (by decide)
      refine br_t h1 (hn (fun a' b' m _ _ e _ _ _ h3 h4 => ?_))
      rw [e] at h
      exact nI_pos (by omega) h
    · have h0 : post 0 (yc, yL, yw, yu) := hn (fun a' b' m _ _ e _ _ _ h3 h4 => by rw [e] at h; exact nI_ge (b := 21) (a := m) (by omega) (by decide) h)
      refine br_c (fun _ => h0) (fun _ => br_f (fun h5 => ?_) h0)
      exact absurd (Int32.le_trans h h5) (by decide)
    · subst e
      refine pk_lt m 1 (fun h => hn (fun a' b' m' _ _ e _ _ _ h3 h4 => ?_)) (fun h => ?_) rfl rfl (by omega) (by decide)
      · rw [nI_eq (by omega) (by omega)] at e
        omega
      · refine br_t (nI_le (b := 20) (by omega) (by decide)) ⟨iy_in (by omega) (by decide), nm_r (e' := upd yL (6 * a + b) (nI m)) (by rw [iy_cl (by omega)]) ?_⟩
        exact hy a b m _ rfl rfl rfl ha hb hne h (by omega) (hL_up hL)
  · exact br_t rfl (hn (fun a b m e1 e2 _ h1 h2 h3 _ _ => hno a b e1 e2 h1 h2 h3))
theorem ym_close {post : Int32 → SY → Prop} (hg : ∀ i, g i ≤ 20) (hL : ∀ i, yL i = nI (g i))
    (hy : ∀ a b yL, p0 = nI a → p1 = nI b → a < 6 → b < 6 → a ≠ b → 0 < g (6 * a + b) → (∀ i, yL i = nI (na_up g (6 * a + b) 0 i)) → post 1 (yc, yL, yw, yu))
    (hn : (∀ a b, p0 = nI a → p1 = nI b → a < 6 → b < 6 → a ≠ b → 0 < g (6 * a + b) → False) → post 0 (yc, yL, yw, yu)) : wpY_close post (yc, yL, yw, yu) p0 p1 := by
  unfold wpY_close
  refine yp_any (fun a b e1 e2 ha hb hne => ?_) (fun hno => ?_)
  · subst e1 e2
    have i1 : vp_in ((6 * nI a) + nI b) 36 := iy_in (by omega) (by decide)
    have hgi := hg (6 * a + b)
    refine br_f (by decide) ⟨i1, pk_eq (g (6 * a + b)) 0 (fun hz => hn (fun a' b' e1 e2 h1 h2 _ h4 => ?_)) (fun hz => ⟨i1, nm_r (e' := upd yL (6 * a + b) (nI 0)) (by rw [iy_cl (by omega)]; rfl) (hy a b _ rfl rfl ha hb hne (by omega) (hL_up hL))⟩) (iy_L hL ha hb) rfl (by omega) (by decide)⟩
    rw [← nI_i6 ha h1 e1, ← nI_i6 hb h2 e2] at h4
    omega
  · exact br_t rfl (hn (fun a b e1 e2 h1 h2 h3 _ => hno a b e1 e2 h1 h2 h3))
theorem ym_detour {post : Int32 → SY → Prop} (hg : ∀ i, g i ≤ 20) (hL : ∀ i, yL i = nI (g i)) (h : ∀ r c yL yw yu, dt_is g p0 p1 p2 p3 r → (∀ i, yL i = nI (g i)) → post r (c, yL, yw, yu)) : wpY_detour post (yc, yL, yw, yu) p0 p1 p2 p3 := by
  obtain ⟨xs, hs⟩ := sa_ex g p0 p1
  have h100 : ∀ (g : Nat → Nat) (xs : List (List Nat)) (p : List Nat), (∀ i, g i ≤ 20) → sa_is g p0 p1 xs → sa_at xs 0 = some p → gr_lp g p ≤ 100 := by
    intro g xs p hg hs e
    obtain ⟨s, t, _, _, hw⟩ := sa_way hs e
    exact wy_100 hg hw
  unfold wpY_detour
  refine ym_length hg hL hs (fun c yw yu => ym_road hg hL (fun r hr => ?_))
  cases e : sa_at xs 0 with
  | none => exact br_t (show (-1 : Int32) < 0 by decide) (h 0 _ _ _ _ (dt_none hs e) hL)
  | some p =>
    have hl1 := h100 g xs p hg hs e
    refine br_f (nI_pos (by omega)) ?_
    rcases hr with ⟨a, b, e1, e2, ha, hb, hne, hpos, er⟩ | ⟨hno, er⟩
    · subst e1 e2 er
      have hgi := hg (6 * a + b)
      have i1 : vp_in ((6 * nI a) + nI b) 36 := iy_in (by omega) (by decide)
      obtain ⟨xs', hs'⟩ := sa_ex (na_up g (6 * a + b) 0) p0 p1
      have hg' := hg_up (k := 6 * a + b) (m := 0) hg (by decide)
      refine br_t (nI_pos' (by omega)) ⟨i1, nm_r (e' := upd yL (6 * a + b) (nI 0)) (by rw [iy_cl (by omega)]; rfl) ?_⟩
      refine ym_length hg' (hL_up hL) hs' (fun c yw yu => ⟨i1, nm_r (e' := upd (upd yL (6 * a + b) (nI 0)) (6 * a + b) (nI (g (6 * a + b)))) (by rw [iy_cl (by omega)]) ?_⟩)
      have hL2 : ∀ i, upd (upd yL (6 * a + b) (nI 0)) (6 * a + b) (nI (g (6 * a + b))) i = nI (g i) := by
        intro i
        by_cases e : i = 6 * a + b
        · rw [e, pk_us]
        · rw [pk_un e, pk_un e]; exact hL i
      have done : ∀ r, r = dt_sp g (na_up g (6 * a + b) 0) xs xs' → post r (c, upd (upd yL (6 * a + b) (nI 0)) (6 * a + b) (nI (g (6 * a + b))), yw, yu) := fun r e => h r _ _ _ _ (Or.inl ⟨a, b, xs, xs', rfl, rfl, ha, hb, hne, hpos, hs, hs', e⟩) hL2
      cases e' : sa_at xs' 0 with
      | none => exact br_f (show ¬ (0 : Int32) ≤ -1 by decide) (done _ (dt_s1 e e').symm)
      | some q =>
        have hl2 := h100 _ xs' q hg' hs' e'
        exact br_t (nI_pos' (by omega)) (done _ (dt_s2 e e').symm)
    · subst er
      exact br_f (by decide) (h 0 _ _ _ _ (Or.inr ⟨hno, rfl⟩) hL)
end
end
section
/-! what is owed -/
def yi_is (g : Nat → Nat) : SY → Prop
  | (_, yL, _, _) => ∀ i, yL i = nI (g i)
/-- one network g for both; X's ranking, where it stands, is the sorted list of all ways -/
def i_Rel (k : Nat) (u : SX) (v : SY) : Prop := ∃ g : Nat → Nat, (∀ i, g i ≤ 20) ∧ xi_is g u ∧ yi_is g v
theorem i_up {k : Nat} {u : SX} {v : SY} (h : i_Rel k u v) : i_Rel (k + 5) u v := h
theorem i_vc0 : wpX_init (fun u => wpY_init (fun v => i_Rel 0 u v)) :=
  ⟨fun _ => 0, fun _ => Nat.zero_le _, ⟨fun _ => rfl, Or.inl rfl⟩, fun _ => rfl⟩
theorem i_vc_build {k : Nat} {u : SX} {v : SY} (I : i_Rel k u v) (hk : k + 5 ≤ 2560) (v1 : Int32) (v2 : Int32) (v3 : Int32) : wpX_build (fun r u' => wpY_build (fun r' v' => r' = r ∧ i_Rel (k + 5) u' v') v v1 v2 v3) u v1 v2 v3 := by
  obtain ⟨g, hg, hX, hY⟩ := I
  obtain ⟨fk, ff, ft, fw, fc, aL, pl, sz, wl, pt, bd, ro, rj, di⟩ := u
  obtain ⟨yc, yL, yw, yu⟩ := v
  refine xm_build hX (fun a b m u e1 e2 e3 ha hb hne h1 h2 hu => ?_) (fun hno => ?_)
  · refine ym_build hY (fun a' b' m' yL' e1' e2' e3' ha' hb' _ _ h2' hL' => ⟨rfl, na_up g (6 * a + b) m, hg_up hg h2, hu, ?_⟩) (fun hno => (hno a b m e1 e2 e3 ha hb hne h1 h2).elim)
    have ea := nI_i6 ha ha' (e1.symm.trans e1')
    have eb := nI_i6 hb hb' (e2.symm.trans e2')
    have em : m = m' := (nI_eq (by omega) (by omega)).mp (e3.symm.trans e3')
    rw [ea, eb, em]
    exact hL'
  · exact ym_build hY (fun a b m yL e1 e2 e3 ha hb hne h1 h2 _ => (hno a b m e1 e2 e3 ha hb hne h1 h2).elim) (fun _ => ⟨rfl, g, hg, hX, hY⟩)
theorem i_vc_close {k : Nat} {u : SX} {v : SY} (I : i_Rel k u v) (hk : k + 5 ≤ 2560) (v1 : Int32) (v2 : Int32) : wpX_close (fun r u' => wpY_close (fun r' v' => r' = r ∧ i_Rel (k + 5) u' v') v v1 v2) u v1 v2 := by
  obtain ⟨g, hg, hX, hY⟩ := I
  obtain ⟨fk, ff, ft, fw, fc, aL, pl, sz, wl, pt, bd, ro, rj, di⟩ := u
  obtain ⟨yc, yL, yw, yu⟩ := v
  refine xm_close hg hX (fun a b u e1 e2 ha hb hne h1 hu => ?_) (fun hno => ?_)
  · refine ym_close hg hY (fun a' b' yL' e1' e2' ha' hb' _ _ hL' => ⟨rfl, na_up g (6 * a + b) 0, hg_up hg (by decide), hu, ?_⟩) (fun hno => (hno a b e1 e2 ha hb hne h1).elim)
    have ea := nI_i6 ha ha' (e1.symm.trans e1')
    have eb := nI_i6 hb hb' (e2.symm.trans e2')
    rw [ea, eb]
    exact hL'
  · exact ym_close hg hY (fun a b yL e1 e2 ha hb hne h1 _ => (hno a b e1 e2 ha hb hne h1).elim) (fun _ => ⟨rfl, g, hg, hX, hY⟩)
theorem i_vc_road {k : Nat} {u : SX} {v : SY} (I : i_Rel k u v) (hk : k + 5 ≤ 2560) (v1 : Int32) (v2 : Int32) : wpX_road (fun r => wpY_road (fun r' => r' = r ∧ i_Rel (k + 5) u v) v v1 v2) u v1 v2 := by
  obtain ⟨g, hg, hX, hY⟩ := I
  obtain ⟨fk, ff, ft, fw, fc, aL, pl, sz, wl, pt, bd, ro, rj, di⟩ := u
  obtain ⟨yc, yL, yw, yu⟩ := v
  exact xm_road hg hX.1 (fun r hr => ym_road hg hY (fun r' hr' => ⟨rd_uni hr hr', g, hg, hX, hY⟩))
theorem i_vc_roads {k : Nat} {u : SX} {v : SY} (I : i_Rel k u v) (hk : k + 5 ≤ 2560) : wpX_roads (fun r => wpY_roads (fun r' => r' = r ∧ i_Rel (k + 5) u v) v) u := by
  obtain ⟨g, hg, hX, hY⟩ := I
  obtain ⟨fk, ff, ft, fw, fc, aL, pl, sz, wl, pt, bd, ro, rj, di⟩ := u
  obtain ⟨yc, yL, yw, yu⟩ := v
  exact xm_roads hg hX.1 (ym_roads hg hY ⟨rfl, g, hg, hX, hY⟩)
theorem i_vc_ways {k : Nat} {u : SX} {v : SY} (I : i_Rel k u v) (hk : k + 5 ≤ 2560) (v1 : Int32) (v2 : Int32) : wpX_ways (fun r u' => wpY_ways (fun r' v' => r' = r ∧ i_Rel (k + 5) u' v') v v1 v2) u v1 v2 := by
  obtain ⟨g, hg, hX, hY⟩ := I
  obtain ⟨fk, ff, ft, fw, fc, aL, pl, sz, wl, pt, bd, ro, rj, di⟩ := u
  obtain ⟨yc, yL, yw, yu⟩ := v
  obtain ⟨xs, hs⟩ := sa_ex g v1 v2
  exact xm_ways hg hX hs (fun u hu => ym_ways hg hY hs (fun c yw yu => ⟨rfl, g, hg, hu, hY⟩))
theorem i_vc_length {k : Nat} {u : SX} {v : SY} (I : i_Rel k u v) (hk : k + 5 ≤ 2560) (v1 : Int32) (v2 : Int32) (v3 : Int32) : wpX_length (fun r u' => wpY_length (fun r' v' => r' = r ∧ i_Rel (k + 5) u' v') v v1 v2 v3) u v1 v2 v3 := by
  obtain ⟨g, hg, hX, hY⟩ := I
  obtain ⟨fk, ff, ft, fw, fc, aL, pl, sz, wl, pt, bd, ro, rj, di⟩ := u
  obtain ⟨yc, yL, yw, yu⟩ := v
  obtain ⟨xs, hs⟩ := sa_ex g v1 v2
  exact xm_length hg hX hs (fun u hu => ym_length hg hY hs (fun c yw yu => ⟨rfl, g, hg, hu, hY⟩))
theorem i_vc_place {k : Nat} {u : SX} {v : SY} (I : i_Rel k u v) (hk : k + 5 ≤ 2560) (v1 : Int32) (v2 : Int32) (v3 : Int32) (v4 : Int32) : wpX_place (fun r u' => wpY_place (fun r' v' => r' = r ∧ i_Rel (k + 5) u' v') v v1 v2 v3 v4) u v1 v2 v3 v4 := by
  obtain ⟨g, hg, hX, hY⟩ := I
  obtain ⟨fk, ff, ft, fw, fc, aL, pl, sz, wl, pt, bd, ro, rj, di⟩ := u
  obtain ⟨yc, yL, yw, yu⟩ := v
  obtain ⟨xs, hs⟩ := sa_ex g v1 v2
  exact xm_place hg hX hs (fun u hu => ym_place hg hY hs (fun c yw yu => ⟨rfl, g, hg, hu, hY⟩))
theorem i_vc_size {k : Nat} {u : SX} {v : SY} (I : i_Rel k u v) (hk : k + 5 ≤ 2560) (v1 : Int32) (v2 : Int32) (v3 : Int32) : wpX_size (fun r u' => wpY_size (fun r' v' => r' = r ∧ i_Rel (k + 5) u' v') v v1 v2 v3) u v1 v2 v3 := by
  obtain ⟨g, hg, hX, hY⟩ := I
  obtain ⟨fk, ff, ft, fw, fc, aL, pl, sz, wl, pt, bd, ro, rj, di⟩ := u
  obtain ⟨yc, yL, yw, yu⟩ := v
  obtain ⟨xs, hs⟩ := sa_ex g v1 v2
  exact xm_size hg hX hs (fun u hu => ym_size hg hY hs (fun c yw yu => ⟨rfl, g, hg, hu, hY⟩))
theorem i_vc_within {k : Nat} {u : SX} {v : SY} (I : i_Rel k u v) (hk : k + 5 ≤ 2560) (v1 : Int32) (v2 : Int32) (v3 : Int32) : wpX_within (fun r u' => wpY_within (fun r' v' => r' = r ∧ i_Rel (k + 5) u' v') v v1 v2 v3) u v1 v2 v3 := by
  obtain ⟨g, hg, hX, hY⟩ := I
  obtain ⟨fk, ff, ft, fw, fc, aL, pl, sz, wl, pt, bd, ro, rj, di⟩ := u
  obtain ⟨yc, yL, yw, yu⟩ := v
  obtain ⟨xs, hs⟩ := sa_ex g v1 v2
  exact xm_within hg hX hs (fun u hu => ym_within hg hY hs (fun c yw yu => ⟨rfl, g, hg, hu, hY⟩))
theorem i_vc_shortest {k : Nat} {u : SX} {v : SY} (I : i_Rel k u v) (hk : k + 5 ≤ 2560) (v1 : Int32) (v2 : Int32) : wpX_shortest (fun r u' => wpY_shortest (fun r' v' => r' = r ∧ i_Rel (k + 5) u' v') v v1 v2) u v1 v2 := by
  obtain ⟨g, hg, hX, hY⟩ := I
  obtain ⟨fk, ff, ft, fw, fc, aL, pl, sz, wl, pt, bd, ro, rj, di⟩ := u
  obtain ⟨yc, yL, yw, yu⟩ := v
  obtain ⟨xs, hs⟩ := sa_ex g v1 v2
  exact xm_shortest hg hX hs (fun u hu => ym_shortest hg hY hs (fun c yw yu => ⟨rfl, g, hg, hu, hY⟩))
theorem i_vc_musts {k : Nat} {u : SX} {v : SY} (I : i_Rel k u v) (hk : k + 5 ≤ 2560) (v1 : Int32) (v2 : Int32) : wpX_musts (fun r u' => wpY_musts (fun r' v' => r' = r ∧ i_Rel (k + 5) u' v') v v1 v2) u v1 v2 := by
  obtain ⟨g, hg, hX, hY⟩ := I
  obtain ⟨fk, ff, ft, fw, fc, aL, pl, sz, wl, pt, bd, ro, rj, di⟩ := u
  obtain ⟨yc, yL, yw, yu⟩ := v
  obtain ⟨xs, hs⟩ := sa_ex g v1 v2
  exact xm_musts hg hX hs (fun M u hM hu => ym_musts hg hY hs (fun N c yw yu hN => ⟨congrArg nI (mu_uni hM hN), g, hg, hu, hY⟩))
theorem i_vc_firstAvoiding {k : Nat} {u : SX} {v : SY} (I : i_Rel k u v) (hk : k + 5 ≤ 2560) (v1 : Int32) (v2 : Int32) (v3 : Int32) : wpX_firstAvoiding (fun r u' => wpY_firstAvoiding (fun r' v' => r' = r ∧ i_Rel (k + 5) u' v') v v1 v2 v3) u v1 v2 v3 := by
  obtain ⟨g, hg, hX, hY⟩ := I
  obtain ⟨fk, ff, ft, fw, fc, aL, pl, sz, wl, pt, bd, ro, rj, di⟩ := u
  obtain ⟨yc, yL, yw, yu⟩ := v
  obtain ⟨xs, hs⟩ := sa_ex g v1 v2
  exact xm_firstAvoiding hg hX hs (fun r u hr hu => ym_firstAvoiding hg hY hs (fun r' c yw yu hr' => ⟨fa_uni hr hr', g, hg, hu, hY⟩))
theorem i_vc_detour {k : Nat} {u : SX} {v : SY} (I : i_Rel k u v) (hk : k + 5 ≤ 2560) (v1 : Int32) (v2 : Int32) (v3 : Int32) (v4 : Int32) : wpX_detour (fun r u' => wpY_detour (fun r' v' => r' = r ∧ i_Rel (k + 5) u' v') v v1 v2 v3 v4) u v1 v2 v3 v4 := by
  obtain ⟨g, hg, hX, hY⟩ := I
  obtain ⟨fk, ff, ft, fw, fc, aL, pl, sz, wl, pt, bd, ro, rj, di⟩ := u
  obtain ⟨yc, yL, yw, yu⟩ := v
  exact xm_detour hg hX (fun r u hr hu => ym_detour hg hY (fun r' c yL yw yu hr' hL => ⟨dt_uni hr hr', g, hg, hu, hL⟩))
end
