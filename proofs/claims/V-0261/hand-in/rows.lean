section
/-! numbers, stores, sums. The rows pk_.. are pasted from the kit's rows -/
theorem pk_us {f : Nat → Int32} {k : Nat} {x : Int32} : upd f k x k = x := if_pos rfl
theorem pk_un {f : Nat → Int32} {k j : Nat} {x : Int32} (h : j ≠ k) : upd f k x j = f j := if_neg h
theorem pk_sub {a b : Nat} (h : b ≤ a) : nI a - nI b = nI (a - b) := by
  obtain ⟨c, rfl⟩ : ∃ c, a = c + b := ⟨a - b, by omega⟩
  rw [← nI_add, Int32.add_sub_cancel, Nat.add_sub_cancel]
theorem pk_m1 (n : Nat) : nI (n + 1) + (-1) = nI n := by
  rw [← nI_1, Int32.add_assoc, show (1 : Int32) + (-1) = 0 from rfl, Int32.add_zero]
theorem pk_mul (a b : Nat) : nI a * nI b = nI (a * b) := (Int32.ofNat_mul a b).symm
theorem pk_div {a d : Nat} (ha : a < 2 ^ 31) (h0 : 0 < d) (hd : d < 2 ^ 31) : nI a / nI d = nI (a / d) := by
  apply Int32.toInt_inj.mp
  rw [lg_idiv_nonneg (by rw [nI_toInt ha]; omega) (by rw [nI_toInt hd]; omega), nI_toInt ha, nI_toInt hd, nI_toInt (Nat.lt_of_le_of_lt (Nat.div_le_self a d) ha)]
  first | rfl | exact (Int.natCast_ediv _ _).symm
theorem pk_ix (x : Int32) {n : Nat} (hn : n < 2 ^ 31) : x < 0 ∨ nI n ≤ x ∨ ∃ j : Nat, j < n ∧ x = nI j := by
  by_cases h : x < 0
  · exact Or.inl h
  · obtain ⟨j, hj, rfl⟩ := nI_of h
    by_cases h2 : j < n
    · exact Or.inr (Or.inr ⟨j, h2, rfl⟩)
    · exact Or.inr (Or.inl (nI_le (by omega) hj))
theorem pk_le {x y : Int32} {A B : Prop} (a b : Nat) (f : a ≤ b → A) (g : b < a → B) (hx : x = nI a := by rfl) (hy : y = nI b := by rfl) (ha : a < 2 ^ 31 := by omega) (hb : b < 2 ^ 31 := by omega) : (x ≤ y → A) ∧ (¬ x ≤ y → B) := by
  subst hx hy
  rw [nI_leI ha hb]
  exact ⟨f, fun z => g (by omega)⟩
theorem pk_lt {x y : Int32} {A B : Prop} (a b : Nat) (f : a < b → A) (g : b ≤ a → B) (hx : x = nI a := by rfl) (hy : y = nI b := by rfl) (ha : a < 2 ^ 31 := by omega) (hb : b < 2 ^ 31 := by omega) : (x < y → A) ∧ (¬ x < y → B) := by
  subst hx hy
  rw [nI_ltI ha hb]
  exact ⟨f, fun z => g (by omega)⟩
theorem pk_eq {x y : Int32} {A B : Prop} (a b : Nat) (f : a = b → A) (g : a ≠ b → B) (hx : x = nI a := by rfl) (hy : y = nI b := by rfl) (ha : a < 2 ^ 31 := by omega) (hb : b < 2 ^ 31 := by omega) : (x = y → A) ∧ (¬ x = y → B) := by
  subst hx hy
  rw [nI_eq ha hb]
  exact ⟨f, g⟩
theorem pk_in {x : Int32} (n N : Nat) (h : n < N) (hx : x = nI n := by rfl) (hN : N < 2 ^ 31 := by omega) : vp_in x N := by
  subst hx
  exact vp_in_nI h hN
theorem pk_cl {x : Int32} (n : Nat) (hx : x = nI n := by rfl) (h : n < 2 ^ 31 := by omega) : x.toNatClampNeg = n := by
  subst hx
  exact nI_clamp h
def wr_un (f : Nat → Nat) (k x : Nat) : Nat → Nat := fun j => if j = k then x else f j
theorem wr_us {f : Nat → Nat} {k x : Nat} : wr_un f k x k = x := if_pos rfl
theorem wr_ue {f : Nat → Nat} {k j x : Nat} (h : j ≠ k) : wr_un f k x j = f j := if_neg h
theorem wr_uu {f : Nat → Nat} {k x y : Nat} : wr_un (wr_un f k x) k y = wr_un f k y := by
  funext j
  by_cases h : j = k
  · rw [h, wr_us, wr_us]
  · rw [wr_ue h, wr_ue h, wr_ue h]
theorem wr_uid {f : Nat → Nat} {k : Nat} : wr_un f k (f k) = f := by
  funext j
  by_cases h : j = k
  · rw [h, wr_us]
  · rw [wr_ue h]
theorem wr_nu {f : Nat → Nat} {k x : Nat} : upd (fun j => nI (f j)) k (nI x) = fun j => nI (wr_un f k x j) := by
  funext j
  show upd (fun j => nI (f j)) k (nI x) j = nI (wr_un f k x j)
  by_cases h : j = k
  · rw [h, pk_us, wr_us]
  · rw [pk_un h, wr_ue h]
theorem wr_pp {f : Nat → Int32} {k : Nat} {x y : Int32} : upd (upd f k x) k y = upd f k y := by
  funext j
  by_cases h : j = k
  · rw [h, pk_us, pk_us]
  · rw [pk_un h, pk_un h, pk_un h]
theorem wr_m1 : (-1 : Int32).toInt = -1 := by decide
theorem wr_m10 : (-10 : Int32).toInt = -10 := by decide
theorem wr_nm {n : Nat} (h : n < 2 ^ 31) : nI n ≠ -1 := by
  intro e
  have a := nI_toInt h
  rw [e, wr_m1] at a
  omega
theorem wr_nm10 {n : Nat} (h : n < 2 ^ 31) : nI n ≠ -10 := by
  intro e
  have a := nI_toInt h
  rw [e, wr_m10] at a
  omega
/-- an argument within -/
def wr_gd (n : Nat) (x : Int32) : Prop := ∃ j, j < n ∧ x = nI j
theorem wr_ngd {n : Nat} {x : Int32} (hn : n < 2 ^ 31) (h : ¬ wr_gd n x) : x < 0 ∨ (¬ x < 0 ∧ nI n ≤ x) := by
  by_cases h0 : x < 0
  · exact Or.inl h0
  · rcases pk_ix x hn with a | a | a
    · exact absurd a h0
    · exact Or.inr ⟨h0, a⟩
    · exact absurd a h
/-! sums -/
def wr_S (f : Nat → Nat) : Nat → Nat
  | 0 => 0
  | n + 1 => wr_S f n + f n
theorem wr_S_ext {f g : Nat → Nat} : ∀ n, (∀ i, i < n → f i = g i) → wr_S f n = wr_S g n
  | 0, _ => rfl
  | n + 1, h => by
    show wr_S f n + f n = wr_S g n + g n
    rw [wr_S_ext n fun i hi => h i (by omega), h n (by omega)]
theorem wr_S_ch {f g : Nat → Nat} {p : Nat} (h : ∀ q, q ≠ p → g q = f q) : ∀ n, p < n → wr_S g n + f p = wr_S f n + g p
  | 0, hp => by omega
  | n + 1, hp => by
    show wr_S g n + g n + f p = wr_S f n + f n + g p
    by_cases e : p = n
    · have e2 : wr_S g n = wr_S f n := wr_S_ext n fun i hi => h i (by omega)
      rw [e2, e]
      omega
    · have a := wr_S_ch h n (by omega)
      have b := h n (by omega)
      omega
theorem wr_S_le {f : Nat → Nat} : ∀ n p, p < n → f p ≤ wr_S f n
  | 0, p, hp => by omega
  | n + 1, p, hp => by
    show f p ≤ wr_S f n + f n
    by_cases e : p = n
    · rw [e]; omega
    · have a := wr_S_le (f := f) n p (by omega)
      omega
theorem wr_S_two {f : Nat → Nat} : ∀ n p q, p < n → q < n → p ≠ q → f p + f q ≤ wr_S f n
  | 0, p, q, hp, hq, hne => by omega
  | n + 1, p, q, hp, hq, hne => by
    show f p + f q ≤ wr_S f n + f n
    by_cases e : p = n
    · have a := wr_S_le (f := f) n q (by omega)
      rw [e]; omega
    · by_cases e2 : q = n
      · have a := wr_S_le (f := f) n p (by omega)
        rw [e2]; omega
      · have a := wr_S_two (f := f) n p q (by omega) (by omega) hne
        omega
theorem wr_S_pos {f : Nat → Nat} : ∀ n, 0 < wr_S f n → ∃ p, p < n ∧ 0 < f p
  | 0, h => absurd h (by show ¬ 0 < 0; omega)
  | n + 1, h => by
    by_cases e : 0 < f n
    · exact ⟨n, by omega, e⟩
    · have h2 : 0 < wr_S f n + f n := h
      obtain ⟨p, hp, hf⟩ := wr_S_pos (f := f) n (by omega)
      exact ⟨p, by omega, hf⟩
theorem wr_S_zero {f : Nat → Nat} : ∀ n, (∀ i, i < n → f i = 0) → wr_S f n = 0
  | 0, _ => rfl
  | n + 1, h => by
    show wr_S f n + f n = 0
    rw [wr_S_zero n fun i hi => h i (by omega), h n (by omega)]
theorem wr_S_mono {f : Nat → Nat} {n : Nat} : ∀ k, wr_S f n ≤ wr_S f (n + k)
  | 0 => Nat.le_refl _
  | k + 1 => by
    have a := wr_S_mono (f := f) (n := n) k
    show wr_S f n ≤ wr_S f (n + k) + f (n + k)
    omega
theorem wr_S_ones {f : Nat → Nat} {a : Nat} : ∀ k, (∀ i, i < k → f (a + i) = 1) → wr_S f (a + k) = wr_S f a + k
  | 0, _ => rfl
  | k + 1, h => by
    show wr_S f (a + k) + f (a + k) = _
    rw [wr_S_ones k fun i hi => h i (by omega), h k (by omega)]
    omega
theorem wr_S_split {f : Nat → Nat} (a : Nat) : ∀ k, wr_S f (a + k) = wr_S f a + wr_S (fun i => f (a + i)) k
  | 0 => rfl
  | k + 1 => by
    show wr_S f (a + k) + f (a + k) = wr_S f a + (wr_S (fun i => f (a + i)) k + f (a + k))
    rw [wr_S_split a k]
    omega
theorem wr_S_bd {f : Nat → Nat} (h : ∀ i, f i ≤ 1) : ∀ n, wr_S f n ≤ n
  | 0 => Nat.le_refl _
  | n + 1 => by
    have a := wr_S_bd h n
    have b := h n
    show wr_S f n + f n ≤ n + 1
    omega
/-! how many of n are not y -/
def wr_b (y x : Int32) : Nat := if x = y then 0 else 1
theorem wr_b0 {y x : Int32} (h : x = y) : wr_b y x = 0 := if_pos h
theorem wr_b1 {y x : Int32} (h : x ≠ y) : wr_b y x = 1 := if_neg h
theorem wr_ble (y x : Int32) : wr_b y x ≤ 1 := by
  by_cases h : x = y
  · rw [wr_b0 h]; omega
  · rw [wr_b1 h]; omega
def wr_N (y : Int32) (f : Nat → Int32) (n : Nat) : Nat := wr_S (fun i => wr_b y (f i)) n
theorem wr_N_upd {y x : Int32} {f : Nat → Int32} {n q : Nat} (hq : q < n) : wr_N y (upd f q x) n + wr_b y (f q) = wr_N y f n + wr_b y x := by
  have a := wr_S_ch (f := fun i => wr_b y (f i)) (g := fun i => wr_b y (upd f q x i)) (p := q) (fun j hj => by show wr_b y (upd f q x j) = wr_b y (f j); rw [pk_un hj]) n hq
  have e : wr_b y (upd f q x q) = wr_b y x := by rw [pk_us]
  show wr_S (fun i => wr_b y (upd f q x i)) n + wr_b y (f q) = wr_S (fun i => wr_b y (f i)) n + wr_b y x
  rw [← e]
  exact a
theorem wr_N_ext {y : Int32} {f g : Nat → Int32} {n : Nat} (h : ∀ i, i < n → f i = g i) : wr_N y f n = wr_N y g n :=
  wr_S_ext n fun i hi => by show wr_b y (f i) = wr_b y (g i); rw [h i hi]
theorem wr_N_le (y : Int32) (f : Nat → Int32) (n : Nat) : wr_N y f n ≤ n := wr_S_bd (fun i => wr_ble y (f i)) n
theorem wr_N_pos {y : Int32} {f : Nat → Int32} {n p : Nat} (hp : p < n) (h : f p ≠ y) : 1 ≤ wr_N y f n := by
  have a := wr_S_le (f := fun i => wr_b y (f i)) n p hp
  have e : wr_b y (f p) = 1 := wr_b1 h
  have a2 : wr_b y (f p) ≤ wr_N y f n := a
  omega
theorem wr_N_lt {y : Int32} {f : Nat → Int32} {n p : Nat} (hp : p < n) (h : f p = y) : wr_N y f n < n := by
  have a := wr_N_upd (y := y) (x := y + 1) (f := f) hp
  have b := wr_N_le y (upd f p (y + 1)) n
  have c : wr_b y (y + 1) = 1 := wr_b1 (by
    intro e
    have e2 : y + 1 - y = y - y := by rw [e]
    rw [Int32.add_comm, Int32.add_sub_cancel, Int32.sub_self] at e2
    exact absurd e2 (by decide))
  rw [wr_b0 h, c] at a
  omega
/-! the first of n -/
def wr_fs (P : Nat → Bool) : Nat → Nat → Nat
  | i, 0 => i
  | i, d + 1 => if P i = true then i else wr_fs P (i + 1) d
theorem wr_fs_spec {P : Nat → Bool} : ∀ d i, (wr_fs P i d = i + d ∧ ∀ j, i ≤ j → j < i + d → P j = false) ∨ (wr_fs P i d < i + d ∧ i ≤ wr_fs P i d ∧ P (wr_fs P i d) = true ∧ ∀ j, i ≤ j → j < wr_fs P i d → P j = false)
  | 0, i => Or.inl ⟨rfl, fun j h1 h2 => by omega⟩
  | d + 1, i => by
    by_cases e : P i = true
    · have a : wr_fs P i (d + 1) = i := if_pos e
      rw [a]
      exact Or.inr ⟨by omega, by omega, e, fun j h1 h2 => by omega⟩
    · have a : wr_fs P i (d + 1) = wr_fs P (i + 1) d := if_neg e
      have e2 : P i = false := by
        cases h : P i
        · rfl
        · exact absurd h e
      rw [a]
      rcases wr_fs_spec (P := P) d (i + 1) with ⟨h1, h2⟩ | ⟨h1, h2, h3, h4⟩
      · refine Or.inl ⟨by omega, fun j g1 g2 => ?_⟩
        by_cases ej : j = i
        · rw [ej]; exact e2
        · exact h2 j (by omega) (by omega)
      · refine Or.inr ⟨by omega, by omega, h3, fun j g1 g2 => ?_⟩
        by_cases ej : j = i
        · rw [ej]; exact e2
        · exact h4 j (by omega) g2
end
section
/-! the links: weights, cells, ranks; no program in sight -/
def wr_k (c w d : Nat) : Nat := if c = d then w else 0
theorem wr_k0 {c d : Nat} : wr_k c 0 d = 0 := by
  by_cases h : c = d
  · exact if_pos h
  · exact if_neg h
theorem wr_ks {c w : Nat} : wr_k c w c = w := if_pos rfl
theorem wr_kn {c w d : Nat} (h : c ≠ d) : wr_k c w d = 0 := if_neg h
def wr_wt (lc lw : Nat → Nat) (d : Nat) : Nat := wr_S (fun p => wr_k (lc p) (lw p) d) 398
theorem wr_wt_set (lc lw : Nat → Nat) (p c w : Nat) (hp : p < 398) (d : Nat) : wr_wt (wr_un lc p c) (wr_un lw p w) d + wr_k (lc p) (lw p) d = wr_wt lc lw d + wr_k c w d := by
  have a := wr_S_ch (f := fun q => wr_k (lc q) (lw q) d) (g := fun q => wr_k (wr_un lc p c q) (wr_un lw p w q) d) (p := p) (fun j hj => by show wr_k (wr_un lc p c j) (wr_un lw p w j) d = wr_k (lc j) (lw j) d; rw [wr_ue hj, wr_ue hj]) 398 hp
  have e : wr_k (wr_un lc p c p) (wr_un lw p w p) d = wr_k c w d := by rw [wr_us, wr_us]
  have a2 : wr_wt (wr_un lc p c) (wr_un lw p w) d + wr_k (lc p) (lw p) d = wr_wt lc lw d + wr_k (wr_un lc p c p) (wr_un lw p w p) d := a
  rw [e] at a2
  exact a2
theorem wr_wt_le {lc lw : Nat → Nat} {p : Nat} (hp : p < 398) : lw p ≤ wr_wt lc lw (lc p) := by
  have a := wr_S_le (f := fun q => wr_k (lc q) (lw q) (lc p)) 398 p hp
  have e : wr_k (lc p) (lw p) (lc p) = lw p := wr_ks
  have a2 : wr_k (lc p) (lw p) (lc p) ≤ wr_wt lc lw (lc p) := a
  omega
theorem wr_wt_two {lc lw : Nat → Nat} {p q : Nat} (hp : p < 398) (hq : q < 398) (hne : p ≠ q) (e : lc q = lc p) : lw p + lw q ≤ wr_wt lc lw (lc p) := by
  have a := wr_S_two (f := fun r => wr_k (lc r) (lw r) (lc p)) 398 p q hp hq hne
  have e1 : wr_k (lc p) (lw p) (lc p) = lw p := wr_ks
  have e2 : wr_k (lc q) (lw q) (lc p) = lw q := by rw [e]; exact wr_ks
  have a2 : wr_k (lc p) (lw p) (lc p) + wr_k (lc q) (lw q) (lc p) ≤ wr_wt lc lw (lc p) := a
  omega
theorem wr_wt_pos {lc lw : Nat → Nat} {d : Nat} (h : 0 < wr_wt lc lw d) : ∃ p, p < 398 ∧ lc p = d ∧ 0 < lw p := by
  obtain ⟨p, hp, hf⟩ := wr_S_pos 398 h
  have hf2 : 0 < wr_k (lc p) (lw p) d := hf
  by_cases e : lc p = d
  · rw [e, wr_ks] at hf2
    exact ⟨p, hp, e, hf2⟩
  · rw [wr_kn e] at hf2
    omega
/-- more than one link into the cell of p -/
theorem wr_wt_oth {lc lw : Nat → Nat} {p : Nat} (hp : p < 398) (h : lw p ≠ wr_wt lc lw (lc p)) : ∃ q, q < 398 ∧ q ≠ p ∧ lc q = lc p ∧ 0 < lw q := by
  have a := wr_wt_set lc lw p 0 0 hp (lc p)
  rw [wr_k0, wr_ks] at a
  have b := wr_wt_le (lc := lc) (lw := lw) hp
  obtain ⟨q, hq, e1, e2⟩ := wr_wt_pos (lc := wr_un lc p 0) (lw := wr_un lw p 0) (d := lc p) (by omega)
  by_cases e : q = p
  · rw [e, wr_us] at e2
    omega
  · rw [wr_ue e] at e1 e2
    exact ⟨q, hq, e, e1, e2⟩
def wr_i (n : Nat) : Nat := if n = 0 then 0 else 1
theorem wr_i0 : wr_i 0 = 0 := if_pos rfl
theorem wr_i1 {n : Nat} (h : 0 < n) : wr_i n = 1 := if_neg (by omega)
theorem wr_ile (n : Nat) : wr_i n ≤ 1 := by
  by_cases h : n = 0
  · rw [h, wr_i0]; omega
  · rw [wr_i1 (by omega)]; omega
def wr_cu (cw : Nat → Nat) : Nat := wr_S (fun c => wr_i (cw c)) 252
theorem wr_cu_upd {cw : Nat → Nat} {c w : Nat} (hc : c < 252) : wr_cu (wr_un cw c w) + wr_i (cw c) = wr_cu cw + wr_i w := by
  have a := wr_S_ch (f := fun q => wr_i (cw q)) (g := fun q => wr_i (wr_un cw c w q)) (p := c) (fun j hj => by show wr_i (wr_un cw c w j) = wr_i (cw j); rw [wr_ue hj]) 252 hc
  have e : wr_i (wr_un cw c w c) = wr_i w := by rw [wr_us]
  have a2 : wr_cu (wr_un cw c w) + wr_i (cw c) = wr_cu cw + wr_i (wr_un cw c w c) := a
  rw [e] at a2
  exact a2
theorem wr_cu_pos {cw : Nat → Nat} {c : Nat} (hc : c < 252) (h : 0 < cw c) : 1 ≤ wr_cu cw := by
  have a := wr_S_le (f := fun q => wr_i (cw q)) 252 c hc
  have e : wr_i (cw c) = 1 := wr_i1 h
  have a2 : wr_i (cw c) ≤ wr_cu cw := a
  omega
/-- the links' law; x: the place of a pending inner link (0: none) -/
def wr_LI (O W sp lv b x : Nat) (lc lw cw : Nat → Nat) (co : Nat → Int32) (sc : Nat → Nat) (an ob : Nat → Int32) (rk : Nat → Nat) : Prop :=
  (2 ≤ W ∧ W ≤ 64 ∧ O ≤ 12 ∧ b ≤ 240 ∧ b + 12 ≤ sp + lv) ∧
  (∀ p, p < 398 → 0 < lw p → lc p < 252 ∧ 0 < cw (lc p)) ∧
  (∀ d, d < 252 → cw d = wr_wt lc lw d ∧ cw d ≤ 64) ∧
  (∀ c, c < 252 → (0 < lw (146 + c) ↔ (0 < cw c ∧ co c = -1) ∨ 146 + c = x)) ∧
  (∀ c, c < 252 → 0 < cw c → co c = -1 → rk (lc (146 + c)) < rk c ∧ ob (lc (146 + c)) = ob c) ∧
  (∀ c, c < 252 → 0 < cw c → co c ≠ -1 → ob c = co c ∧ ∃ o, o < O ∧ co c = nI o ∧ an o = nI c) ∧
  (∀ o, o < 12 → an o ≠ -1 → o < O ∧ ∃ c, c < 252 ∧ an o = nI c ∧ 0 < cw c ∧ co c = nI o) ∧
  (∀ c, c < 252 → 0 < cw c → rk c + b ≤ 240) ∧
  (∀ i, i < sp → sc i < 252 ∧ cw (sc i) = 0) ∧
  (∀ i j, i < sp → j < sp → sc i = sc j → i = j) ∧
  (wr_cu cw + sp = 252)
section
variable {O W sp lv b x s : Nat} {lc lw cw : Nat → Nat} {co : Nat → Int32} {sc : Nat → Nat} {an ob : Nat → Int32} {rk : Nat → Nat}
theorem wr_fw (h : wr_LI O W sp lv b x lc lw cw co sc an ob rk) : ∀ m c, rk c ≤ m → c < 252 → 0 < cw c → ∃ o, o < O ∧ ob c = nI o ∧ ∃ a, a < 252 ∧ an o = nI a ∧ 0 < cw a ∧ co a = nI o := by
  obtain ⟨h0, hA, hS, hR, hK, hT, hU, hQ, hP1, hP2, hP3⟩ := h
  intro m
  induction m with
  | zero =>
    intro c hm hc hw
    by_cases e : co c = -1
    · have k := (hK c hc hw e).1
      omega
    · obtain ⟨t1, o, t2, t3, t4⟩ := hT c hc hw e
      exact ⟨o, t2, t1.trans t3, c, hc, t4, hw, t3⟩
  | succ m ih =>
    intro c hm hc hw
    by_cases e : co c = -1
    · obtain ⟨k1, k2⟩ := hK c hc hw e
      have r := (hR c hc).mpr (Or.inl ⟨hw, e⟩)
      obtain ⟨a1, a2⟩ := hA (146 + c) (by omega) r
      obtain ⟨o, g1, g2, g3⟩ := ih (lc (146 + c)) (by omega) a1 a2
      exact ⟨o, g1, k2.symm.trans g2, g3⟩
    · obtain ⟨t1, o, t2, t3, t4⟩ := hT c hc hw e
      exact ⟨o, t2, t1.trans t3, c, hc, t4, hw, t3⟩
theorem wr_bw (h : wr_LI O W sp lv b 0 lc lw cw co sc an ob rk) : ∀ m c, 240 ≤ rk c + m → c < 252 → 0 < cw c → ∃ p, p < 146 ∧ 0 < lw p ∧ ob (lc p) = ob c := by
  obtain ⟨h0, hA, hS, hR, hK, hT, hU, hQ, hP1, hP2, hP3⟩ := h
  intro m
  induction m with
  | zero =>
    intro c hm hc hw
    have s1 := (hS c hc).1
    obtain ⟨p, hp, e1, e2⟩ := wr_wt_pos (lc := lc) (lw := lw) (d := c) (by omega)
    by_cases ep : p < 146
    · exact ⟨p, ep, e2, by rw [e1]⟩
    · obtain ⟨d, rfl⟩ : ∃ d, p = 146 + d := ⟨p - 146, by omega⟩
      rcases (hR d (by omega)).mp e2 with ⟨r1, r2⟩ | r
      · have k := (hK d (by omega) r1 r2).1
        have q := hQ d (by omega) r1
        rw [e1] at k
        omega
      · omega
  | succ m ih =>
    intro c hm hc hw
    have s1 := (hS c hc).1
    obtain ⟨p, hp, e1, e2⟩ := wr_wt_pos (lc := lc) (lw := lw) (d := c) (by omega)
    by_cases ep : p < 146
    · exact ⟨p, ep, e2, by rw [e1]⟩
    · obtain ⟨d, rfl⟩ : ∃ d, p = 146 + d := ⟨p - 146, by omega⟩
      rcases (hR d (by omega)).mp e2 with ⟨r1, r2⟩ | r
      · obtain ⟨k1, k2⟩ := hK d (by omega) r1 r2
        rw [e1] at k1 k2
        obtain ⟨p, g1, g2, g3⟩ := ih d (by omega) (by omega) r1
        exact ⟨p, g1, g2, g3.trans k2.symm⟩
      · omega
theorem wr_lw64 (h : wr_LI O W sp lv b x lc lw cw co sc an ob rk) {p : Nat} (hp : p < 398) : lw p ≤ 64 := by
  obtain ⟨h0, hA, hS, hR, hK, hT, hU, hQ, hP1, hP2, hP3⟩ := h
  by_cases e : 0 < lw p
  · obtain ⟨a1, a2⟩ := hA p hp e
    obtain ⟨s1, s2⟩ := hS (lc p) a1
    have a := wr_wt_le (lc := lc) (lw := lw) hp
    omega
  · omega
theorem wr_cb (h : wr_LI O W sp lv b x lc lw cw co sc an ob rk) {b' : Nat} (hb : b' ≤ b) : wr_LI O W sp lv b' x lc lw cw co sc an ob rk := by
  obtain ⟨⟨h1, h2, h3, h4, h5⟩, hA, hS, hR, hK, hT, hU, hQ, hP1, hP2, hP3⟩ := h
  exact ⟨⟨h1, h2, h3, by omega, by omega⟩, hA, hS, hR, hK, hT, hU, fun c hc hw => by have q := hQ c hc hw; omega, hP1, hP2, hP3⟩
theorem wr_fresh (h : wr_LI O W (s + 1) lv b 0 lc lw cw co sc an ob rk) {c : Nat} (hc : sc s = c) : c < 252 ∧ cw c = 0 ∧ (∀ p, p < 398 → 0 < lw p → lc p ≠ c) ∧ lw (146 + c) = 0 ∧ wr_wt lc lw c = 0 := by
  obtain ⟨h0, hA, hS, hR, hK, hT, hU, hQ, hP1, hP2, hP3⟩ := h
  obtain ⟨p1, p2⟩ := hP1 s (by omega)
  rw [hc] at p1 p2
  refine ⟨p1, p2, fun p hp hl e => ?_, ?_, ?_⟩
  · have a := (hA p hp hl).2
    rw [e] at a
    omega
  · by_cases e : 0 < lw (146 + c)
    · rcases (hR c p1).mp e with ⟨r1, r2⟩ | r
      · omega
      · omega
    · omega
  · have a := (hS c p1).1
    omega
theorem wr_freshP (h : wr_LI O W (s + 1) lv b 0 lc lw cw co sc an ob rk) {c : Nat} (hc : sc s = c) : (∀ i, i < s → sc i < 252 ∧ wr_un cw c W (sc i) = 0) ∧ (∀ i j, i < s → j < s → sc i = sc j → i = j) ∧ wr_cu (wr_un cw c W) + s = 252 := by
  obtain ⟨f1, f2, f3, f4, f5⟩ := wr_fresh h hc
  obtain ⟨h0, hA, hS, hR, hK, hT, hU, hQ, hP1, hP2, hP3⟩ := h
  refine ⟨fun i hi => ?_, fun i j hi hj e => hP2 i j (by omega) (by omega) e, ?_⟩
  · obtain ⟨p1, p2⟩ := hP1 i (by omega)
    have ne : sc i ≠ c := fun e => by
      have a := hP2 i s (by omega) (by omega) (e.trans hc.symm)
      omega
    rw [wr_ue ne]
    exact ⟨p1, p2⟩
  · have a := wr_cu_upd (cw := cw) (c := c) (w := W) f1
    rw [f2, wr_i0, wr_i1 (show 0 < W by omega)] at a
    omega
theorem wr_renew (h : wr_LI O W (s + 1) lv b 0 lc lw cw co sc an ob rk) {c p : Nat} (hc : sc s = c) (hb : 1 ≤ b) (hp : p < 146) (hl : 0 < lw p) :
    wr_LI O W s lv (b - 1) 0 (wr_un (wr_un lc (146 + c) (lc p)) p c) (wr_un (wr_un lw (146 + c) (lw p)) p W) (wr_un cw c W) (upd co c (-1)) sc an (upd ob c (ob (lc p))) (wr_un rk c (rk (lc p) + 1)) := by
  obtain ⟨f1, f2, f3, f4, f5⟩ := wr_fresh h hc
  obtain ⟨f6, f7, f8⟩ := wr_freshP h hc
  obtain ⟨⟨h1, h2, h3, h4, h5⟩, hA, hS, hR, hK, hT, hU, hQ, hP1, hP2, hP3⟩ := h
  have Lp : lc p < 252 ∧ 0 < cw (lc p) := hA p (by omega) hl
  have np : lc p ≠ c := f3 p (by omega) hl
  have nq : p ≠ 146 + c := by omega
  refine ⟨⟨h1, h2, h3, by omega, by omega⟩, ?_, ?_, ?_, ?_, ?_, ?_, ?_, f6, f7, f8⟩
  · intro q hq hlq
    by_cases e1 : q = p
    · rw [e1, wr_us, wr_us]; exact ⟨f1, by omega⟩
    · rw [wr_ue e1] at hlq ⊢
      by_cases e2 : q = 146 + c
      · rw [e2, wr_us, wr_ue np]; exact Lp
      · rw [wr_ue e2] at hlq ⊢
        rw [wr_ue (f3 q hq hlq)]; exact hA q hq hlq
  · intro d hd
    have s1 := wr_wt_set lc lw (146 + c) (lc p) (lw p) (by omega) d
    have s2 := wr_wt_set (wr_un lc (146 + c) (lc p)) (wr_un lw (146 + c) (lw p)) p c W (by omega) d
    rw [wr_ue nq, wr_ue nq] at s2
    rw [f4, wr_k0] at s1
    obtain ⟨s3, s4⟩ := hS d hd
    by_cases e : d = c
    · rw [e] at s1 s2 ⊢
      rw [wr_us]
      rw [wr_ks] at s2
      exact ⟨by omega, h2⟩
    · rw [wr_ue e]
      rw [wr_kn (fun z => e z.symm)] at s2
      exact ⟨by omega, s4⟩
  · intro e he
    have n1 : 146 + e ≠ p := by omega
    rw [wr_ue n1]
    by_cases ec : e = c
    · rw [ec, wr_us, wr_us, pk_us]
      exact ⟨fun _ => Or.inl ⟨by omega, rfl⟩, fun _ => hl⟩
    · rw [wr_ue (show 146 + e ≠ 146 + c by omega), wr_ue ec, pk_un ec]
      exact hR e he
  · intro e he hw hco
    have n1 : 146 + e ≠ p := by omega
    rw [wr_ue n1]
    by_cases ec : e = c
    · rw [ec, wr_us, wr_us, wr_ue np, pk_un np, pk_us]
      exact ⟨by omega, rfl⟩
    · rw [wr_ue ec] at hw
      rw [pk_un ec] at hco
      have r := (hR e he).mpr (Or.inl ⟨hw, hco⟩)
      have n2 := f3 (146 + e) (by omega) r
      rw [wr_ue (show 146 + e ≠ 146 + c by omega), wr_ue ec, wr_ue n2, pk_un n2, pk_un ec]
      exact hK e he hw hco
  · intro e he hw hco
    by_cases ec : e = c
    · rw [ec, pk_us] at hco
      exact absurd rfl hco
    · rw [wr_ue ec] at hw
      rw [pk_un ec] at hco
      rw [pk_un ec, pk_un ec]
      exact hT e he hw hco
  · intro o ho hn
    obtain ⟨u1, e, u2, u3, u4, u5⟩ := hU o ho hn
    have ec : e ≠ c := fun z => by rw [z] at u4; omega
    exact ⟨u1, e, u2, u3, by rw [wr_ue ec]; exact u4, by rw [pk_un ec]; exact u5⟩
  · intro e he hw
    by_cases ec : e = c
    · rw [ec, wr_us]
      have q := hQ (lc p) Lp.1 Lp.2
      omega
    · rw [wr_ue ec] at hw ⊢
      have q := hQ e he hw
      omega
theorem wr_split (h : wr_LI O W sp lv b 0 lc lw cw co sc an ob rk) {p q k : Nat} (hp : p < 146) (hq : q < 146) (ne : p ≠ q) (h0 : lw q = 0) (hk : 0 < k) (hl : k < lw p) :
    wr_LI O W sp lv b 0 (wr_un lc q (lc p)) (wr_un (wr_un lw p (lw p - k)) q k) cw co sc an ob rk := by
  obtain ⟨h1, hA, hS, hR, hK, hT, hU, hQ, hP1, hP2, hP3⟩ := h
  refine ⟨h1, ?_, ?_, ?_, ?_, hT, hU, hQ, hP1, hP2, hP3⟩
  · intro r hr hlr
    by_cases e1 : r = q
    · rw [e1, wr_us]; exact hA p (by omega) (by omega)
    · rw [wr_ue e1] at hlr ⊢
      by_cases e2 : r = p
      · rw [e2]; exact hA p (by omega) (by omega)
      · rw [wr_ue e2] at hlr; exact hA r hr hlr
  · intro d hd
    have s1 := wr_wt_set lc lw p (lc p) (lw p - k) (by omega) d
    rw [wr_uid] at s1
    have s2 := wr_wt_set lc (wr_un lw p (lw p - k)) q (lc p) k (by omega) d
    rw [wr_ue (fun z => ne z.symm), h0, wr_k0] at s2
    obtain ⟨s3, s4⟩ := hS d hd
    by_cases e : lc p = d
    · rw [e, wr_ks, wr_ks] at s1
      rw [e, wr_ks] at s2
      rw [e]
      exact ⟨by omega, s4⟩
    · rw [wr_kn e, wr_kn e] at s1
      rw [wr_kn e] at s2
      exact ⟨by omega, s4⟩
  · intro e he
    rw [wr_ue (show 146 + e ≠ q by omega), wr_ue (show 146 + e ≠ p by omega)]
    exact hR e he
  · intro e he hw hco
    rw [wr_ue (show 146 + e ≠ q by omega)]
    exact hK e he hw hco
theorem wr_move (h : wr_LI O W sp lv b 0 lc lw cw co sc an ob rk) {p q : Nat} (hp : p < 146) (hq : q < 146) (ne : p ≠ q) (h0 : lw q = 0) :
    wr_LI O W sp lv b 0 (wr_un (wr_un lc q (lc p)) p 0) (wr_un (wr_un lw q (lw p)) p 0) cw co sc an ob rk := by
  obtain ⟨h1, hA, hS, hR, hK, hT, hU, hQ, hP1, hP2, hP3⟩ := h
  refine ⟨h1, ?_, ?_, ?_, ?_, hT, hU, hQ, hP1, hP2, hP3⟩
  · intro r hr hlr
    by_cases e1 : r = p
    · rw [e1, wr_us] at hlr; omega
    · rw [wr_ue e1] at hlr ⊢
      by_cases e2 : r = q
      · rw [e2, wr_us] at hlr ⊢; exact hA p (by omega) hlr
      · rw [wr_ue e2] at hlr ⊢; exact hA r hr hlr
  · intro d hd
    have s1 := wr_wt_set lc lw q (lc p) (lw p) (by omega) d
    have s2 := wr_wt_set (wr_un lc q (lc p)) (wr_un lw q (lw p)) p 0 0 (by omega) d
    rw [wr_ue ne, wr_ue ne, wr_k0] at s2
    rw [h0, wr_k0] at s1
    obtain ⟨s3, s4⟩ := hS d hd
    exact ⟨by omega, s4⟩
  · intro e he
    rw [wr_ue (show 146 + e ≠ p by omega), wr_ue (show 146 + e ≠ q by omega)]
    exact hR e he
  · intro e he hw hco
    rw [wr_ue (show 146 + e ≠ p by omega), wr_ue (show 146 + e ≠ q by omega)]
    exact hK e he hw hco
end
end
section
/-! the links: a new anchor, a departure, the end of a link -/
section
variable {O W sp lv b x s : Nat} {lc lw cw : Nat → Nat} {co : Nat → Int32} {sc : Nat → Nat} {an ob : Nat → Int32} {rk : Nat → Nat}
theorem wr_create (h : wr_LI O W (s + 1) lv b 0 lc lw cw co sc an ob rk) {c p o : Nat} (hc : sc s = c) (hp : p < 146) (h0 : lw p = 0) (ho : o < O) (hd : an o = -1) :
    wr_LI O W s (lv + 1) b 0 (wr_un lc p c) (wr_un lw p W) (wr_un cw c W) (upd co c (nI o)) sc (upd an o (nI c)) (upd ob c (nI o)) (wr_un rk c 0) := by
  obtain ⟨f1, f2, f3, f4, f5⟩ := wr_fresh h hc
  obtain ⟨f6, f7, f8⟩ := wr_freshP h hc
  obtain ⟨⟨h1, h2, h3, h4, h5⟩, hA, hS, hR, hK, hT, hU, hQ, hP1, hP2, hP3⟩ := h
  have no : nI o ≠ -1 := wr_nm (by omega)
  refine ⟨⟨h1, h2, h3, h4, by omega⟩, ?_, ?_, ?_, ?_, ?_, ?_, ?_, f6, f7, f8⟩
  · intro q hq hlq
    by_cases e1 : q = p
    · rw [e1, wr_us, wr_us]; exact ⟨f1, by omega⟩
    · rw [wr_ue e1] at hlq ⊢
      rw [wr_ue (f3 q hq hlq)]; exact hA q hq hlq
  · intro d hd
    have s1 := wr_wt_set lc lw p c W (by omega) d
    rw [h0, wr_k0] at s1
    obtain ⟨s3, s4⟩ := hS d hd
    by_cases e : d = c
    · rw [e] at s1 ⊢
      rw [wr_us]
      rw [wr_ks] at s1
      exact ⟨by omega, h2⟩
    · rw [wr_ue e]
      rw [wr_kn (fun z => e z.symm)] at s1
      exact ⟨by omega, s4⟩
  · intro e he
    rw [wr_ue (show 146 + e ≠ p by omega)]
    by_cases ec : e = c
    · rw [ec, wr_us, pk_us, f4]
      exact ⟨fun z => by omega, fun z => by
        rcases z with ⟨_, z⟩ | z
        · exact absurd z no
        · omega⟩
    · rw [wr_ue ec, pk_un ec]
      exact hR e he
  · intro e he hw hco
    rw [wr_ue (show 146 + e ≠ p by omega)]
    by_cases ec : e = c
    · rw [ec, pk_us] at hco
      exact absurd hco no
    · rw [wr_ue ec] at hw
      rw [pk_un ec] at hco
      have r := (hR e he).mpr (Or.inl ⟨hw, hco⟩)
      have n2 := f3 (146 + e) (by omega) r
      rw [wr_ue n2, wr_ue ec, pk_un n2, pk_un ec]
      exact hK e he hw hco
  · intro e he hw hco
    by_cases ec : e = c
    · rw [ec, pk_us, pk_us]
      exact ⟨rfl, o, ho, rfl, pk_us⟩
    · rw [wr_ue ec] at hw
      rw [pk_un ec] at hco
      rw [pk_un ec, pk_un ec]
      obtain ⟨t1, o2, t2, t3, t4⟩ := hT e he hw hco
      refine ⟨t1, o2, t2, t3, ?_⟩
      have ne : o2 ≠ o := fun z => by
        rw [z, hd] at t4
        exact wr_nm (show e < 2 ^ 31 by omega) t4.symm
      rw [pk_un ne]
      exact t4
  · intro o2 ho2 hn
    by_cases eo : o2 = o
    · rw [eo]
      exact ⟨ho, c, f1, pk_us, by rw [wr_us]; omega, pk_us⟩
    · rw [pk_un eo] at hn ⊢
      obtain ⟨u1, e, u2, u3, u4, u5⟩ := hU o2 ho2 hn
      have ec : e ≠ c := fun z => by rw [z] at u4; omega
      exact ⟨u1, e, u2, u3, by rw [wr_ue ec]; exact u4, by rw [pk_un ec]; exact u5⟩
  · intro e he hw
    by_cases ec : e = c
    · rw [ec, wr_us]
      omega
    · rw [wr_ue ec] at hw ⊢
      exact hQ e he hw
/-- ranks after a departure -/
def wr_up (rk : Nat → Nat) (c : Nat) : Nat → Nat := fun y => if y = c then 0 else rk y + 1
theorem wr_ups {c : Nat} : wr_up rk c c = 0 := if_pos rfl
theorem wr_upn {c y : Nat} (h : y ≠ c) : wr_up rk c y = rk y + 1 := if_neg h
theorem wr_anch (h : wr_LI O W sp lv b x lc lw cw co sc an ob rk) {o a : Nat} (ho : o < 12) (ha : an o = nI a) (ha2 : a < 252) : o < O ∧ 0 < cw a ∧ co a = nI o ∧ ob a = nI o := by
  obtain ⟨h0, hA, hS, hR, hK, hT, hU, hQ, hP1, hP2, hP3⟩ := h
  obtain ⟨u1, e, u2, u3, u4, u5⟩ := hU o ho (by rw [ha]; exact wr_nm (by omega))
  have ea : e = a := (nI_eq (by omega) (by omega)).mp (u3.symm.trans ha)
  rw [ea] at u4 u5
  have t := (hT a ha2 u4 (by rw [u5]; exact wr_nm (by omega))).1
  exact ⟨u1, u4, u5, t.trans u5⟩
theorem wr_depart (h : wr_LI O W (s + 1) lv b 0 lc lw cw co sc an ob rk) {c o a : Nat} (hc : sc s = c) (hb : 1 ≤ b) (ho : o < 12) (ha : an o = nI a) (ha2 : a < 252) :
    wr_LI O W s lv (b - 1) 0 (wr_un lc (146 + a) c) (wr_un lw (146 + a) W) (wr_un cw c W) (upd (upd co c (nI o)) a (-1)) sc (upd an o (nI c)) (upd ob c (nI o)) (wr_up rk c) := by
  obtain ⟨f1, f2, f3, f4, f5⟩ := wr_fresh h hc
  obtain ⟨f6, f7, f8⟩ := wr_freshP h hc
  obtain ⟨a1, a2, a3, a4⟩ := wr_anch h ho ha ha2
  obtain ⟨⟨h1, h2, h3, h4, h5⟩, hA, hS, hR, hK, hT, hU, hQ, hP1, hP2, hP3⟩ := h
  have no : nI o ≠ -1 := wr_nm (by omega)
  have nac : a ≠ c := fun z => by rw [z] at a2; omega
  have nca : c ≠ a := fun z => nac z.symm
  have l0 : lw (146 + a) = 0 := by
    by_cases e : 0 < lw (146 + a)
    · rcases (hR a ha2).mp e with ⟨r1, r2⟩ | r
      · rw [a3] at r2; exact absurd r2 no
      · omega
    · omega
  refine ⟨⟨h1, h2, h3, by omega, by omega⟩, ?_, ?_, ?_, ?_, ?_, ?_, ?_, f6, f7, f8⟩
  · intro q hq hlq
    by_cases e1 : q = 146 + a
    · rw [e1, wr_us, wr_us]; exact ⟨f1, by omega⟩
    · rw [wr_ue e1] at hlq ⊢
      rw [wr_ue (f3 q hq hlq)]; exact hA q hq hlq
  · intro d hd
    have s1 := wr_wt_set lc lw (146 + a) c W (by omega) d
    rw [l0, wr_k0] at s1
    obtain ⟨s3, s4⟩ := hS d hd
    by_cases e : d = c
    · rw [e] at s1 ⊢
      rw [wr_us]
      rw [wr_ks] at s1
      exact ⟨by omega, h2⟩
    · rw [wr_ue e]
      rw [wr_kn (fun z => e z.symm)] at s1
      exact ⟨by omega, s4⟩
  · intro e he
    by_cases ea : e = a
    · rw [ea, wr_us, wr_ue nac, pk_us]
      exact ⟨fun _ => Or.inl ⟨a2, rfl⟩, fun _ => by omega⟩
    · rw [wr_ue (show 146 + e ≠ 146 + a by omega), pk_un ea]
      by_cases ec : e = c
      · rw [ec, wr_us, pk_us, f4]
        exact ⟨fun z => by omega, fun z => by
          rcases z with ⟨_, z⟩ | z
          · exact absurd z no
          · omega⟩
      · rw [wr_ue ec, pk_un ec]
        exact hR e he
  · intro e he hw hco
    by_cases ea : e = a
    · rw [ea, wr_us, wr_ups, wr_upn nac, pk_us, pk_un nac]
      exact ⟨by omega, a4.symm⟩
    · rw [pk_un ea] at hco
      rw [wr_ue (show 146 + e ≠ 146 + a by omega)]
      by_cases ec : e = c
      · rw [ec, pk_us] at hco
        exact absurd hco no
      · rw [wr_ue ec] at hw
        rw [pk_un ec] at hco
        have r := (hR e he).mpr (Or.inl ⟨hw, hco⟩)
        have n2 := f3 (146 + e) (by omega) r
        rw [wr_upn n2, wr_upn ec, pk_un n2, pk_un ec]
        have k := hK e he hw hco
        exact ⟨by omega, k.2⟩
  · intro e he hw hco
    by_cases ea : e = a
    · rw [ea, pk_us] at hco
      exact absurd rfl hco
    · rw [pk_un ea] at hco
      rw [pk_un ea]
      by_cases ec : e = c
      · rw [ec, pk_us, pk_us]
        exact ⟨rfl, o, a1, rfl, pk_us⟩
      · rw [wr_ue ec] at hw
        rw [pk_un ec] at hco
        rw [pk_un ec, pk_un ec]
        obtain ⟨t1, o2, t2, t3, t4⟩ := hT e he hw hco
        refine ⟨t1, o2, t2, t3, ?_⟩
        have ne : o2 ≠ o := fun z => by
          rw [z, ha] at t4
          exact ea ((nI_eq (by omega) (by omega)).mp t4).symm
        rw [pk_un ne]
        exact t4
  · intro o2 ho2 hn
    by_cases eo : o2 = o
    · rw [eo]
      exact ⟨a1, c, f1, pk_us, by rw [wr_us]; omega, by rw [pk_un nca, pk_us]⟩
    · rw [pk_un eo] at hn ⊢
      obtain ⟨u1, e, u2, u3, u4, u5⟩ := hU o2 ho2 hn
      have ec : e ≠ c := fun z => by rw [z] at u4; omega
      have ea : e ≠ a := fun z => by
        rw [z, a3] at u5
        exact eo ((nI_eq (by omega) (by omega)).mp u5).symm
      exact ⟨u1, e, u2, u3, by rw [wr_ue ec]; exact u4, by rw [pk_un ea, pk_un ec]; exact u5⟩
  · intro e he hw
    by_cases ec : e = c
    · rw [ec, wr_ups]
      omega
    · rw [wr_ue ec] at hw
      rw [wr_upn ec]
      have q := hQ e he hw
      omega
/-- the place of a link that is to end: an outer one, or the inner one of a cell that is spent -/
def wr_pend (cw : Nat → Nat) (x t : Nat) : Prop := (t < 146 ∧ x = 0) ∨ ∃ g, g < 252 ∧ t = 146 + g ∧ x = 146 + g ∧ cw g = 0
theorem wr_endS (h : wr_LI O W sp lv b x lc lw cw co sc an ob rk) {t : Nat} (ht : t < 398) (hl : 0 < lw t) : lc t < 252 ∧ 0 < cw (lc t) ∧ lw t ≤ cw (lc t) ∧ cw (lc t) = wr_wt lc lw (lc t) ∧ sp < 252 ∧
    ∀ d, d < 252 → wr_un cw (lc t) (cw (lc t) - lw t) d = wr_wt (wr_un lc t 0) (wr_un lw t 0) d ∧ wr_un cw (lc t) (cw (lc t) - lw t) d ≤ 64 := by
  obtain ⟨h0, hA, hS, hR, hK, hT, hU, hQ, hP1, hP2, hP3⟩ := h
  obtain ⟨a1, a2⟩ := hA t ht hl
  have l := wr_wt_le (lc := lc) (lw := lw) ht
  have sd := hS (lc t) a1
  have cp := wr_cu_pos a1 a2
  refine ⟨a1, a2, by omega, sd.1, by omega, fun d hd => ?_⟩
  have s1 := wr_wt_set lc lw t 0 0 ht d
  rw [wr_k0] at s1
  have s2 := hS d hd
  by_cases e : d = lc t
  · rw [e, wr_us]
    rw [e, wr_ks] at s1
    omega
  · rw [wr_ue e]
    rw [wr_kn (fun z => e z.symm)] at s1
    omega
theorem wr_end1 (h : wr_LI O W sp lv b x lc lw cw co sc an ob rk) {t : Nat} (ht : t < 398) (hl : 0 < lw t) (hx : wr_pend cw x t) (hlt : lw t < cw (lc t)) :
    wr_LI O W sp lv b 0 (wr_un lc t 0) (wr_un lw t 0) (wr_un cw (lc t) (cw (lc t) - lw t)) co sc an ob rk := by
  obtain ⟨a1, a2, a3, a4, a5, a6⟩ := wr_endS h ht hl
  obtain ⟨h0, hA, hS, hR, hK, hT, hU, hQ, hP1, hP2, hP3⟩ := h
  have ps : ∀ e, 0 < wr_un cw (lc t) (cw (lc t) - lw t) e ↔ 0 < cw e := fun e => by
    by_cases ec : e = lc t
    · rw [ec, wr_us]; omega
    · rw [wr_ue ec]
  have nt : ∀ e, e < 252 → 0 < cw e → 146 + e ≠ t := fun e he hw z => by
    rcases hx with ⟨x1, x2⟩ | ⟨g, x1, x2, x3, x4⟩
    · omega
    · have : e = g := by omega
      rw [this] at hw; omega
  refine ⟨h0, ?_, a6, ?_, ?_, ?_, ?_, ?_, ?_, hP2, ?_⟩
  · intro q hq hlq
    by_cases e1 : q = t
    · rw [e1, wr_us] at hlq; omega
    · rw [wr_ue e1] at hlq ⊢
      have a := hA q hq hlq
      exact ⟨a.1, (ps _).mpr a.2⟩
  · intro e he
    rw [ps]
    by_cases et : 146 + e = t
    · rw [et, wr_us]
      refine ⟨fun z => by omega, fun z => ?_⟩
      rcases z with ⟨z, _⟩ | z
      · exact absurd et (nt e he z)
      · omega
    · rw [wr_ue et]
      have r := hR e he
      constructor
      · intro z
        rcases r.mp z with z | z
        · exact Or.inl z
        · rcases hx with ⟨x1, x2⟩ | ⟨g, x1, x2, x3, x4⟩
          · omega
          · omega
      · intro z
        rcases z with z | z
        · exact r.mpr (Or.inl z)
        · omega
  · intro e he hw hco
    rw [ps] at hw
    rw [wr_ue (nt e he hw)]
    exact hK e he hw hco
  · intro e he hw hco
    rw [ps] at hw
    exact hT e he hw hco
  · intro o ho hn
    obtain ⟨u1, e, u2, u3, u4, u5⟩ := hU o ho hn
    exact ⟨u1, e, u2, u3, (ps e).mpr u4, u5⟩
  · intro e he hw
    rw [ps] at hw
    exact hQ e he hw
  · intro i hi
    obtain ⟨p1, p2⟩ := hP1 i hi
    have ne : sc i ≠ lc t := fun z => by rw [z] at p2; omega
    rw [wr_ue ne]
    exact ⟨p1, p2⟩
  · have c1 := wr_cu_upd (cw := cw) (c := lc t) (w := cw (lc t) - lw t) a1
    rw [wr_i1 a2, wr_i1 (show 0 < cw (lc t) - lw t by omega)] at c1
    omega
/-- what the two spent cases share -/
theorem wr_endC (h : wr_LI O W sp lv b x lc lw cw co sc an ob rk) {t : Nat} (ht : t < 398) (hl : 0 < lw t) (hx : wr_pend cw x t) (he : lw t = cw (lc t)) :
    (∀ q, q < 398 → 0 < wr_un lw t 0 q → wr_un lc t 0 q < 252 ∧ 0 < wr_un cw (lc t) (cw (lc t) - lw t) (wr_un lc t 0 q)) ∧
    (∀ e, 0 < wr_un cw (lc t) (cw (lc t) - lw t) e → e ≠ lc t ∧ 0 < cw e) ∧ (∀ e, e ≠ lc t → 0 < cw e → 0 < wr_un cw (lc t) (cw (lc t) - lw t) e) ∧
    (∀ e, e < 252 → 0 < cw e → 146 + e ≠ t) ∧
    (∀ i, i < sp + 1 → wr_un sc sp (lc t) i < 252 ∧ wr_un cw (lc t) (cw (lc t) - lw t) (wr_un sc sp (lc t) i) = 0) ∧
    (∀ i j, i < sp + 1 → j < sp + 1 → wr_un sc sp (lc t) i = wr_un sc sp (lc t) j → i = j) ∧
    (wr_cu (wr_un cw (lc t) (cw (lc t) - lw t)) + (sp + 1) = 252) := by
  obtain ⟨a1, a2, a3, a4, a5, a6⟩ := wr_endS h ht hl
  obtain ⟨h0, hA, hS, hR, hK, hT, hU, hQ, hP1, hP2, hP3⟩ := h
  have hz : cw (lc t) - lw t = 0 := by omega
  rw [hz]
  have nsc : ∀ i, i < sp → sc i ≠ lc t := fun i hi z => by
    have p := (hP1 i hi).2
    rw [z] at p
    omega
  refine ⟨?_, ?_, ?_, ?_, ?_, ?_, ?_⟩
  · intro q hq hlq
    by_cases e1 : q = t
    · rw [e1, wr_us] at hlq; omega
    · rw [wr_ue e1] at hlq ⊢
      have a := hA q hq hlq
      have ne : lc q ≠ lc t := fun z => by
        have w := wr_wt_two (lc := lc) (lw := lw) ht hq (fun z => e1 z.symm) z
        omega
      rw [wr_ue ne]
      exact a
  · intro e hw
    by_cases ec : e = lc t
    · rw [ec, wr_us] at hw; omega
    · rw [wr_ue ec] at hw; exact ⟨ec, hw⟩
  · intro e ec hw
    rw [wr_ue ec]; exact hw
  · intro e he2 hw z
    rcases hx with ⟨x1, x2⟩ | ⟨g, x1, x2, x3, x4⟩
    · omega
    · have : e = g := by omega
      rw [this] at hw; omega
  · intro i hi
    by_cases ei : i = sp
    · rw [ei, wr_us, wr_us]; exact ⟨a1, rfl⟩
    · rw [wr_ue ei, wr_ue (nsc i (by omega))]
      exact hP1 i (by omega)
  · intro i j hi hj e
    by_cases ei : i = sp
    · by_cases ej : j = sp
      · omega
      · rw [ei, wr_us, wr_ue ej] at e
        exact absurd e.symm (nsc j (by omega))
    · by_cases ej : j = sp
      · rw [ej, wr_us, wr_ue ei] at e
        exact absurd e (nsc i (by omega))
      · rw [wr_ue ei, wr_ue ej] at e
        exact hP2 i j (by omega) (by omega) e
  · have c1 := wr_cu_upd (cw := cw) (c := lc t) (w := 0) a1
    rw [wr_i1 a2, wr_i0] at c1
    omega
theorem wr_end2 (h : wr_LI O W sp lv b x lc lw cw co sc an ob rk) {t : Nat} (ht : t < 398) (hl : 0 < lw t) (hx : wr_pend cw x t) (he : lw t = cw (lc t)) (hco : co (lc t) = -1) :
    wr_LI O W (sp + 1) lv b (146 + lc t) (wr_un lc t 0) (wr_un lw t 0) (wr_un cw (lc t) (cw (lc t) - lw t)) (upd co (lc t) (-1)) (wr_un sc sp (lc t)) an ob rk := by
  obtain ⟨a1, a2, a3, a4, a5, a6⟩ := wr_endS h ht hl
  obtain ⟨c1, c2, c3, c4, c5, c6, c7⟩ := wr_endC h ht hl hx he
  obtain ⟨⟨h1, h2, h3, h4, h5⟩, hA, hS, hR, hK, hT, hU, hQ, hP1, hP2, hP3⟩ := h
  refine ⟨⟨h1, h2, h3, h4, by omega⟩, c1, a6, ?_, ?_, ?_, ?_, ?_, c5, c6, c7⟩
  · intro e he
    by_cases ec : e = lc t
    · rw [ec, wr_ue (c4 _ a1 a2)]
      exact ⟨fun _ => Or.inr rfl, fun _ => (hR _ a1).mpr (Or.inl ⟨a2, hco⟩)⟩
    · rw [pk_un ec]
      by_cases et : 146 + e = t
      · rw [et, wr_us]
        refine ⟨fun z => by omega, fun z => ?_⟩
        rcases z with ⟨z, _⟩ | z
        · exact absurd et (c4 e he (c2 e z).2)
        · omega
      · rw [wr_ue et]
        have r := hR e he
        constructor
        · intro z
          rcases r.mp z with z | z
          · exact Or.inl ⟨c3 e ec z.1, z.2⟩
          · rcases hx with ⟨x1, x2⟩ | ⟨g, x1, x2, x3, x4⟩
            · omega
            · omega
        · intro z
          rcases z with z | z
          · exact r.mpr (Or.inl ⟨(c2 e z.1).2, z.2⟩)
          · omega
  · intro e he hw hc2
    obtain ⟨n1, n2⟩ := c2 e hw
    rw [pk_un n1] at hc2
    rw [wr_ue (c4 e he n2)]
    exact hK e he n2 hc2
  · intro e he hw hc2
    obtain ⟨n1, n2⟩ := c2 e hw
    rw [pk_un n1] at hc2 ⊢
    exact hT e he n2 hc2
  · intro o ho hn
    obtain ⟨u1, e, u2, u3, u4, u5⟩ := hU o ho hn
    have ne : e ≠ lc t := fun z => by
      rw [z, hco] at u5
      exact wr_nm (show o < 2 ^ 31 by omega) u5.symm
    exact ⟨u1, e, u2, u3, c3 e ne u4, by rw [pk_un ne]; exact u5⟩
  · intro e he hw
    exact hQ e he (c2 e hw).2
theorem wr_end3 (h : wr_LI O W sp (lv + 1) b x lc lw cw co sc an ob rk) {t o : Nat} (ht : t < 398) (hl : 0 < lw t) (hx : wr_pend cw x t) (he : lw t = cw (lc t)) (ho : o < 12) (hco : co (lc t) = nI o) :
    wr_LI O W (sp + 1) lv b 0 (wr_un lc t 0) (wr_un lw t 0) (wr_un cw (lc t) (cw (lc t) - lw t)) (upd co (lc t) (-1)) (wr_un sc sp (lc t)) (upd an o (-1)) ob rk := by
  obtain ⟨a1, a2, a3, a4, a5, a6⟩ := wr_endS h ht hl
  obtain ⟨c1, c2, c3, c4, c5, c6, c7⟩ := wr_endC h ht hl hx he
  obtain ⟨⟨h1, h2, h3, h4, h5⟩, hA, hS, hR, hK, hT, hU, hQ, hP1, hP2, hP3⟩ := h
  have no : nI o ≠ -1 := wr_nm (by omega)
  have an0 : an o = nI (lc t) := by
    obtain ⟨t1, o2, t2, t3, t4⟩ := hT (lc t) a1 a2 (by rw [hco]; exact no)
    have e : o = o2 := (nI_eq (by omega) (by omega)).mp (hco.symm.trans t3)
    rw [e]; exact t4
  refine ⟨⟨h1, h2, h3, h4, by omega⟩, c1, a6, ?_, ?_, ?_, ?_, ?_, c5, c6, c7⟩
  · intro e he
    by_cases ec : e = lc t
    · rw [ec, wr_ue (c4 _ a1 a2)]
      constructor
      · intro z
        rcases (hR _ a1).mp z with ⟨_, z⟩ | z
        · rw [hco] at z; exact absurd z no
        · rcases hx with ⟨x1, x2⟩ | ⟨g, x1, x2, x3, x4⟩
          · omega
          · have : lc t = g := by omega
            rw [this] at a2; omega
      · intro z
        rcases z with ⟨z, _⟩ | z
        · exact absurd rfl (c2 _ z).1
        · omega
    · rw [pk_un ec]
      by_cases et : 146 + e = t
      · rw [et, wr_us]
        refine ⟨fun z => by omega, fun z => ?_⟩
        rcases z with ⟨z, _⟩ | z
        · exact absurd et (c4 e he (c2 e z).2)
        · omega
      · rw [wr_ue et]
        have r := hR e he
        constructor
        · intro z
          rcases r.mp z with z | z
          · exact Or.inl ⟨c3 e ec z.1, z.2⟩
          · rcases hx with ⟨x1, x2⟩ | ⟨g, x1, x2, x3, x4⟩
            · omega
            · omega
        · intro z
          rcases z with z | z
          · exact r.mpr (Or.inl ⟨(c2 e z.1).2, z.2⟩)
          · omega
  · intro e he hw hc2
    obtain ⟨n1, n2⟩ := c2 e hw
    rw [pk_un n1] at hc2
    rw [wr_ue (c4 e he n2)]
    exact hK e he n2 hc2
  · intro e he hw hc2
    obtain ⟨n1, n2⟩ := c2 e hw
    rw [pk_un n1] at hc2 ⊢
    obtain ⟨t1, o2, t2, t3, t4⟩ := hT e he n2 hc2
    have ne : o2 ≠ o := fun z => by
      rw [z, an0] at t4
      exact n1 ((nI_eq (by omega) (by omega)).mp t4).symm
    exact ⟨t1, o2, t2, t3, by rw [pk_un ne]; exact t4⟩
  · intro o2 ho2 hn
    by_cases eo : o2 = o
    · rw [eo, pk_us] at hn; exact absurd rfl hn
    · rw [pk_un eo] at hn ⊢
      obtain ⟨u1, e, u2, u3, u4, u5⟩ := hU o2 ho2 hn
      have ne : e ≠ lc t := fun z => by
        rw [z, hco] at u5
        exact eo ((nI_eq (by omega) (by omega)).mp u5).symm
      exact ⟨u1, e, u2, u3, c3 e ne u4, by rw [pk_un ne]; exact u5⟩
  · intro e he hw
    exact hQ e he (c2 e hw).2
end
end
section
/-! what the outer links show, and the only link -/
def wr_GL (G : Nat → Int32) (lc lw : Nat → Nat) (ob : Nat → Int32) : Prop := ∀ p, p < 146 → G p = if lw p = 0 then -1 else ob (lc p)
section
variable {O W sp lv b x s : Nat} {lc lw cw : Nat → Nat} {co : Nat → Int32} {sc : Nat → Nat} {an ob : Nat → Int32} {rk : Nat → Nat} {G : Nat → Int32}
theorem wr_gl1 (g : wr_GL G lc lw ob) {p : Nat} (hp : p < 146) (hl : 0 < lw p) : G p = ob (lc p) := by
  rw [g p hp, if_neg (by omega)]
theorem wr_glz (g : wr_GL G lc lw ob) {p : Nat} (hp : p < 146) (hl : lw p = 0) : G p = -1 := by
  rw [g p hp, if_pos hl]
theorem wr_glo (h : wr_LI O W sp lv b x lc lw cw co sc an ob rk) (g : wr_GL G lc lw ob) {p : Nat} (hp : p < 146) (hl : 0 < lw p) : ∃ o, o < O ∧ o < 12 ∧ G p = nI o ∧ ∃ a, a < 252 ∧ an o = nI a ∧ 0 < cw a ∧ co a = nI o := by
  have hc := h.2.1 p (by omega) hl
  obtain ⟨o, h1, h2, h3⟩ := wr_fw h (rk (lc p)) (lc p) (Nat.le_refl _) hc.1 hc.2
  have hO := h.1.2.2.1
  exact ⟨o, h1, by omega, (wr_gl1 g hp hl).trans h2, h3⟩
theorem wr_gln (h : wr_LI O W sp lv b x lc lw cw co sc an ob rk) (g : wr_GL G lc lw ob) {p : Nat} (hp : p < 146) : G p ≠ -1 ↔ 0 < lw p := by
  constructor
  · intro z
    by_cases e : lw p = 0
    · exact absurd (wr_glz g hp e) z
    · omega
  · intro z e
    obtain ⟨o, h1, h2, h3, h4⟩ := wr_glo h g hp z
    rw [h3] at e
    exact wr_nm (show o < 2 ^ 31 by omega) e
/-- the way of the handle so far: cells with one link each -/
def wr_SV (lc lw cw : Nat → Nat) (co ob : Nat → Int32) (rk : Nat → Nat) (o h t : Nat) (V : Nat → Prop) : Prop :=
  ((t = h ∧ ∀ c, ¬ V c) ∨ (∃ g, g < 252 ∧ V g ∧ t = 146 + g ∧ V (lc h))) ∧
  (∀ c, V c → c < 252 ∧ 0 < cw c ∧ co c = -1 ∧ (V (lc (146 + c)) ∨ 146 + c = t) ∧ rk (lc t) < rk c) ∧
  (∀ c, V c → ∀ q, q < 398 → 0 < lw q → lc q = c → q = h ∨ ∃ g, V g ∧ q = 146 + g) ∧
  (t < 398 ∧ 0 < lw t ∧ ob (lc t) = nI o)
theorem wr_sv0 {o h : Nat} (hh : h < 146) (hl : 0 < lw h) (ho : ob (lc h) = nI o) : wr_SV lc lw cw co ob rk o h h (fun _ => False) :=
  ⟨Or.inl ⟨rfl, fun _ z => z⟩, fun _ z => z.elim, fun _ z => z.elim, by omega, hl, ho⟩
theorem wr_sole1 (h : wr_LI O W sp lv b 0 lc lw cw co sc an ob rk) {t q : Nat} (ht : t < 398) (hl : 0 < lw t) (he : lw t = cw (lc t)) (hq : q < 398) (hlq : 0 < lw q) (e : lc q = lc t) : q = t := by
  by_cases z : q = t
  · exact z
  · have a := (h.2.2.1 (lc t) (h.2.1 t ht hl).1).1
    have w := wr_wt_two (lc := lc) (lw := lw) ht hq (fun y => z y.symm) e
    omega
theorem wr_sv1 (h : wr_LI O W sp lv b 0 lc lw cw co sc an ob rk) {o k t : Nat} {V : Nat → Prop} (v : wr_SV lc lw cw co ob rk o k t V) (he : lw t = cw (lc t)) (hco : co (lc t) = -1) :
    wr_SV lc lw cw co ob rk o k (146 + lc t) (fun c => V c ∨ c = lc t) ∧ rk (lc (146 + lc t)) < rk (lc t) := by
  obtain ⟨v1, v2, v3, v4, v5, v6⟩ := v
  have so := fun q (hq : q < 398) (hlq : 0 < lw q) (e : lc q = lc t) => wr_sole1 h v4 v5 he hq hlq e
  obtain ⟨h0, hA, hS, hR, hK, hT, hU, hQ, hP1, hP2, hP3⟩ := h
  obtain ⟨a1, a2⟩ := hA t v4 v5
  obtain ⟨k1, k2⟩ := hK (lc t) a1 a2 hco
  refine ⟨⟨?_, ?_, ?_, by omega, (hR (lc t) a1).mpr (Or.inl ⟨a2, hco⟩), k2.trans v6⟩, k1⟩
  · refine Or.inr ⟨lc t, a1, Or.inr rfl, rfl, ?_⟩
    rcases v1 with ⟨e, _⟩ | ⟨g, _, _, _, g4⟩
    · exact Or.inr (by rw [e])
    · exact Or.inl g4
  · intro c hc
    rcases hc with hc | hc
    · obtain ⟨c1, c2, c3, c4, c5⟩ := v2 c hc
      refine ⟨c1, c2, c3, Or.inl ?_, by omega⟩
      rcases c4 with c4 | c4
      · exact Or.inl c4
      · exact Or.inr (by rw [c4])
    · rw [hc]
      exact ⟨a1, a2, hco, Or.inr rfl, k1⟩
  · intro c hc q hq hlq e
    rcases hc with hc | hc
    · rcases v3 c hc q hq hlq e with z | ⟨g, z1, z2⟩
      · exact Or.inl z
      · exact Or.inr ⟨g, Or.inl z1, z2⟩
    · rw [hc] at e
      have z := so q hq hlq e
      rcases v1 with ⟨e1, _⟩ | ⟨g, _, g2, g3, _⟩
      · exact Or.inl (z.trans e1)
      · exact Or.inr ⟨g, Or.inl g2, z.trans g3⟩
theorem wr_svT (h : wr_LI O W sp lv b 0 lc lw cw co sc an ob rk) (g : wr_GL G lc lw ob) {o k t : Nat} (ho : o < 12) (hk : k < 146) {V : Nat → Prop} (v : wr_SV lc lw cw co ob rk o k t V) (he : lw t = cw (lc t)) (hco : co (lc t) ≠ -1) :
    ∀ p, p < 146 → p ≠ k → G p ≠ nI o := by
  obtain ⟨v1, v2, v3, v4, v5, v6⟩ := v
  have so := fun q (hq : q < 398) (hlq : 0 < lw q) (e : lc q = lc t) => wr_sole1 h v4 v5 he hq hlq e
  have gn := fun p (hp : p < 146) => wr_gln h g hp
  obtain ⟨h0, hA, hS, hR, hK, hT, hU, hQ, hP1, hP2, hP3⟩ := h
  obtain ⟨a1, a2⟩ := hA t v4 v5
  have w3 : ∀ c, V c ∨ c = lc t → ∀ q, q < 398 → 0 < lw q → lc q = c → q = k ∨ ∃ g, V g ∧ q = 146 + g := by
    intro c hc q hq hlq e
    rcases hc with hc | hc
    · exact v3 c hc q hq hlq e
    · rw [hc] at e
      have z := so q hq hlq e
      rcases v1 with ⟨e1, _⟩ | ⟨g, _, g2, g3, _⟩
      · exact Or.inl (z.trans e1)
      · exact Or.inr ⟨g, g2, z.trans g3⟩
  obtain ⟨t1, o1, t2, t3, t4⟩ := hT (lc t) a1 a2 hco
  have eo : o1 = o := (nI_eq (by omega) (by omega)).mp (t3.symm.trans (t1.symm.trans v6))
  have key : ∀ m c, rk c ≤ m → c < 252 → 0 < cw c → ¬ (V c ∨ c = lc t) → ob c ≠ nI o := by
    intro m
    induction m with
    | zero =>
      intro c hm hc hw hn z
      by_cases e : co c = -1
      · have k := (hK c hc hw e).1
        omega
      · obtain ⟨s1, o2, s2, s3, s4⟩ := hT c hc hw e
        have e2 : o2 = o := (nI_eq (by omega) (by omega)).mp (s3.symm.trans (s1.symm.trans z))
        rw [e2] at s4
        rw [eo] at t4
        exact hn (Or.inr ((nI_eq (by omega) (by omega)).mp (s4.symm.trans t4)))
    | succ m ih =>
      intro c hm hc hw hn z
      by_cases e : co c = -1
      · obtain ⟨k1, k2⟩ := hK c hc hw e
        have r := (hR c hc).mpr (Or.inl ⟨hw, e⟩)
        obtain ⟨b1, b2⟩ := hA (146 + c) (by omega) r
        refine ih (lc (146 + c)) (by omega) b1 b2 (fun y => ?_) (k2.trans z)
        rcases w3 _ y (146 + c) (by omega) r rfl with y | ⟨g, y1, y2⟩
        · omega
        · have : c = g := by omega
          rw [this] at hn
          exact hn (Or.inl y1)
      · obtain ⟨s1, o2, s2, s3, s4⟩ := hT c hc hw e
        have e2 : o2 = o := (nI_eq (by omega) (by omega)).mp (s3.symm.trans (s1.symm.trans z))
        rw [e2] at s4
        rw [eo] at t4
        exact hn (Or.inr ((nI_eq (by omega) (by omega)).mp (s4.symm.trans t4)))
  intro p hp hne z
  have hl := (gn p hp).mp (by rw [z]; exact wr_nm (by omega))
  obtain ⟨b1, b2⟩ := hA p (by omega) hl
  refine key (rk (lc p)) (lc p) (Nat.le_refl _) b1 b2 (fun y => ?_) ((wr_gl1 g hp hl).symm.trans z)
  rcases w3 _ y p (by omega) hl rfl with y | ⟨g, y1, y2⟩
  · exact hne y
  · omega
theorem wr_svF (h : wr_LI O W sp lv b 0 lc lw cw co sc an ob rk) (g : wr_GL G lc lw ob) {o k t : Nat} (hk : k < 146) {V : Nat → Prop} (v : wr_SV lc lw cw co ob rk o k t V) (hne : lw t ≠ cw (lc t)) :
    ∃ p, p < 146 ∧ p ≠ k ∧ G p = nI o := by
  obtain ⟨v1, v2, v3, v4, v5, v6⟩ := v
  obtain ⟨h0, hA, hS, hR, hK, hT, hU, hQ, hP1, hP2, hP3⟩ := h
  obtain ⟨a1, a2⟩ := hA t v4 v5
  have nV : ¬ V (lc t) := fun z => by
    have r := (v2 _ z).2.2.2.2
    omega
  have key : ∀ m r, 240 ≤ rk r + m → r < 252 → 0 < cw r → ¬ V r → rk (lc t) < rk r → ob r = nI o → ∃ p, p < 146 ∧ p ≠ k ∧ 0 < lw p ∧ ob (lc p) = nI o := by
    intro m
    induction m with
    | zero =>
      intro r hm hr hw hn hrk ho
      have s1 := (hS r hr).1
      obtain ⟨q, hq, e1, e2⟩ := wr_wt_pos (lc := lc) (lw := lw) (d := r) (by omega)
      by_cases eq : q < 146
      · refine ⟨q, eq, fun z => ?_, e2, by rw [e1]; exact ho⟩
        rw [z] at e1
        rcases v1 with ⟨y1, _⟩ | ⟨g, _, _, _, g4⟩
        · rw [y1, e1] at hrk; omega
        · rw [e1] at g4; exact hn g4
      · obtain ⟨d, rfl⟩ : ∃ d, q = 146 + d := ⟨q - 146, by omega⟩
        rcases (hR d (by omega)).mp e2 with ⟨r1, r2⟩ | z
        · have k1 := (hK d (by omega) r1 r2).1
          have q1 := hQ d (by omega) r1
          rw [e1] at k1
          omega
        · omega
    | succ m ih =>
      intro r hm hr hw hn hrk ho
      have s1 := (hS r hr).1
      obtain ⟨q, hq, e1, e2⟩ := wr_wt_pos (lc := lc) (lw := lw) (d := r) (by omega)
      by_cases eq : q < 146
      · refine ⟨q, eq, fun z => ?_, e2, by rw [e1]; exact ho⟩
        rw [z] at e1
        rcases v1 with ⟨y1, _⟩ | ⟨g, _, _, _, g4⟩
        · rw [y1, e1] at hrk; omega
        · rw [e1] at g4; exact hn g4
      · obtain ⟨d, rfl⟩ : ∃ d, q = 146 + d := ⟨q - 146, by omega⟩
        rcases (hR d (by omega)).mp e2 with ⟨r1, r2⟩ | z
        · obtain ⟨k1, k2⟩ := hK d (by omega) r1 r2
          rw [e1] at k1 k2
          refine ih d (by omega) (by omega) r1 (fun y => ?_) (by omega) (k2.symm.trans ho)
          rcases (v2 d y).2.2.2.1 with y | y
          · rw [e1] at y; exact hn y
          · rw [y] at e1; rw [e1] at hrk; omega
        · omega
  have out : ∀ p, p < 146 → 0 < lw p → ob (lc p) = nI o → G p = nI o := fun p hp hl e => (wr_gl1 g hp hl).trans e
  have s1 := (hS (lc t) a1).1
  obtain ⟨q, hq, q1, q2, q3⟩ := wr_wt_oth (lc := lc) (lw := lw) v4 (by omega)
  by_cases eq : q < 146
  · refine ⟨q, eq, fun z => ?_, out q eq q3 (by rw [q2]; exact v6)⟩
    rcases v1 with ⟨y1, _⟩ | ⟨g, _, _, _, g4⟩
    · exact q1 (z.trans y1.symm)
    · rw [← z, q2] at g4; exact nV g4
  · obtain ⟨d, rfl⟩ : ∃ d, q = 146 + d := ⟨q - 146, by omega⟩
    rcases (hR d (by omega)).mp q3 with ⟨r1, r2⟩ | z
    · obtain ⟨k1, k2⟩ := hK d (by omega) r1 r2
      rw [q2] at k1 k2
      obtain ⟨p, p1, p2, p3, p4⟩ := key 240 d (by omega) (by omega) r1 (fun y => by
        rcases (v2 d y).2.2.2.1 with y | y
        · rw [q2] at y; exact nV y
        · exact q1 y) k1 (k2.symm.trans v6)
      exact ⟨p, p1, p2, out p p1 p3 p4⟩
    · omega
end
end
section
/-! the component's small methods over the numbers' pictures -/
theorem wr_nu0 {f : Nat → Nat} {k : Nat} : upd (fun j => nI (f j)) k 0 = fun j => nI (wr_un f k 0 j) := wr_nu
theorem wr_hp (n h : Nat) : nI n * 6 + nI h = nI (n * 6 + h) := by
  rw [show (6 : Int32) = nI 6 from rfl, pk_mul, nI_add]
theorem wr_fp2 (o f : Nat) : nI o * 2 + nI f = nI (o * 2 + f) := by
  rw [show (2 : Int32) = nI 2 from rfl, pk_mul, nI_add]
theorem wr_fp (o f : Nat) : 24 + nI o * 2 + nI f = nI (24 + o * 2 + f) := by
  rw [show (2 : Int32) = nI 2 from rfl, show (24 : Int32) = nI 24 from rfl, pk_mul, nI_add, nI_add]
theorem wr_tp (s : Nat) : 48 + nI s = nI (48 + s) := by
  rw [show (48 : Int32) = nI 48 from rfl, nI_add]
theorem wr_cp (s : Nat) : 96 + nI s = nI (96 + s) := by
  rw [show (96 : Int32) = nI 96 from rfl, nI_add]
theorem wr_ip (c : Nat) : 146 + nI c = nI (146 + c) := by
  rw [show (146 : Int32) = nI 146 from rfl, nI_add]
theorem wr_s1 {a : Nat} (h : 1 ≤ a) : nI a - 1 = nI (a - 1) := pk_sub (b := 1) h
section
variable {N O W sp lv mf tl s c p q n : Nat} {lc lw cw : Nat → Nat} {co cn : Nat → Int32} {sc : Nat → Nat} {an vs it kd mn mg ma : Nat → Int32} {rm : Nat → Nat}
theorem wr_xtake {post : Int32 → SX → Prop} {p0 p1 : Int32} (hs : s < 252) (hc : sc s = c) (hc2 : c < 252)
    (k : post (nI c) (nI N, nI O, nI W, nI (s), nI lv, nI mf, nI tl, (fun i => nI (lc i)), (fun i => nI (lw i)), (fun i => nI ((wr_un cw c W) i)), (upd co c p1), (upd cn c p0), (fun i => nI (sc i)), an, vs, it, kd, mn, mg, ma, (fun i => nI (rm i)))) : wpX_takeCell post (nI N, nI O, nI W, nI (s + 1), nI lv, nI mf, nI tl, (fun i => nI (lc i)), (fun i => nI (lw i)), (fun i => nI (cw i)), co, cn, (fun i => nI (sc i)), an, vs, it, kd, mn, mg, ma, (fun i => nI (rm i))) p0 p1 := by
  have e1 : (nI s).toNatClampNeg = s := nI_clamp (by omega)
  have e2 : (nI c).toNatClampNeg = c := nI_clamp (by omega)
  have i1 : vp_in (nI s) 252 := vp_in_nI hs (by omega)
  have i2 : vp_in (nI c) 252 := vp_in_nI hc2 (by omega)
  unfold wpX_takeCell
  refine nm_r (nI_pred s) ⟨i1, nm_r (e' := nI c) (by rw [e1]; show nI (sc s) = nI c; rw [hc]) ⟨i2, nm_r (e' := fun i => nI (wr_un cw c W i)) (by rw [e2, wr_nu]) ⟨i2, nm_r (e' := upd co c p1) (by rw [e2]) ⟨i2, nm_r (e' := upd cn c p0) (by rw [e2]) k⟩⟩⟩⟩
theorem wr_xempty {post : SX → Prop} (hp : p < 398)
    (k : post (nI N, nI O, nI W, nI sp, nI lv, nI mf, nI tl, (fun i => nI ((wr_un lc p 0) i)), (fun i => nI ((wr_un lw p 0) i)), (fun i => nI (cw i)), co, cn, (fun i => nI (sc i)), an, vs, it, kd, mn, mg, ma, (fun i => nI (rm i)))) : wpX_emptyPlace post (nI N, nI O, nI W, nI sp, nI lv, nI mf, nI tl, (fun i => nI (lc i)), (fun i => nI (lw i)), (fun i => nI (cw i)), co, cn, (fun i => nI (sc i)), an, vs, it, kd, mn, mg, ma, (fun i => nI (rm i))) (nI p) := by
  have e1 : (nI p).toNatClampNeg = p := nI_clamp (by omega)
  have i1 : vp_in (nI p) 398 := vp_in_nI hp (by omega)
  unfold wpX_emptyPlace
  exact ⟨i1, nm_r (e' := fun i => nI (wr_un lc p 0 i)) (by rw [e1, wr_nu0]) ⟨i1, nm_r (e' := fun i => nI (wr_un lw p 0 i)) (by rw [e1, wr_nu0]) k⟩⟩
theorem wr_xmove {post : SX → Prop} (hp : p < 398) (hq : q < 398)
    (k : post (nI N, nI O, nI W, nI sp, nI lv, nI mf, nI tl, (fun i => nI ((wr_un (wr_un lc q (lc p)) p 0) i)), (fun i => nI ((wr_un (wr_un lw q (lw p)) p 0) i)), (fun i => nI (cw i)), co, cn, (fun i => nI (sc i)), an, vs, it, kd, mn, mg, ma, (fun i => nI (rm i)))) : wpX_moveLink post (nI N, nI O, nI W, nI sp, nI lv, nI mf, nI tl, (fun i => nI (lc i)), (fun i => nI (lw i)), (fun i => nI (cw i)), co, cn, (fun i => nI (sc i)), an, vs, it, kd, mn, mg, ma, (fun i => nI (rm i))) (nI p) (nI q) := by
  have e1 : (nI p).toNatClampNeg = p := nI_clamp (by omega)
  have i1 : vp_in (nI p) 398 := vp_in_nI hp (by omega)
  have e2 : (nI q).toNatClampNeg = q := nI_clamp (by omega)
  have i2 : vp_in (nI q) 398 := vp_in_nI hq (by omega)
  unfold wpX_moveLink
  exact ⟨i1, i2, nm_r (e' := fun i => nI (wr_un lc q (lc p) i)) (by rw [e1, e2]; exact wr_nu) ⟨i1, i2, nm_r (e' := fun i => nI (wr_un lw q (lw p) i)) (by rw [e1, e2]; exact wr_nu) (wr_xempty hp k)⟩⟩
theorem wr_xrenew {post : SX → Prop} {p1 : Int32} (hs : s < 252) (hc : sc s = c) (hc2 : c < 252) (hp : p < 146)
    (k : post (nI N, nI O, nI W, nI (s), nI lv, nI mf, nI tl, (fun i => nI ((wr_un (wr_un lc (146 + c) (lc p)) p c) i)), (fun i => nI ((wr_un (wr_un lw (146 + c) (lw p)) p W) i)), (fun i => nI ((wr_un cw c W) i)), (upd co c (-1)), (upd cn c p1), (fun i => nI (sc i)), an, vs, it, kd, mn, mg, ma, (fun i => nI (rm i)))) : wpX_renew post (nI N, nI O, nI W, nI (s + 1), nI lv, nI mf, nI tl, (fun i => nI (lc i)), (fun i => nI (lw i)), (fun i => nI (cw i)), co, cn, (fun i => nI (sc i)), an, vs, it, kd, mn, mg, ma, (fun i => nI (rm i))) (nI p) p1 := by
  have e1 : (nI p).toNatClampNeg = p := nI_clamp (by omega)
  have i1 : vp_in (nI p) 398 := vp_in_nI (by omega) (by omega)
  unfold wpX_renew
  refine wr_xtake hs hc hc2 ?_
  unfold wpX_innerPlace
  show wpX_moveLink _ _ (nI p) (146 + nI c)
  rw [wr_ip]
  refine wr_xmove (by omega) (by omega) ?_
  exact ⟨i1, nm_r (e' := fun i => nI (wr_un (wr_un lc (146 + c) (lc p)) p c i)) (by rw [e1, wr_nu, wr_uu]) ⟨i1, nm_r (e' := fun i => nI (wr_un (wr_un lw (146 + c) (lw p)) p W i)) (by rw [e1, wr_nu, wr_uu]) k⟩⟩
theorem wr_xcopy16 {post : SX → Prop} (hp : p < 398) (hq : q < 398) (hn : n < 4) (hw : lw p < 2 ^ 31) (hr : 1 ≤ rm n)
    (k : post (nI N, nI O, nI W, nI sp, nI lv, nI mf, nI (tl + 1), (fun i => nI ((wr_un lc q (lc p)) i)), (fun i => nI ((wr_un (wr_un lw p (lw p - lw p / 2)) q (lw p / 2)) i)), (fun i => nI (cw i)), co, cn, (fun i => nI (sc i)), an, vs, it, kd, mn, mg, ma, (fun i => nI ((wr_un rm n (rm n - 1)) i)))) : wX_copyLink_16 post (nI p) (nI q) (nI n) (nI N) (nI O) (nI W) (nI sp) (nI lv) (nI mf) (nI tl) (fun i => nI (lc i)) (fun i => nI (lw i)) (fun i => nI (cw i)) co cn (fun i => nI (sc i)) an vs it kd mn mg ma (fun i => nI (rm i)) := by
  have e1 : (nI p).toNatClampNeg = p := nI_clamp (by omega)
  have i1 : vp_in (nI p) 398 := vp_in_nI hp (by omega)
  have e2 : (nI q).toNatClampNeg = q := nI_clamp (by omega)
  have i2 : vp_in (nI q) 398 := vp_in_nI hq (by omega)
  have e3 : (nI n).toNatClampNeg = n := nI_clamp (by omega)
  have i3 : vp_in (nI n) 4 := vp_in_nI hn (by omega)
  have d : nI (lw p) / 2 = nI (lw p / 2) := pk_div (d := 2) hw (by omega) (by omega)
  unfold wX_copyLink_16
  exact ⟨i1, by decide, nm_r (e' := nI (lw p / 2)) (by rw [e1]; exact d) ⟨i1, i1, nm_r (e' := fun i => nI (wr_un lw p (lw p - lw p / 2) i)) (by rw [e1]; show upd _ p (nI (lw p) - nI (lw p / 2)) = _; rw [pk_sub (by omega), wr_nu]) ⟨i1, i2, nm_r (e' := fun i => nI (wr_un lc q (lc p) i)) (by rw [e1, e2]; exact wr_nu) ⟨i2, nm_r (e' := fun i => nI (wr_un (wr_un lw p (lw p - lw p / 2)) q (lw p / 2) i)) (by rw [e2]; exact wr_nu) (nm_r (nI_1 tl) ⟨i3, i3, nm_r (e' := fun i => nI (wr_un rm n (rm n - 1) i)) (by rw [e3]; show upd _ n (nI (rm n) - 1) = _; rw [wr_s1 hr, wr_nu]) k⟩)⟩⟩⟩⟩
theorem wr_xslot {post : Int32 → Prop} {s : Nat} (hs : s < 48) (h0 : kd s = 0) (hb : ∀ j, j < s → kd j ≠ 0) (k : post (nI s)) : ∀ d i, i + d = 47 → i ≤ s → wX_emptySlot_5 post 47 (nI N) (nI O) (nI W) (nI sp) (nI lv) (nI mf) (nI tl) (fun i => nI (lc i)) (fun i => nI (lw i)) (fun i => nI (cw i)) co cn (fun i => nI (sc i)) an vs it kd mn mg ma (fun i => nI (rm i)) (d + 1) (nI i) := by
  intro d
  induction d with
  | zero =>
    intro i hi hle
    have es : s = 47 := by omega
    have ei : i = 47 := by omega
    subst ei es
    exact br_t (by decide) k
  | succ d ih =>
    intro i hi hle
    have e1 : (nI i).toNatClampNeg = i := nI_clamp (by omega)
    refine br_f (nI_ge (b := 47) (by omega) (by decide)) ⟨vp_in_nI (by omega) (by omega), ?_⟩
    rw [e1]
    by_cases e : kd i = 0
    · have : i = s := by
        by_cases z : i = s
        · exact z
        · exact absurd e (hb i (by omega))
      rw [this] at e ⊢
      exact br_t e k
    · refine br_f e (nm_r (nI_1 i) (ih (i + 1) (by omega) ?_))
      by_cases z : i = s
      · rw [z] at e; exact absurd h0 e
      · omega
theorem wr_xpost {post : Int32 → SX → Prop} {p0 p1 p2 p3 : Int32} {s : Nat} (hs : s < 48) (h0 : kd s = 0) (hb : ∀ j, j < s → kd j ≠ 0)
    (k : post (nI s) (nI N, nI O, nI W, nI sp, nI lv, nI (mf + 1), nI tl, (fun i => nI (lc i)), (fun i => nI (lw i)), (fun i => nI (cw i)), co, cn, (fun i => nI (sc i)), an, vs, it, (upd kd s p0), (upd mn s p1), (upd mg s p2), (upd ma s p3), (fun i => nI (rm i)))) : wpX_post post (nI N, nI O, nI W, nI sp, nI lv, nI mf, nI tl, (fun i => nI (lc i)), (fun i => nI (lw i)), (fun i => nI (cw i)), co, cn, (fun i => nI (sc i)), an, vs, it, kd, mn, mg, ma, (fun i => nI (rm i))) p0 p1 p2 p3 := by
  have e1 : (nI s).toNatClampNeg = s := nI_clamp (by omega)
  have i1 : vp_in (nI s) 48 := vp_in_nI hs (by omega)
  unfold wpX_post wpX_emptySlot
  refine ⟨48, wr_xslot hs h0 hb ?_ 47 0 rfl (by omega)⟩
  exact ⟨i1, nm_r (e' := upd kd s p0) (by rw [e1]) ⟨i1, nm_r (e' := upd mn s p1) (by rw [e1]) ⟨i1, nm_r (e' := upd mg s p2) (by rw [e1]) ⟨i1, nm_r (e' := upd ma s p3) (by rw [e1]) (nm_r (nI_1 mf) k)⟩⟩⟩⟩
theorem wr_xret {post : SX → Prop} (hs : sp < 252) (hc : c < 252) (k : post (nI N, nI O, nI W, nI (sp + 1), nI lv, nI mf, nI tl, (fun i => nI (lc i)), (fun i => nI (lw i)), (fun i => nI (cw i)), (upd co c (-1)), cn, (fun i => nI ((wr_un sc sp c) i)), an, vs, it, kd, mn, mg, ma, (fun i => nI (rm i)))) : wpX_returnCell post (nI N, nI O, nI W, nI sp, nI lv, nI mf, nI tl, (fun i => nI (lc i)), (fun i => nI (lw i)), (fun i => nI (cw i)), co, cn, (fun i => nI (sc i)), an, vs, it, kd, mn, mg, ma, (fun i => nI (rm i))) (nI c) := by
  have e1 : (nI c).toNatClampNeg = c := nI_clamp (by omega)
  have i1 : vp_in (nI c) 252 := vp_in_nI hc (by omega)
  have e2 : (nI sp).toNatClampNeg = sp := nI_clamp (by omega)
  have i2 : vp_in (nI sp) 252 := vp_in_nI hs (by omega)
  unfold wpX_returnCell
  exact ⟨i1, nm_r (e' := upd co c (-1)) (by rw [e1]) ⟨i2, nm_r (e' := fun i => nI (wr_un sc sp c i)) (by rw [e2, wr_nu]) (nm_r (nI_1 sp) k)⟩⟩
theorem wr_xobj {post : Int32 → Prop} {O b x : Nat} {ob : Nat → Int32} {rk : Nat → Nat} (h : wr_LI O W sp lv b x lc lw cw co sc an ob rk) : ∀ m c i f, rk c ≤ m → m + i < 252 → m < f → c < 252 → 0 < cw c → post (ob c) → wX_objectAt_20 post (nI N) (nI O) (nI W) (nI sp) (nI lv) (nI mf) (nI tl) (fun i => nI (lc i)) (fun i => nI (lw i)) (fun i => nI (cw i)) co cn (fun i => nI (sc i)) an vs it kd mn mg ma (fun i => nI (rm i)) f (nI c) (nI i) := by
  intro m
  induction m with
  | zero =>
    intro c i f hm hi hf hc hw k
    obtain ⟨f, rfl⟩ : ∃ g, f = g + 1 := ⟨f - 1, by omega⟩
    have e1 : (nI c).toNatClampNeg = c := nI_clamp (by omega)
    refine br_f (nI_ge (b := 252) (by omega) (by decide)) ⟨vp_in_nI (by omega) (by omega), ?_⟩
    obtain ⟨h0, hA, hS, hR, hK, hT, hU, hQ, hP1, hP2, hP3⟩ := h
    rw [e1]
    by_cases e : co c = -1
    · have r := (hK c hc hw e).1
      omega
    · refine br_f e ⟨vp_in_nI (by omega) (by omega), ?_⟩
      rw [← (hT c hc hw e).1]
      exact k
  | succ m ih =>
    intro c i f hm hi hf hc hw k
    obtain ⟨f, rfl⟩ : ∃ g, f = g + 1 := ⟨f - 1, by omega⟩
    have e1 : (nI c).toNatClampNeg = c := nI_clamp (by omega)
    refine br_f (nI_ge (b := 252) (by omega) (by decide)) ⟨vp_in_nI (by omega) (by omega), ?_⟩
    obtain ⟨h0, hA, hS, hR, hK, hT, hU, hQ, hP1, hP2, hP3⟩ := h
    rw [e1]
    by_cases e : co c = -1
    · refine br_t e ?_
      obtain ⟨k1, k2⟩ := hK c hc hw e
      have r := (hR c hc).mpr (Or.inl ⟨hw, e⟩)
      obtain ⟨a1, a2⟩ := hA (146 + c) (by omega) r
      have e2 : (nI (146 + c)).toNatClampNeg = 146 + c := nI_clamp (by omega)
      unfold wpX_innerPlace
      show vp_in (146 + nI c) 398 ∧ _
      rw [wr_ip]
      refine ⟨vp_in_nI (by omega) (by omega), nm_r (e' := nI (lc (146 + c))) (by rw [e2]) (nm_r (nI_1 i) ?_)⟩
      exact ih (lc (146 + c)) (i + 1) f (by omega) (by omega) (by omega) a1 a2 (by rw [k2]; exact k)
    · refine br_f e ⟨vp_in_nI (by omega) (by omega), ?_⟩
      rw [← (hT c hc hw e).1]
      exact k
end
end
section
/-! the component's state against an abstract one -/
def wr_HX (hm vl ds an cn vs it : Nat → Int32) : Prop := ∀ o, o < 12 → (an o = -1 ↔ hm o = -1) ∧ (an o ≠ -1 → cn (an o).toNatClampNeg = ds o ∧ vs o = vl o) ∧ (hm o ≠ -1 → (it o = 0 ↔ hm o ≠ -10))
def wr_MX (kd nd fd am mn mg ma : Nat → Int32) : Prop := ∀ s, s < 48 → (kd s = 2 ∨ kd s = 5 ∨ kd s = 7 → mn s = nd s) ∧ (kd s = 3 ∨ kd s = 4 ∨ kd s = 5 → mg s = fd s) ∧ (kd s = 6 → ma s = am s)
def wr_F (N O : Nat) (G kd nd fd am hm vl ds : Nat → Int32) (rm : Nat → Nat) (b W sp lv mf tl : Nat) (lc lw cw : Nat → Nat) (co cn : Nat → Int32) (sc : Nat → Nat) (an vs it mn mg ma ob : Nat → Int32) (rk : Nat → Nat) : Prop :=
  (N ≤ 4 ∧ (∀ n, n < 4 → rm n ≤ 60) ∧ tl = wr_N (-1) G 146 ∧ mf = wr_N 0 kd 48 ∧ lv = wr_N (-1) hm O) ∧
  wr_LI O W sp lv b 0 lc lw cw co sc an ob rk ∧ wr_GL G lc lw ob ∧ wr_HX hm vl ds an cn vs it ∧ wr_MX kd nd fd am mn mg ma
def wr_RX (N O : Nat) (G kd nd fd am hm vl ds : Nat → Int32) (rm : Nat → Nat) (b : Nat) (u : SX) : Prop :=
  ∃ (W sp lv mf tl : Nat) (lc lw cw : Nat → Nat) (co cn : Nat → Int32) (sc : Nat → Nat) (an vs it mn mg ma ob : Nat → Int32) (rk : Nat → Nat), u = (nI N, nI O, nI W, nI sp, nI lv, nI mf, nI tl, (fun i => nI (lc i)), (fun i => nI (lw i)), (fun i => nI (cw i)), co, cn, (fun i => nI (sc i)), an, vs, it, kd, mn, mg, ma, (fun i => nI (rm i))) ∧ wr_F N O G kd nd fd am hm vl ds rm b W sp lv mf tl lc lw cw co cn sc an vs it mn mg ma ob rk
theorem wr_all {P : SX → Prop} (h : ∀ c1 c2 c3 c4 c5 c6 c7 c8 c9 c10 c11 c12 c13 c14 c15 c16 c17 c18 c19 c20 c21, P (c1, c2, c3, c4, c5, c6, c7, c8, c9, c10, c11, c12, c13, c14, c15, c16, c17, c18, c19, c20, c21)) : ∀ u, P u := fun ⟨c1, c2, c3, c4, c5, c6, c7, c8, c9, c10, c11, c12, c13, c14, c15, c16, c17, c18, c19, c20, c21⟩ => h c1 c2 c3 c4 c5 c6 c7 c8 c9 c10 c11 c12 c13 c14 c15 c16 c17 c18 c19 c20 c21
section
variable {N O b : Nat} {G kd nd fd am hm vl ds : Nat → Int32} {rm : Nat → Nat}
theorem wr_in {W sp lv mf tl : Nat} {lc lw cw : Nat → Nat} {co cn : Nat → Int32} {sc : Nat → Nat} {an vs it mn mg ma : Nat → Int32} (ob : Nat → Int32) (rk : Nat → Nat) (h : wr_F N O G kd nd fd am hm vl ds rm b W sp lv mf tl lc lw cw co cn sc an vs it mn mg ma ob rk) : wr_RX N O G kd nd fd am hm vl ds rm b (nI N, nI O, nI W, nI sp, nI lv, nI mf, nI tl, (fun i => nI (lc i)), (fun i => nI (lw i)), (fun i => nI (cw i)), co, cn, (fun i => nI (sc i)), an, vs, it, kd, mn, mg, ma, (fun i => nI (rm i))) :=
  ⟨W, sp, lv, mf, tl, lc, lw, cw, co, cn, sc, an, vs, it, mn, mg, ma, ob, rk, rfl, h⟩
theorem wr_el {P : SX → Prop} {u : SX} (hu : wr_RX N O G kd nd fd am hm vl ds rm b u) (h : ∀ (W sp lv mf tl : Nat) (lc lw cw : Nat → Nat) (co cn : Nat → Int32) (sc : Nat → Nat) (an vs it mn mg ma ob : Nat → Int32) (rk : Nat → Nat), wr_F N O G kd nd fd am hm vl ds rm b W sp lv mf tl lc lw cw co cn sc an vs it mn mg ma ob rk → P (nI N, nI O, nI W, nI sp, nI lv, nI mf, nI tl, (fun i => nI (lc i)), (fun i => nI (lw i)), (fun i => nI (cw i)), co, cn, (fun i => nI (sc i)), an, vs, it, kd, mn, mg, ma, (fun i => nI (rm i)))) : P u := by
  obtain ⟨W, sp, lv, mf, tl, lc, lw, cw, co, cn, sc, an, vs, it, mn, mg, ma, ob, rk, rfl, hF⟩ := hu
  exact h _ _ _ _ _ _ _ _ _ _ _ _ _ _ _ _ _ _ _ hF
theorem wr_lit {b' : Nat} {u : SX} (hu : wr_RX N O G kd nd fd am hm vl ds rm b u) (e : b = b') : wr_RX N O G kd nd fd am hm vl ds rm b' u := e ▸ hu
/-- an outer place shows the object of its link -/
theorem wr_robj {post : Int32 → Prop} {u : SX} {p : Nat} (hu : wr_RX N O G kd nd fd am hm vl ds rm b u) (hp : p < 146) (k : post (G p)) : wpX_objectAt post u (nI p) := by
  refine wr_el (P := fun u => wpX_objectAt post u (nI p)) hu ?_
  intro W sp lv mf tl lc lw cw co cn sc an vs it mn mg ma ob rk hF
  obtain ⟨h0, hL, hG, hH, hM⟩ := hF
  have e1 : (nI p).toNatClampNeg = p := nI_clamp (by omega)
  have i1 : vp_in (nI p) 398 := vp_in_nI (by omega) (by omega)
  have w := wr_lw64 hL (show p < 398 by omega)
  unfold wpX_objectAt
  refine ⟨i1, ?_⟩
  rw [e1]
  by_cases e : lw p = 0
  · refine br_t (by show nI (lw p) = 0; rw [e]; rfl) ?_
    rw [wr_glz hG hp e] at k
    exact k
  · refine br_f (nI_ne0 (by omega) (by omega)) ⟨i1, nm_r (e' := nI (lc p)) rfl ⟨252, ?_⟩⟩
    rw [wr_gl1 hG hp (by omega)] at k
    obtain ⟨a1, a2⟩ := hL.2.1 p (by omega) (by omega)
    have q := hL.2.2.2.2.2.2.2.1 (lc p) a1 a2
    exact wr_xobj hL 251 (lc p) 0 252 (by omega) (by omega) (by omega) a1 a2 k
theorem wr_rmove {post : SX → Prop} {u : SX} {p q : Nat} (hu : wr_RX N O G kd nd fd am hm vl ds rm b u) (hp : p < 146) (hq : q < 146) (ne : p ≠ q) (h0 : G q = -1)
    (k : ∀ u', wr_RX N O (upd (upd G q (G p)) p (-1)) kd nd fd am hm vl ds rm b u' → post u') : wpX_moveLink post u (nI p) (nI q) := by
  refine wr_el (P := fun u => wpX_moveLink post u (nI p) (nI q)) hu ?_
  intro W sp lv mf tl lc lw cw co cn sc an vs it mn mg ma ob rk hF
  obtain ⟨⟨g1, g2, g3, g4, g5⟩, hL, hG, hH, hM⟩ := hF
  have lq : lw q = 0 := by
    by_cases e : 0 < lw q
    · exact absurd h0 ((wr_gln hL hG hq).mpr e)
    · omega
  refine wr_xmove (by omega) (by omega) (k _ ?_)
  refine wr_in ob rk ⟨⟨g1, g2, ?_, g4, g5⟩, wr_move hL hp hq ne lq, ?_, hH, hM⟩
  · have a := wr_N_upd (y := -1) (x := G p) (f := G) (n := 146) hq
    have c := wr_N_upd (y := -1) (x := -1) (f := upd G q (G p)) (n := 146) hp
    rw [h0, wr_b0 rfl] at a
    rw [pk_un ne, wr_b0 rfl] at c
    omega
  · intro r hr
    by_cases e1 : r = p
    · rw [e1, pk_us, wr_us, if_pos rfl]
    · rw [pk_un e1, wr_ue e1, wr_ue e1]
      by_cases e2 : r = q
      · rw [e2, pk_us, wr_us, wr_us]
        exact hG p hp
      · rw [pk_un e2, wr_ue e2, wr_ue e2]
        exact hG r hr
theorem wr_rcopy {post : SX → Prop} {u : SX} {p q n : Nat} (hu : wr_RX N O G kd nd fd am hm vl ds rm b u) (hp : p < 146) (hq : q < 146) (ne : p ≠ q) (h0 : G q = -1) (h1 : G p ≠ -1) (hn : n < 4) (hr : 1 ≤ rm n) (hb : 1 ≤ b)
    (k : ∀ u', wr_RX N O (upd G q (G p)) kd nd fd am hm vl ds (wr_un rm n (rm n - 1)) (b - 1) u' → post u') : wpX_copyLink post u (nI p) (nI q) (nI n) := by
  refine wr_el (P := fun u => wpX_copyLink post u (nI p) (nI q) (nI n)) hu ?_
  intro W sp lv mf tl lc lw cw co cn sc an vs it mn mg ma ob rk hF
  obtain ⟨⟨g1, g2, g3, g4, g5⟩, hL, hG, hH, hM⟩ := hF
  have lq : lw q = 0 := by
    by_cases e : 0 < lw q
    · exact absurd h0 ((wr_gln hL hG hq).mpr e)
    · omega
  have lp := (wr_gln hL hG hp).mp h1
  have w64 := wr_lw64 hL (show p < 398 by omega)
  have e1 : (nI p).toNatClampNeg = p := nI_clamp (by omega)
  have i1 : vp_in (nI p) 398 := vp_in_nI (by omega) (by omega)
  have hrm : ∀ j, j < 4 → wr_un rm n (rm n - 1) j ≤ 60 := fun j hj => by
    by_cases e : j = n
    · rw [e, wr_us]; have := g2 n hn; omega
    · rw [wr_ue e]; exact g2 j hj
  have ct : tl + 1 = wr_N (-1) (upd G q (G p)) 146 := by
    have a := wr_N_upd (y := -1) (x := G p) (f := G) (n := 146) hq
    rw [h0, wr_b0 rfl, wr_b1 h1] at a
    omega
  have hl0 := hL.1
  have gl2 : ∀ (lc2 lw2 : Nat → Nat) (ob2 : Nat → Int32) (m : Nat), wr_GL G lc2 lw2 ob2 → 0 < m → m < lw2 p → wr_GL (upd G q (G p)) (wr_un lc2 q (lc2 p)) (wr_un (wr_un lw2 p (lw2 p - m)) q m) ob2 := by
    intro lc2 lw2 ob2 m hg hm hm2 r hr2
    by_cases e2 : r = q
    · rw [e2, pk_us, wr_us, wr_us, if_neg (by omega)]
      exact wr_gl1 hg hp (by omega)
    · rw [pk_un e2, wr_ue e2, wr_ue e2]
      by_cases e3 : r = p
      · rw [e3, wr_us, if_neg (by omega)]
        exact wr_gl1 hg hp (by omega)
      · rw [wr_ue e3]
        exact hg r hr2
  unfold wpX_copyLink
  refine ⟨i1, ?_⟩
  rw [e1]
  by_cases e : 2 ≤ lw p
  · refine br_t (nI_le (a := 2) e (by omega)) ?_
    refine wr_xcopy16 (by omega) (by omega) hn (by omega) hr (k _ ?_)
    exact wr_in ob rk ⟨⟨g1, hrm, ct, g4, g5⟩, wr_cb (wr_split hL hp hq ne lq (k := lw p / 2) (by omega) (by omega)) (by omega), gl2 lc lw ob _ hG (by omega) (by omega), hH, hM⟩
  · refine br_f (nI_ge (b := 2) (by omega) (by decide)) ?_
    have lvb : lv ≤ O := by rw [g5]; exact wr_N_le _ _ _
    obtain ⟨s, rfl⟩ : ∃ s, sp = s + 1 := ⟨sp - 1, by omega⟩
    obtain ⟨f1, f2, f3, f4, f5⟩ := wr_fresh hL rfl
    have s252 : s < 252 := by have := hL.2.2.2.2.2.2.2.2.2.2; omega
    refine wr_xrenew s252 rfl f1 hp ?_
    have np : lc p ≠ sc s := f3 p (by omega) lp
    have ip : p ≠ 146 + sc s := by omega
    have hL2 := wr_renew hL rfl hb hp lp
    have wp : wr_un (wr_un lw (146 + sc s) (lw p)) p W p = W := wr_us
    have lp2 : wr_un (wr_un lc (146 + sc s) (lc p)) p (sc s) p = sc s := wr_us
    have lq2 : wr_un (wr_un lw (146 + sc s) (lw p)) p W q = 0 := by
      rw [wr_ue (fun z => ne z.symm), wr_ue (by omega)]; exact lq
    have hG2 : wr_GL G (wr_un (wr_un lc (146 + sc s) (lc p)) p (sc s)) (wr_un (wr_un lw (146 + sc s) (lw p)) p W) (upd ob (sc s) (ob (lc p))) := by
      intro r hr2
      by_cases e3 : r = p
      · rw [e3, wr_us, wr_us, pk_us, if_neg (by omega)]
        exact wr_gl1 hG hp lp
      · rw [wr_ue e3, wr_ue e3, wr_ue (by omega), wr_ue (by omega)]
        by_cases e4 : lw r = 0
        · rw [if_pos e4]; exact wr_glz hG hr2 e4
        · rw [if_neg e4, pk_un (f3 r (by omega) (by omega))]
          exact wr_gl1 hG hr2 (by omega)
    refine wr_xcopy16 (by omega) (by omega) hn (by rw [wp]; omega) hr (k _ ?_)
    refine wr_in (upd ob (sc s) (ob (lc p))) (wr_un rk (sc s) (rk (lc p) + 1)) ⟨⟨g1, hrm, ct, g4, g5⟩, wr_split hL2 hp hq ne lq2 (by rw [wp]; omega) (by rw [wp]; omega), gl2 _ _ _ _ hG2 (by rw [wp]; omega) (by rw [wp]; omega), ?_, hM⟩
    intro o ho
    obtain ⟨x1, x2, x3⟩ := hH o ho
    refine ⟨x1, fun z => ?_, x3⟩
    obtain ⟨u1, a, u2, u3, u4, u5⟩ := hL.2.2.2.2.2.2.1 o ho z
    have na : (an o).toNatClampNeg ≠ sc s := by
      rw [u3, nI_clamp (by omega)]
      intro y; rw [y] at u4; omega
    rw [pk_un na]
    exact x2 z
theorem wr_rpost {post : Int32 → SX → Prop} {u : SX} {s : Nat} {p0 p1 p2 p3 n' f' a' : Int32} (hu : wr_RX N O G kd nd fd am hm vl ds rm b u) (hs : s < 48) (h0 : kd s = 0) (hb : ∀ j, j < s → kd j ≠ 0) (hk : p0 ≠ 0)
    (hn : p0 = 2 ∨ p0 = 5 ∨ p0 = 7 → p1 = n') (hf : p0 = 3 ∨ p0 = 4 ∨ p0 = 5 → p2 = f') (ha : p0 = 6 → p3 = a')
    (k : ∀ u', wr_RX N O G (upd kd s p0) (upd nd s n') (upd fd s f') (upd am s a') hm vl ds rm b u' → post (nI s) u') : wpX_post post u p0 p1 p2 p3 := by
  refine wr_el (P := fun u => wpX_post post u p0 p1 p2 p3) hu ?_
  intro W sp lv mf tl lc lw cw co cn sc an vs it mn mg ma ob rk hF
  obtain ⟨⟨g1, g2, g3, g4, g5⟩, hL, hG, hH, hM⟩ := hF
  refine wr_xpost hs h0 hb (k _ ?_)
  refine wr_in ob rk ⟨⟨g1, g2, g3, ?_, g5⟩, hL, hG, hH, ?_⟩
  · have a := wr_N_upd (y := 0) (x := p0) (f := kd) (n := 48) hs
    rw [h0, wr_b0 rfl, wr_b1 hk] at a
    omega
  · intro r hr
    by_cases e : r = s
    · rw [e, pk_us, pk_us, pk_us, pk_us, pk_us, pk_us, pk_us]
      exact ⟨hn, hf, ha⟩
    · rw [pk_un e, pk_un e, pk_un e, pk_un e, pk_un e, pk_un e, pk_un e]
      exact hM r hr
theorem wr_rtake {post : SX → Prop} {u : SX} {s : Nat} (hu : wr_RX N O G kd nd fd am hm vl ds rm b u) (hs : s < 48) (h0 : G 144 = -1) (h1 : G 145 = -1) (hk : kd s ≠ 0)
    (k : ∀ u', wr_RX N O (upd (upd (upd (upd G 144 (G (48 + s))) (48 + s) (-1)) 145 (G (96 + s))) (96 + s) (-1)) (upd kd s 0) nd fd am hm vl ds rm b u' → post u') : wpX_takeOut post u (nI s) := by
  revert hu
  refine wr_all (P := fun u => wr_RX N O G kd nd fd am hm vl ds rm b u → wpX_takeOut post u (nI s)) ?_ u
  intro c1 c2 c3 c4 c5 c6 c7 c8 c9 c10 c11 c12 c13 c14 c15 c16 c17 c18 c19 c20 c21 hu
  unfold wpX_takeOut wpX_targetPlace wpX_targetInHand
  show wpX_moveLink _ _ (48 + nI s) 144
  rw [wr_tp]
  refine wr_rmove (p := 48 + s) (q := 144) hu (by omega) (by omega) (by omega) h0 (wr_all ?_)
  intro d1 d2 d3 d4 d5 d6 d7 d8 d9 d10 d11 d12 d13 d14 d15 d16 d17 d18 d19 d20 d21 h2
  unfold wpX_carriedPlace wpX_carriedInHand
  show wpX_moveLink _ _ (96 + nI s) 145
  rw [wr_cp]
  refine wr_rmove (p := 96 + s) (q := 145) h2 (by omega) (by omega) (by omega) (by rw [pk_un (by omega), pk_un (by omega)]; exact h1) ?_
  intro u3 h3
  rw [pk_un (show 96 + s ≠ 48 + s by omega), pk_un (show 96 + s ≠ 144 by omega)] at h3
  refine wr_el (P := fun u => (match u with | (e1, e2, e3, e4, e5, e6, e7, e8, e9, e10, e11, e12, e13, e14, e15, e16, e17, e18, e19, e20, e21) => (vp_in (nI s) 48 ∧ ∀ a_msgKind_134 : Nat → Int32, a_msgKind_134 = upd e17 (nI s).toNatClampNeg 0 → (vp_in (nI s) 48 ∧ ∀ a_msgNode_136 : Nat → Int32, a_msgNode_136 = upd e18 (nI s).toNatClampNeg 0 → (vp_in (nI s) 48 ∧ ∀ a_msgField_138 : Nat → Int32, a_msgField_138 = upd e19 (nI s).toNatClampNeg 0 → (vp_in (nI s) 48 ∧ ∀ a_msgAmount_140 : Nat → Int32, a_msgAmount_140 = upd e20 (nI s).toNatClampNeg 0 → (∀ f_messagesInFlight_141 : Int32, f_messagesInFlight_141 = e6 - 1 → (post (e1, e2, e3, e4, e5, f_messagesInFlight_141, e7, e8, e9, e10, e11, e12, e13, e14, e15, e16, a_msgKind_134, a_msgNode_136, a_msgField_138, a_msgAmount_140, e21))))))))) h3 ?_
  intro W sp lv mf tl lc lw cw co cn sc an vs it mn mg ma ob rk hF
  obtain ⟨⟨g1, g2, g3, g4, g5⟩, hL, hG, hH, hM⟩ := hF
  have e1 : (nI s).toNatClampNeg = s := nI_clamp (by omega)
  have i1 : vp_in (nI s) 48 := vp_in_nI hs (by omega)
  have mp : 1 ≤ mf := by rw [g4]; exact wr_N_pos hs hk
  refine ⟨i1, nm_r (e' := upd kd s 0) (by rw [e1]) ⟨i1, nm_r (e' := upd mn s 0) (by rw [e1]) ⟨i1, nm_r (e' := upd mg s 0) (by rw [e1]) ⟨i1, nm_r (e' := upd ma s 0) (by rw [e1]) (nm_r (wr_s1 mp) (k _ ?_))⟩⟩⟩⟩
  refine wr_in ob rk ⟨⟨g1, g2, g3, ?_, g5⟩, hL, hG, hH, ?_⟩
  · have a := wr_N_upd (y := 0) (x := 0) (f := kd) (n := 48) hs
    rw [wr_b0 rfl, wr_b1 hk] at a
    omega
  · intro r hr
    by_cases e : r = s
    · rw [e, pk_us]
      exact ⟨fun z => by rcases z with z | z | z <;> exact absurd z (by decide), fun z => by rcases z with z | z | z <;> exact absurd z (by decide), fun z => absurd z (by decide)⟩
    · rw [pk_un e, pk_un e, pk_un e, pk_un e]
      exact hM r hr
end
end
section
/-! the end of a link, the only link, a departure -/
theorem wr_bo0 : vp_nar .boolean 0 = 0 := rfl
theorem wr_bo1 : vp_nar .boolean 1 = 1 := rfl
section
variable {N O b W lv mf tl : Nat} {rk : Nat → Nat} {cn an vs it kd mn mg ma ob : Nat → Int32} {rm : Nat → Nat}
theorem wr_xend {post : Int32 → SX → Prop} {G : Nat → Int32} {o : Nat} (ho : o < 12)
    (kD : (∃ p, p < 146 ∧ G p = nI o) → ∀ (sp : Nat) (lc lw cw : Nat → Nat) (co : Nat → Int32) (sc : Nat → Nat), wr_LI O W sp (lv + 1) b 0 lc lw cw co sc an ob rk → wr_GL G lc lw ob → post 0 (nI N, nI O, nI W, nI sp, nI (lv + 1), nI mf, nI tl, (fun i => nI (lc i)), (fun i => nI (lw i)), (fun i => nI (cw i)), co, cn, (fun i => nI (sc i)), an, vs, it, kd, mn, mg, ma, (fun i => nI (rm i))))
    (kF : (∀ p, p < 146 → G p ≠ nI o) → ∀ (sp : Nat) (lc lw cw : Nat → Nat) (co : Nat → Int32) (sc : Nat → Nat), wr_LI O W sp lv b 0 lc lw cw co sc (upd an o (-1)) ob rk → wr_GL G lc lw ob → ∀ pst : SX → Prop, (∀ u, post 1 u → pst u) → wpX_freeObject pst (nI N, nI O, nI W, nI sp, nI (lv + 1), nI mf, nI tl, (fun i => nI (lc i)), (fun i => nI (lw i)), (fun i => nI (cw i)), co, cn, (fun i => nI (sc i)), an, vs, it, kd, mn, mg, ma, (fun i => nI (rm i))) (nI o)) :
    ∀ (m t i f x sp : Nat) (lc lw cw : Nat → Nat) (co : Nat → Int32) (sc : Nat → Nat), rk (lc t) ≤ m → m + i < 252 → m < f → wr_LI O W sp (lv + 1) b x lc lw cw co sc an ob rk → t < 398 → 0 < lw t → wr_pend cw x t → ob (lc t) = nI o → wr_GL G (wr_un lc t 0) (wr_un lw t 0) ob → wX_endLink_14 post f (nI t) (nI i) (nI N) (nI O) (nI W) (nI sp) (nI (lv + 1)) (nI mf) (nI tl) (fun i => nI (lc i)) (fun i => nI (lw i)) (fun i => nI (cw i)) co cn (fun i => nI (sc i)) an vs it kd mn mg ma (fun i => nI (rm i)) := by
  intro m
  induction m with
  | zero =>
    intro t i f x sp lc lw cw co sc hm hi hf hL ht hl hx hob hG
    obtain ⟨f, rfl⟩ : ∃ g, f = g + 1 := ⟨f - 1, by omega⟩
    obtain ⟨a1, a2, a3, a4, a5, a6⟩ := wr_endS hL ht hl
    have et : (nI t).toNatClampNeg = t := nI_clamp (by omega)
    have jt : vp_in (nI t) 398 := vp_in_nI ht (by omega)
    have ec : (nI (lc t)).toNatClampNeg = lc t := nI_clamp (by omega)
    have jc : vp_in (nI (lc t)) 252 := vp_in_nI a1 (by omega)
    have c64 := (hL.2.2.1 (lc t) a1).2
    refine br_f (nI_ge (b := 252) (by omega) (by decide)) ⟨jt, nm_r (e' := nI (lc t)) (by rw [et]) ⟨jc, jt, jc, nm_r (e' := fun i => nI (wr_un cw (lc t) (cw (lc t) - lw t) i)) (by rw [ec, et]; show upd _ (lc t) (nI (cw (lc t)) - nI (lw t)) = _; rw [pk_sub a3, wr_nu]) ?_⟩⟩
    refine wr_xempty ht ⟨jc, ?_⟩
    rw [ec]
    by_cases e : lw t < cw (lc t)
    · refine br_f ?_ ?_
      · show ¬ nI (wr_un cw (lc t) (cw (lc t) - lw t) (lc t)) ≤ 0
        rw [wr_us]
        exact nI_nle (by omega) (by omega)
      · have h2 := wr_end1 hL ht hl hx e
        obtain ⟨p, p1, p2, p3⟩ := wr_bw h2 240 (lc t) (by omega) a1 (by rw [wr_us]; omega)
        exact kD ⟨p, p1, (wr_gl1 hG p1 p2).trans (p3.trans hob)⟩ _ _ _ _ _ _ h2 hG
    · refine br_t ?_ ⟨jc, nm_r (e' := co (lc t)) rfl (wr_xret a5 a1 ?_)⟩
      · show nI (wr_un cw (lc t) (cw (lc t) - lw t) (lc t)) ≤ 0
        rw [wr_us, show cw (lc t) - lw t = 0 by omega]
        exact Int32.le_refl _
      · by_cases e2 : co (lc t) = -1
        · have r := (hL.2.2.2.2.1 (lc t) a1 a2 e2).1
          omega
        · refine br_f e2 ?_
          have hc : co (lc t) = nI o := (hL.2.2.2.2.2.1 (lc t) a1 a2 e2).1.symm.trans hob
          have h2 := wr_end3 hL ht hl hx (by omega) ho hc
          rw [hc]
          refine kF (fun p hp z => ?_) _ _ _ _ _ _ h2 hG _ (wr_all fun c1 c2 c3 c4 c5 c6 c7 c8 c9 c10 c11 c12 c13 c14 c15 c16 c17 c18 c19 c20 c21 h => h)
          have hl2 := (wr_gln h2 hG hp).mp (by rw [z]; exact wr_nm (by omega))
          obtain ⟨o2, q1, q2, q3, a, q4, q5, q6, q7⟩ := wr_glo h2 hG hp hl2
          have eo : o2 = o := (nI_eq (by omega) (by omega)).mp (q3.symm.trans z)
          rw [eo, pk_us] at q5
          exact wr_nm (show a < 2 ^ 31 by omega) q5.symm
  | succ m ih =>
    intro t i f x sp lc lw cw co sc hm hi hf hL ht hl hx hob hG
    obtain ⟨f, rfl⟩ : ∃ g, f = g + 1 := ⟨f - 1, by omega⟩
    obtain ⟨a1, a2, a3, a4, a5, a6⟩ := wr_endS hL ht hl
    have et : (nI t).toNatClampNeg = t := nI_clamp (by omega)
    have jt : vp_in (nI t) 398 := vp_in_nI ht (by omega)
    have ec : (nI (lc t)).toNatClampNeg = lc t := nI_clamp (by omega)
    have jc : vp_in (nI (lc t)) 252 := vp_in_nI a1 (by omega)
    have c64 := (hL.2.2.1 (lc t) a1).2
    refine br_f (nI_ge (b := 252) (by omega) (by decide)) ⟨jt, nm_r (e' := nI (lc t)) (by rw [et]) ⟨jc, jt, jc, nm_r (e' := fun i => nI (wr_un cw (lc t) (cw (lc t) - lw t) i)) (by rw [ec, et]; show upd _ (lc t) (nI (cw (lc t)) - nI (lw t)) = _; rw [pk_sub a3, wr_nu]) ?_⟩⟩
    refine wr_xempty ht ⟨jc, ?_⟩
    rw [ec]
    by_cases e : lw t < cw (lc t)
    · refine br_f ?_ ?_
      · show ¬ nI (wr_un cw (lc t) (cw (lc t) - lw t) (lc t)) ≤ 0
        rw [wr_us]
        exact nI_nle (by omega) (by omega)
      · have h2 := wr_end1 hL ht hl hx e
        obtain ⟨p, p1, p2, p3⟩ := wr_bw h2 240 (lc t) (by omega) a1 (by rw [wr_us]; omega)
        exact kD ⟨p, p1, (wr_gl1 hG p1 p2).trans (p3.trans hob)⟩ _ _ _ _ _ _ h2 hG
    · refine br_t ?_ ⟨jc, nm_r (e' := co (lc t)) rfl (wr_xret a5 a1 ?_)⟩
      · show nI (wr_un cw (lc t) (cw (lc t) - lw t) (lc t)) ≤ 0
        rw [wr_us, show cw (lc t) - lw t = 0 by omega]
        exact Int32.le_refl _
      · by_cases e2 : co (lc t) = -1
        · refine br_t e2 ?_
          have h2 := wr_end2 hL ht hl hx (by omega) e2
          obtain ⟨k1, k2⟩ := hL.2.2.2.2.1 (lc t) a1 a2 e2
          have r := (hL.2.2.2.1 (lc t) a1).mpr (Or.inl ⟨a2, e2⟩)
          have nt : 146 + lc t ≠ t := (wr_endC hL ht hl hx (by omega)).2.2.2.1 (lc t) a1 a2
          unfold wpX_innerPlace
          show ∀ x3, x3 = nI i + 1 → wX_endLink_14 post f (146 + nI (lc t)) x3 _ _ _ _ _ _ _ _ _ _ _ _ _ _ _ _ _ _ _ _ _
          rw [wr_ip]
          refine nm_r (nI_1 i) ?_
          refine ih (146 + lc t) (i + 1) f (146 + lc t) _ _ _ _ _ _ (by rw [wr_ue nt]; omega) (by omega) (by omega) h2 (by omega) (by rw [wr_ue nt]; exact r) (Or.inr ⟨lc t, a1, rfl, rfl, by rw [wr_us]; omega⟩) (by rw [wr_ue nt]; exact k2.trans hob) ?_
          intro p hp
          rw [wr_ue (show p ≠ 146 + lc t by omega), wr_ue (show p ≠ 146 + lc t by omega)]
          exact hG p hp
        · refine br_f e2 ?_
          have hc : co (lc t) = nI o := (hL.2.2.2.2.2.1 (lc t) a1 a2 e2).1.symm.trans hob
          have h2 := wr_end3 hL ht hl hx (by omega) ho hc
          rw [hc]
          refine kF (fun p hp z => ?_) _ _ _ _ _ _ h2 hG _ (wr_all fun c1 c2 c3 c4 c5 c6 c7 c8 c9 c10 c11 c12 c13 c14 c15 c16 c17 c18 c19 c20 c21 h => h)
          have hl2 := (wr_gln h2 hG hp).mp (by rw [z]; exact wr_nm (by omega))
          obtain ⟨o2, q1, q2, q3, a, q4, q5, q6, q7⟩ := wr_glo h2 hG hp hl2
          have eo : o2 = o := (nI_eq (by omega) (by omega)).mp (q3.symm.trans z)
          rw [eo, pk_us] at q5
          exact wr_nm (show a < 2 ^ 31 by omega) q5.symm
end
end
section
/-! the component's methods over the abstract state: the end of a link, checks, the only link, a departure -/
section
variable {N O b : Nat} {G kd nd fd am hm vl ds : Nat → Int32} {rm : Nat → Nat}
theorem wr_live {u : SX} {p : Nat} (hu : wr_RX N O G kd nd fd am hm vl ds rm b u) (hp : p < 146) (h : G p ≠ -1) : ∃ o, o < O ∧ o < 12 ∧ G p = nI o ∧ hm o ≠ -1 := by
  obtain ⟨W, sp, lv, mf, tl, lc, lw, cw, co, cn, sc, an, vs, it, mn, mg, ma, ob, rk, _, h0, hL, hG, hH, hM⟩ := hu
  obtain ⟨o, h1, h2, h3, a, h4, h5, h6, h7⟩ := wr_glo hL hG hp ((wr_gln hL hG hp).mp h)
  refine ⟨o, h1, h2, h3, fun z => ?_⟩
  have := (hH o h2).1.mpr z
  rw [h5] at this
  exact wr_nm (show a < 2 ^ 31 by omega) this
theorem wr_rendD {post : Int32 → SX → Prop} {u : SX} {p o : Nat} (hu : wr_RX N O G kd nd fd am hm vl ds rm b u) (hp : p < 146) (ho : o < 12) (hg : G p = nI o) (hd : ∃ q, q < 146 ∧ q ≠ p ∧ G q = nI o)
    (k : ∀ u', wr_RX N O (upd G p (-1)) kd nd fd am hm vl ds rm b u' → post 0 u') : wpX_endLink post u (nI p) := by
  have hgp : G p ≠ -1 := by rw [hg]; exact wr_nm (by omega)
  obtain ⟨o2, l1, l2, l3, l4⟩ := wr_live hu hp hgp
  refine wr_el (P := fun u => wpX_endLink post u (nI p)) hu ?_
  intro W sp lv mf tl lc lw cw co cn sc an vs it mn mg ma ob rk hF
  obtain ⟨⟨g1, g2, g3, g4, g5⟩, hL, hG, hH, hM⟩ := hF
  have eo : o2 = o := (nI_eq (by omega) (by omega)).mp (l3.symm.trans hg)
  rw [eo] at l1 l4
  have lv1 : 1 ≤ lv := by rw [g5]; exact wr_N_pos l1 l4
  obtain ⟨lv, rfl⟩ : ∃ m, lv = m + 1 := ⟨lv - 1, by omega⟩
  have t1 : 1 ≤ tl := by rw [g3]; exact wr_N_pos hp hgp
  have hl := (wr_gln hL hG hp).mp hgp
  obtain ⟨a1, a2⟩ := hL.2.1 p (by omega) hl
  have q240 := hL.2.2.2.2.2.2.2.1 (lc p) a1 a2
  have ct : tl - 1 = wr_N (-1) (upd G p (-1)) 146 := by
    have a := wr_N_upd (y := -1) (x := -1) (f := G) (n := 146) hp
    rw [wr_b0 rfl, wr_b1 hgp] at a
    omega
  unfold wpX_endLink
  refine nm_r (wr_s1 t1) ⟨252, ?_⟩
  refine wr_xend (G := upd G p (-1)) ho ?_ ?_ 251 p 0 252 0 sp lc lw cw co sc (by omega) (by omega) (by omega) hL (by omega) hl (Or.inl ⟨hp, rfl⟩) ((wr_gl1 hG hp hl).symm.trans hg) ?_
  · intro _ sp2 lc2 lw2 cw2 co2 sc2 hL2 hG2
    exact k _ (wr_in ob rk ⟨⟨g1, g2, ct, g4, g5⟩, hL2, hG2, hH, hM⟩)
  · intro hn
    obtain ⟨q, q1, q2, q3⟩ := hd
    exact absurd (by rw [pk_un q2]; exact q3) (hn q q1)
  · intro r hr
    by_cases e : r = p
    · rw [e, pk_us, wr_us, if_pos rfl]
    · rw [pk_un e, wr_ue e, wr_ue e]
      exact hG r hr
theorem wr_rfree {post : SX → Prop} {o : Nat} {G2 kd2 nd2 fd2 am2 G3 kd3 nd3 fd3 am3 : Nat → Int32} (ho : o < 12)
    (R0 : ∀ (u : SX) (pst : SX → Prop), wr_RX N O G kd nd fd am hm vl ds rm b u → (∀ u', wr_RX N O G2 kd2 nd2 fd2 am2 hm vl ds rm b u' → pst u') → wpX_releaseField pst u (nI o) 0)
    (R1 : ∀ (u : SX) (pst : SX → Prop), wr_RX N O G2 kd2 nd2 fd2 am2 hm vl ds rm b u → (∀ u', wr_RX N O G3 kd3 nd3 fd3 am3 hm vl ds rm b u' → pst u') → wpX_releaseField pst u (nI o) 1)
    (k : ∀ u', wr_RX N O G3 kd3 nd3 fd3 am3 hm vl ds rm b u' → post u') {u : SX} (hu : wr_RX N O G kd nd fd am hm vl ds rm b u) :
    ∀ c1 c2 c3 c4 c5 c6 c7 c8 c9 c10 c11 c12 c13 c14 c15 c16 c17 c18 c19 c20 c21, u = (c1, c2, c3, c4, c5, c6, c7, c8, c9, c10, c11, c12, c13, c14, c15, c16, c17, c18, c19, c20, c21) → wX_freeObject_33 post (nI o) 3 0 c1 c2 c3 c4 c5 c6 c7 c8 c9 c10 c11 c12 c13 c14 c15 c16 c17 c18 c19 c20 c21 := by
  intro c1 c2 c3 c4 c5 c6 c7 c8 c9 c10 c11 c12 c13 c14 c15 c16 c17 c18 c19 c20 c21 e
  subst e
  refine br_f (by decide) (R0 _ _ hu (wr_all ?_))
  intro d1 d2 d3 d4 d5 d6 d7 d8 d9 d10 d11 d12 d13 d14 d15 d16 d17 d18 d19 d20 d21 h2
  refine nm_r (e' := 1) (by decide) ?_
  refine br_f (by decide) (R1 _ _ h2 (wr_all ?_))
  intro e1 e2 e3 e4 e5 e6 e7 e8 e9 e10 e11 e12 e13 e14 e15 e16 e17 e18 e19 e20 e21 h3
  refine nm_r (e' := 2) (by decide) ?_
  exact br_t (by decide) (k _ h3)
theorem wr_rendF {post : Int32 → SX → Prop} {u : SX} {p o : Nat} {G2 kd2 nd2 fd2 am2 G3 kd3 nd3 fd3 am3 : Nat → Int32} (hu : wr_RX N O G kd nd fd am hm vl ds rm b u) (hp : p < 146) (ho : o < 12) (hg : G p = nI o) (hd : ∀ q, q < 146 → q ≠ p → G q ≠ nI o)
    (R0 : ∀ (u : SX) (pst : SX → Prop), wr_RX N O (upd G p (-1)) kd nd fd am (upd hm o (-1)) vl ds rm b u → (∀ u', wr_RX N O G2 kd2 nd2 fd2 am2 (upd hm o (-1)) vl ds rm b u' → pst u') → wpX_releaseField pst u (nI o) 0)
    (R1 : ∀ (u : SX) (pst : SX → Prop), wr_RX N O G2 kd2 nd2 fd2 am2 (upd hm o (-1)) vl ds rm b u → (∀ u', wr_RX N O G3 kd3 nd3 fd3 am3 (upd hm o (-1)) vl ds rm b u' → pst u') → wpX_releaseField pst u (nI o) 1)
    (k : ∀ u', wr_RX N O G3 kd3 nd3 fd3 am3 (upd hm o (-1)) vl ds rm b u' → post 1 u') : wpX_endLink post u (nI p) := by
  have hgp : G p ≠ -1 := by rw [hg]; exact wr_nm (by omega)
  obtain ⟨o2, l1, l2, l3, l4⟩ := wr_live hu hp hgp
  refine wr_el (P := fun u => wpX_endLink post u (nI p)) hu ?_
  intro W sp lv mf tl lc lw cw co cn sc an vs it mn mg ma ob rk hF
  obtain ⟨⟨g1, g2, g3, g4, g5⟩, hL, hG, hH, hM⟩ := hF
  have eo : o2 = o := (nI_eq (by omega) (by omega)).mp (l3.symm.trans hg)
  rw [eo] at l1 l4
  have lv1 : 1 ≤ lv := by rw [g5]; exact wr_N_pos l1 l4
  obtain ⟨lv, rfl⟩ : ∃ m, lv = m + 1 := ⟨lv - 1, by omega⟩
  have t1 : 1 ≤ tl := by rw [g3]; exact wr_N_pos hp hgp
  have hl := (wr_gln hL hG hp).mp hgp
  obtain ⟨a1, a2⟩ := hL.2.1 p (by omega) hl
  have q240 := hL.2.2.2.2.2.2.2.1 (lc p) a1 a2
  have ct : tl - 1 = wr_N (-1) (upd G p (-1)) 146 := by
    have a := wr_N_upd (y := -1) (x := -1) (f := G) (n := 146) hp
    rw [wr_b0 rfl, wr_b1 hgp] at a
    omega
  have cl : lv = wr_N (-1) (upd hm o (-1)) O := by
    have a := wr_N_upd (y := -1) (x := -1) (f := hm) (n := O) l1
    rw [wr_b0 rfl, wr_b1 l4] at a
    omega
  have e1 : (nI o).toNatClampNeg = o := nI_clamp (by omega)
  have i1 : vp_in (nI o) 12 := vp_in_nI ho (by omega)
  unfold wpX_endLink
  refine nm_r (wr_s1 t1) ⟨252, ?_⟩
  refine wr_xend (G := upd G p (-1)) ho ?_ ?_ 251 p 0 252 0 sp lc lw cw co sc (by omega) (by omega) (by omega) hL (by omega) hl (Or.inl ⟨hp, rfl⟩) ((wr_gl1 hG hp hl).symm.trans hg) ?_
  · intro hn
    obtain ⟨q, q1, q2⟩ := hn
    by_cases e : q = p
    · rw [e, pk_us] at q2
      exact absurd q2.symm (wr_nm (by omega))
    · rw [pk_un e] at q2
      exact absurd q2 (hd q q1 e)
  · intro hn sp2 lc2 lw2 cw2 co2 sc2 hL2 hG2 pst hpst
    have hR : wr_RX N O (upd G p (-1)) kd nd fd am (upd hm o (-1)) vl ds rm b (nI N, nI O, nI W, nI (sp2), nI lv, nI mf, nI (tl - 1), (fun i => nI ((lc2) i)), (fun i => nI ((lw2) i)), (fun i => nI ((cw2) i)), co2, cn, (fun i => nI ((sc2) i)), (upd an o (-1)), (upd vs o 0), (upd it o 0), kd, mn, mg, ma, (fun i => nI (rm i))) := by
      refine wr_in ob rk ⟨⟨g1, g2, ct, g4, cl⟩, hL2, hG2, ?_, hM⟩
      intro r hr
      by_cases e : r = o
      · rw [e, pk_us, pk_us]
        exact ⟨⟨fun _ => rfl, fun _ => rfl⟩, fun z => absurd rfl z, fun z => absurd rfl z⟩
      · rw [pk_un e, pk_un e, pk_un e, pk_un e]
        exact hH r hr
    unfold wpX_freeObject
    refine ⟨i1, nm_r (e' := upd an o (-1)) (by rw [e1]) ⟨i1, nm_r (e' := upd vs o 0) (by rw [e1]) ⟨i1, nm_r (e' := upd it o 0) (by rw [e1, wr_bo0]) (nm_r (nI_pred lv) ⟨3, ?_⟩)⟩⟩⟩
    exact wr_rfree ho R0 R1 (fun u' h' => hpst u' (k u' h')) hR _ _ _ _ _ _ _ _ _ _ _ _ _ _ _ _ _ _ _ _ _ rfl
  · intro r hr
    by_cases e : r = p
    · rw [e, pk_us, wr_us, if_pos rfl]
    · rw [pk_un e, wr_ue e, wr_ue e]
      exact hG r hr
/-! checks -/
theorem wr_nodeT {post : Int32 → Prop} {u : SX} {x : Int32} (hu : wr_RX N O G kd nd fd am hm vl ds rm b u) (h : wr_gd N x) (k : post 1) : wpX_isNode post u x := by
  refine wr_el (P := fun u => wpX_isNode post u x) hu ?_
  intro W sp lv mf tl lc lw cw co cn sc an vs it mn mg ma ob rk hF
  obtain ⟨n, hn, rfl⟩ := h
  have hN := hF.1.1
  exact br_f (nI_pos (by omega)) (br_f (nI_ge hn (by omega)) k)
theorem wr_nodeF {post : Int32 → Prop} {u : SX} {x : Int32} (hu : wr_RX N O G kd nd fd am hm vl ds rm b u) (h : ¬ wr_gd N x) (k : post 0) : wpX_isNode post u x := by
  refine wr_el (P := fun u => wpX_isNode post u x) hu ?_
  intro W sp lv mf tl lc lw cw co cn sc an vs it mn mg ma ob rk hF
  have hN := hF.1.1
  rcases wr_ngd (by omega) h with a | ⟨a, c⟩
  · exact br_t a k
  · exact br_f a (br_t c k)
theorem wr_handT {post : Int32 → Prop} {x : Int32} (h : wr_gd 6 x) (k : post 1) : ∀ u : SX, wpX_isHandle post u x := by
  refine wr_all ?_
  intro c1 c2 c3 c4 c5 c6 c7 c8 c9 c10 c11 c12 c13 c14 c15 c16 c17 c18 c19 c20 c21
  obtain ⟨n, hn, rfl⟩ := h
  exact br_f (nI_pos (by omega)) (br_f (nI_ge (b := 6) hn (by decide)) k)
theorem wr_handF {post : Int32 → Prop} {x : Int32} (h : ¬ wr_gd 6 x) (k : post 0) : ∀ u : SX, wpX_isHandle post u x := by
  refine wr_all ?_
  intro c1 c2 c3 c4 c5 c6 c7 c8 c9 c10 c11 c12 c13 c14 c15 c16 c17 c18 c19 c20 c21
  rcases wr_ngd (by omega) h with a | ⟨a, c⟩
  · exact br_t a k
  · exact br_f a (br_t c k)
theorem wr_fielT {post : Int32 → Prop} {x : Int32} (h : wr_gd 2 x) (k : post 1) : ∀ u : SX, wpX_isField post u x := by
  refine wr_all ?_
  intro c1 c2 c3 c4 c5 c6 c7 c8 c9 c10 c11 c12 c13 c14 c15 c16 c17 c18 c19 c20 c21
  obtain ⟨n, hn, rfl⟩ := h
  exact br_f (nI_pos (by omega)) (br_f (nI_ge (b := 2) hn (by decide)) k)
theorem wr_fielF {post : Int32 → Prop} {x : Int32} (h : ¬ wr_gd 2 x) (k : post 0) : ∀ u : SX, wpX_isField post u x := by
  refine wr_all ?_
  intro c1 c2 c3 c4 c5 c6 c7 c8 c9 c10 c11 c12 c13 c14 c15 c16 c17 c18 c19 c20 c21
  rcases wr_ngd (by omega) h with a | ⟨a, c⟩
  · exact br_t a k
  · exact br_f a (br_t c k)
/-- a weight read at an outer place -/
theorem wr_rw {u : SX} {p : Nat} {A B : Prop} (hu : wr_RX N O G kd nd fd am hm vl ds rm b u) (hp : p < 146) (h0 : G p = -1 → A) (h1 : G p ≠ -1 → B) : ((u.2.2.2.2.2.2.2.2.1 (nI p).toNatClampNeg = 0 → A) ∧ (¬ u.2.2.2.2.2.2.2.2.1 (nI p).toNatClampNeg = 0 → B)) := by
  refine wr_el (P := fun u => ((u.2.2.2.2.2.2.2.2.1 (nI p).toNatClampNeg = 0 → A) ∧ (¬ u.2.2.2.2.2.2.2.2.1 (nI p).toNatClampNeg = 0 → B))) hu ?_
  intro W sp lv mf tl lc lw cw co cn sc an vs it mn mg ma ob rk hF
  obtain ⟨h0', hL, hG, hH, hM⟩ := hF
  show (nI (lw (nI p).toNatClampNeg) = 0 → A) ∧ (¬ nI (lw (nI p).toNatClampNeg) = 0 → B)
  rw [nI_clamp (show p < 2 ^ 31 by omega)]
  have w := wr_lw64 hL (show p < 398 by omega)
  by_cases e : lw p = 0
  · exact br_t (by rw [e]; rfl) (h0 (wr_glz hG hp e))
  · exact br_f (nI_ne0 (by omega) (by omega)) (h1 ((wr_gln hL hG hp).mpr (by omega)))
theorem wr_ckN0 {post : Int32 → Prop} {u : SX} {x y z : Int32} (hu : wr_RX N O G kd nd fd am hm vl ds rm b u) (h : ¬ wr_gd N x) (k : post (-2)) : wpX_checkHandle post u x y z := by
  revert hu
  refine wr_all (P := fun u => wr_RX N O G kd nd fd am hm vl ds rm b u → wpX_checkHandle post u x y z) ?_ u
  intro c1 c2 c3 c4 c5 c6 c7 c8 c9 c10 c11 c12 c13 c14 c15 c16 c17 c18 c19 c20 c21 hu
  unfold wpX_checkHandle
  exact wr_nodeF hu h (br_t rfl k)
theorem wr_ckN1 {post : Int32 → Prop} {u : SX} {x y z : Int32} (hu : wr_RX N O G kd nd fd am hm vl ds rm b u) (h0 : wr_gd N x) (h : ¬ wr_gd N y) (k : post (-2)) : wpX_checkHandle post u x y z := by
  revert hu
  refine wr_all (P := fun u => wr_RX N O G kd nd fd am hm vl ds rm b u → wpX_checkHandle post u x y z) ?_ u
  intro c1 c2 c3 c4 c5 c6 c7 c8 c9 c10 c11 c12 c13 c14 c15 c16 c17 c18 c19 c20 c21 hu
  unfold wpX_checkHandle
  exact wr_nodeT hu h0 (br_f (by decide) (wr_nodeF hu h (br_t rfl k)))
theorem wr_ckH {post : Int32 → Prop} {u : SX} {x y z : Int32} (hu : wr_RX N O G kd nd fd am hm vl ds rm b u) (h0 : wr_gd N x) (h1 : wr_gd N y) (h : ¬ wr_gd 6 z) (k : post (-3)) : wpX_checkHandle post u x y z := by
  revert hu
  refine wr_all (P := fun u => wr_RX N O G kd nd fd am hm vl ds rm b u → wpX_checkHandle post u x y z) ?_ u
  intro c1 c2 c3 c4 c5 c6 c7 c8 c9 c10 c11 c12 c13 c14 c15 c16 c17 c18 c19 c20 c21 hu
  unfold wpX_checkHandle
  exact wr_nodeT hu h0 (br_f (by decide) (wr_nodeT hu h1 (br_f (by decide) (wr_handF h (br_t rfl k) _))))
theorem wr_ckE {post : Int32 → Prop} {u : SX} {n h : Nat} {y : Int32} (hu : wr_RX N O G kd nd fd am hm vl ds rm b u) (hn : n < N) (hN : N ≤ 4) (h1 : wr_gd N y) (hh : h < 6) (k0 : G (n * 6 + h) = -1 → post (-4)) (k1 : G (n * 6 + h) ≠ -1 → post 0) : wpX_checkHandle post u (nI n) y (nI h) := by
  revert hu
  refine wr_all (P := fun u => wr_RX N O G kd nd fd am hm vl ds rm b u → wpX_checkHandle post u (nI n) y (nI h)) ?_ u
  intro c1 c2 c3 c4 c5 c6 c7 c8 c9 c10 c11 c12 c13 c14 c15 c16 c17 c18 c19 c20 c21 hu
  unfold wpX_checkHandle
  refine wr_nodeT hu ⟨n, hn, rfl⟩ (br_f (by decide) (wr_nodeT hu h1 (br_f (by decide) (wr_handT ⟨h, hh, rfl⟩ (br_f (by decide) ?_) _))))
  unfold wpX_handlePlace
  show vp_in (nI n * 6 + nI h) 398 ∧ _
  rw [wr_hp]
  exact ⟨vp_in_nI (by omega) (by omega), wr_rw hu (by omega) k0 k1⟩
theorem wr_spend {post : Int32 → Prop} {u : SX} {n m c : Nat} (hu : wr_RX N O G kd nd fd am hm vl ds rm b u) (hn : n < 4) (hm2 : m ≤ 2) (hc : c ≤ 2) (k0 : 48 < wr_N (-1) G 146 + m → post (-8)) (k1 : wr_N (-1) G 146 + m ≤ 48 → rm n < c → post (-9)) (k2 : wr_N (-1) G 146 + m ≤ 48 → c ≤ rm n → post 0) : wpX_checkSpending post u (nI n) (nI m) (nI c) := by
  refine wr_el (P := fun u => wpX_checkSpending post u (nI n) (nI m) (nI c)) hu ?_
  intro W sp lv mf tl lc lw cw co cn sc an vs it mn mg ma ob rk hF
  obtain ⟨⟨g1, g2, g3, g4, g5⟩, hL, hG, hH, hM⟩ := hF
  have e1 : (nI n).toNatClampNeg = n := nI_clamp (by omega)
  have i1 : vp_in (nI n) 4 := vp_in_nI hn (by omega)
  have tb : tl ≤ 146 := by rw [g3]; exact wr_N_le _ _ _
  have rb := g2 n hn
  rw [← g3] at k0 k1 k2
  unfold wpX_checkSpending
  show (nI tl + nI m ≤ 48 → _) ∧ (¬ nI tl + nI m ≤ 48 → _)
  rw [nI_add]
  refine pk_le (tl + m) 48 (fun z => ⟨i1, ?_⟩) k0
  rw [e1]
  exact pk_le c (rm n) (k2 z) (k1 z)
theorem wr_least (P : Nat → Prop) : ∀ n, (∀ i, i < n → ¬ P i) ∨ ∃ i, i < n ∧ P i ∧ ∀ j, j < i → ¬ P j := by
  intro n
  induction n with
  | zero => exact Or.inl fun i hi => by omega
  | succ n ih =>
    rcases ih with h | ⟨i, h1, h2, h3⟩
    · by_cases e : P n
      · exact Or.inr ⟨n, by omega, e, h⟩
      · refine Or.inl fun i hi => ?_
        by_cases ei : i = n
        · rw [ei]; exact e
        · exact h i (by omega)
    · exact Or.inr ⟨i, by omega, h2, h3⟩
theorem wr_ehL {post : Int32 → Prop} {n : Nat} {c1 c2 c3 c4 c5 c6 c7 c8 c9 c10 c11 c12 c13 c14 c15 c16 c17 c18 c19 c20 c21} (hu : wr_RX N O G kd nd fd am hm vl ds rm b (c1, c2, c3, c4, c5, c6, c7, c8, c9, c10, c11, c12, c13, c14, c15, c16, c17, c18, c19, c20, c21)) (hn : n < 4) {r : Nat} (hr : r ≤ 6) (hb : ∀ j, j < r → G (n * 6 + j) ≠ -1) (h0 : r < 6 → G (n * 6 + r) = -1) (k : post (if r < 6 then nI r else -1)) : ∀ d i, i + d = 6 → i ≤ r → wX_emptyHandle_2 post (nI n) c1 c2 c3 c4 c5 c6 c7 c8 c9 c10 c11 c12 c13 c14 c15 c16 c17 c18 c19 c20 c21 (d + 1) (nI i) := by
  intro d
  induction d with
  | zero =>
    intro i hi hle
    have e : r = 6 := by omega
    rw [e, if_neg (by omega)] at k
    have ei : i = 6 := by omega
    rw [ei]
    exact br_t (by decide) k
  | succ d ih =>
    intro i hi hle
    refine br_f (nI_ge (b := 6) (by omega) (by decide)) ?_
    unfold wpX_handlePlace
    show vp_in (nI n * 6 + nI i) 398 ∧ _
    rw [wr_hp]
    refine ⟨vp_in_nI (by omega) (by omega), wr_rw hu (by omega) (fun z => ?_) (fun z => nm_r (nI_1 i) (ih (i + 1) (by omega) ?_))⟩
    · have e : i = r := by
        by_cases e : i = r
        · exact e
        · exact absurd z (hb i (by omega))
      rw [e]
      rw [if_pos (by omega)] at k
      exact k
    · by_cases e : i = r
      · rw [e] at z; exact absurd (h0 (by omega)) z
      · omega
theorem wr_ehN {post : Int32 → Prop} {u : SX} {n : Nat} (hu : wr_RX N O G kd nd fd am hm vl ds rm b u) (hn : n < 4) (hb : ∀ j, j < 6 → G (n * 6 + j) ≠ -1) (k : post (-1)) : wpX_emptyHandle post u (nI n) := by
  revert hu
  refine wr_all (P := fun u => wr_RX N O G kd nd fd am hm vl ds rm b u → wpX_emptyHandle post u (nI n)) ?_ u
  intro c1 c2 c3 c4 c5 c6 c7 c8 c9 c10 c11 c12 c13 c14 c15 c16 c17 c18 c19 c20 c21 hu
  unfold wpX_emptyHandle
  exact ⟨7, wr_ehL hu hn (r := 6) (by omega) hb (fun z => absurd z (by omega)) k 6 0 rfl (by omega)⟩
theorem wr_ehS {post : Int32 → Prop} {u : SX} {n h : Nat} (hu : wr_RX N O G kd nd fd am hm vl ds rm b u) (hn : n < 4) (hh : h < 6) (h0 : G (n * 6 + h) = -1) (hb : ∀ j, j < h → G (n * 6 + j) ≠ -1) (k : post (nI h)) : wpX_emptyHandle post u (nI n) := by
  revert hu
  refine wr_all (P := fun u => wr_RX N O G kd nd fd am hm vl ds rm b u → wpX_emptyHandle post u (nI n)) ?_ u
  intro c1 c2 c3 c4 c5 c6 c7 c8 c9 c10 c11 c12 c13 c14 c15 c16 c17 c18 c19 c20 c21 hu
  unfold wpX_emptyHandle
  exact ⟨7, wr_ehL hu hn (r := h) (by omega) hb (fun _ => h0) (by rw [if_pos hh]; exact k) 6 0 rfl (by omega)⟩
end
end
section
/-! the abstract state's law; z: an object that is being freed -/
def wr_IV (N O z : Nat) (G kd nd fd hm ds : Nat → Int32) : Prop :=
  (2 ≤ N ∧ N ≤ 4 ∧ 1 ≤ O ∧ O ≤ 12 ∧ wr_N (-1) G 144 ≤ 48) ∧
  (∀ p, p < 144 → G p ≠ -1 → ∃ o, o < O ∧ G p = nI o ∧ hm o ≠ -1) ∧
  (∀ o, o < 12 → o ≠ z → hm o = -1 → ∀ f, f < 2 → G (24 + o * 2 + f) = -1) ∧
  (∀ s, s < 48 → (kd s = 0 ↔ G (48 + s) = -1) ∧ (kd s = 3 ↔ G (96 + s) ≠ -1)) ∧
  (∀ s, s < 48 → (kd s = 2 ∨ kd s = 5 ∨ kd s = 7 → ∃ n, n < N ∧ nd s = nI n) ∧ (kd s = 3 ∨ kd s = 4 ∨ kd s = 5 → ∃ f, f < 2 ∧ fd s = nI f)) ∧
  (∀ o, o < 12 → hm o ≠ -1 → (∃ n, n < N ∧ ds o = nI n) ∧ (hm o = -10 ∨ hm o = ds o)) ∧
  (∀ s, s < 48 → kd s = 7 → ∀ o, o < 12 → G (48 + s) = nI o → hm o = -10 ∧ nd s = ds o) ∧
  (∀ s t, s < 48 → t < 48 → kd s = 7 → kd t = 7 → G (48 + s) = G (48 + t) → s = t) ∧
  (∀ o, O ≤ o → o < 12 → hm o = -1)
section
variable {N O z : Nat} {G kd nd fd hm ds : Nat → Int32}
theorem wr_iclr (h : wr_IV N O z G kd nd fd hm ds) {p : Nat} (hp : p < 48) : wr_IV N O z (upd G p (-1)) kd nd fd hm ds := by
  obtain ⟨⟨a1, a2, a3, a4, a5⟩, h1, h2, h3, h4, h5, h6, h7, h8⟩ := h
  refine ⟨⟨a1, a2, a3, a4, ?_⟩, ?_, ?_, ?_, h4, h5, ?_, ?_, h8⟩
  · have a := wr_N_upd (y := -1) (x := -1) (f := G) (n := 144) (q := p) (by omega)
    rw [wr_b0 rfl] at a
    omega
  · intro q hq hn
    by_cases e : q = p
    · rw [e, pk_us] at hn; exact absurd rfl hn
    · rw [pk_un e] at hn ⊢; exact h1 q hq hn
  · intro o ho hz hd f hf
    by_cases e : 24 + o * 2 + f = p
    · rw [e, pk_us]
    · rw [pk_un e]; exact h2 o ho hz hd f hf
  · intro s hs
    rw [pk_un (show 48 + s ≠ p by omega), pk_un (show 96 + s ≠ p by omega)]
    exact h3 s hs
  · intro s hs hk o ho
    rw [pk_un (show 48 + s ≠ p by omega)]
    exact h6 s hs hk o ho
  · intro s t hs ht
    rw [pk_un (show 48 + s ≠ p by omega), pk_un (show 48 + t ≠ p by omega)]
    exact h7 s t hs ht
theorem wr_iset (h : wr_IV N O z G kd nd fd hm ds) {p o : Nat} (hp : p < 48) (h0 : G p = -1) (ho : o < O) (hl : hm o ≠ -1) (hc : wr_N (-1) G 144 + 1 ≤ 48)
    (hf : ∀ q, q < 12 → ∀ f, f < 2 → 24 + q * 2 + f = p → hm q ≠ -1) : wr_IV N O z (upd G p (nI o)) kd nd fd hm ds := by
  obtain ⟨⟨a1, a2, a3, a4, a5⟩, h1, h2, h3, h4, h5, h6, h7, h8⟩ := h
  refine ⟨⟨a1, a2, a3, a4, ?_⟩, ?_, ?_, ?_, h4, h5, ?_, ?_, h8⟩
  · have a := wr_N_upd (y := -1) (x := nI o) (f := G) (n := 144) (q := p) (by omega)
    rw [h0, wr_b0 rfl, wr_b1 (wr_nm (by omega))] at a
    omega
  · intro q hq hn
    by_cases e : q = p
    · rw [e, pk_us]; exact ⟨o, ho, rfl, hl⟩
    · rw [pk_un e] at hn ⊢; exact h1 q hq hn
  · intro o2 ho2 hz hd f hf2
    by_cases e : 24 + o2 * 2 + f = p
    · exact absurd hd (hf o2 ho2 f hf2 e)
    · rw [pk_un e]; exact h2 o2 ho2 hz hd f hf2
  · intro s hs
    rw [pk_un (show 48 + s ≠ p by omega), pk_un (show 96 + s ≠ p by omega)]
    exact h3 s hs
  · intro s hs hk o ho
    rw [pk_un (show 48 + s ≠ p by omega)]
    exact h6 s hs hk o ho
  · intro s t hs ht
    rw [pk_un (show 48 + s ≠ p by omega), pk_un (show 48 + t ≠ p by omega)]
    exact h7 s t hs ht
theorem wr_ipost (h : wr_IV N O z G kd nd fd hm ds) {s o : Nat} {k c n f : Int32} (hs : s < 48) (h0 : kd s = 0) (hk : k ≠ 0) (ho : o < O) (hl : hm o ≠ -1)
    (hc : c ≠ -1 → ∃ q, q < O ∧ c = nI q ∧ hm q ≠ -1) (hc3 : k = 3 ↔ c ≠ -1) (hb : wr_N (-1) G 144 + 1 + wr_b (-1) c ≤ 48)
    (hn : k = 2 ∨ k = 5 ∨ k = 7 → ∃ m, m < N ∧ n = nI m) (hf : k = 3 ∨ k = 4 ∨ k = 5 → ∃ m, m < 2 ∧ f = nI m)
    (h7k : k = 7 → hm o = -10 ∧ n = ds o ∧ ∀ t, t < 48 → kd t = 7 → G (48 + t) ≠ nI o) :
    wr_IV N O z (upd (upd G (48 + s) (nI o)) (96 + s) c) (upd kd s k) (upd nd s n) (upd fd s f) hm ds := by
  obtain ⟨⟨a1, a2, a3, a4, a5⟩, h1, h2, h3, h4, h5, h6, h7, h8⟩ := h
  have gt : G (48 + s) = -1 := (h3 s hs).1.mp h0
  have gc : G (96 + s) = -1 := by
    by_cases e : G (96 + s) = -1
    · exact e
    · have := (h3 s hs).2.mpr e
      rw [h0] at this
      exact absurd this (by decide)
  have no : nI o ≠ -1 := wr_nm (by omega)
  refine ⟨⟨a1, a2, a3, a4, ?_⟩, ?_, ?_, ?_, ?_, h5, ?_, ?_, h8⟩
  · have a := wr_N_upd (y := -1) (x := nI o) (f := G) (n := 144) (q := 48 + s) (by omega)
    have b := wr_N_upd (y := -1) (x := c) (f := upd G (48 + s) (nI o)) (n := 144) (q := 96 + s) (by omega)
    rw [gt, wr_b0 rfl, wr_b1 no] at a
    rw [pk_un (show 96 + s ≠ 48 + s by omega), gc, wr_b0 rfl] at b
    omega
  · intro q hq hn2
    by_cases e : q = 96 + s
    · rw [e, pk_us] at hn2 ⊢; exact hc hn2
    · rw [pk_un e] at hn2 ⊢
      by_cases e2 : q = 48 + s
      · rw [e2, pk_us]; exact ⟨o, ho, rfl, hl⟩
      · rw [pk_un e2] at hn2 ⊢; exact h1 q hq hn2
  · intro o2 ho2 hz hd f2 hf2
    rw [pk_un (by omega), pk_un (by omega)]
    exact h2 o2 ho2 hz hd f2 hf2
  · intro t ht
    by_cases e : t = s
    · rw [e, pk_us, pk_us, pk_un (show 48 + s ≠ 96 + s by omega), pk_us]
      exact ⟨⟨fun w => absurd w hk, fun w => absurd w no⟩, hc3⟩
    · rw [pk_un e, pk_un (show 48 + t ≠ 96 + s by omega), pk_un (show 48 + t ≠ 48 + s by omega), pk_un (show 96 + t ≠ 96 + s by omega), pk_un (show 96 + t ≠ 48 + s by omega)]
      exact h3 t ht
  · intro t ht
    by_cases e : t = s
    · rw [e, pk_us, pk_us, pk_us]
      exact ⟨hn, hf⟩
    · rw [pk_un e, pk_un e, pk_un e]
      exact h4 t ht
  · intro t ht hk7 o2 ho2 hg
    rw [pk_un (show 48 + t ≠ 96 + s by omega)] at hg
    by_cases e : t = s
    · rw [e, pk_us] at hk7 hg ⊢
      have eo : o2 = o := ((nI_eq (by omega) (by omega)).mp hg).symm
      rw [eo]
      exact ⟨(h7k hk7).1, (h7k hk7).2.1⟩
    · rw [pk_un e] at hk7 ⊢
      rw [pk_un (show 48 + t ≠ 48 + s by omega)] at hg
      exact h6 t ht hk7 o2 ho2 hg
  · intro t r ht hr k1 k2 hg
    rw [pk_un (show 48 + t ≠ 96 + s by omega), pk_un (show 48 + r ≠ 96 + s by omega)] at hg
    by_cases e : t = s
    · by_cases e2 : r = s
      · omega
      · rw [e, pk_us] at k1
        rw [pk_un e2] at k2
        rw [e, pk_us, pk_un (show 48 + r ≠ 48 + s by omega)] at hg
        exact absurd hg.symm ((h7k k1).2.2 r hr k2)
    · by_cases e2 : r = s
      · rw [e2, pk_us] at k2
        rw [pk_un e] at k1
        rw [e2, pk_us, pk_un (show 48 + t ≠ 48 + s by omega)] at hg
        exact absurd hg ((h7k k2).2.2 t ht k1)
      · rw [pk_un e] at k1
        rw [pk_un e2] at k2
        rw [pk_un (show 48 + t ≠ 48 + s by omega), pk_un (show 48 + r ≠ 48 + s by omega)] at hg
        exact h7 t r ht hr k1 k2 hg
theorem wr_itake (h : wr_IV N O z G kd nd fd hm ds) {s : Nat} (hs : s < 48) :
    wr_IV N O z (upd (upd G (48 + s) (-1)) (96 + s) (-1)) (upd kd s 0) nd fd hm ds := by
  obtain ⟨⟨a1, a2, a3, a4, a5⟩, h1, h2, h3, h4, h5, h6, h7, h8⟩ := h
  refine ⟨⟨a1, a2, a3, a4, ?_⟩, ?_, ?_, ?_, ?_, h5, ?_, ?_, h8⟩
  · have a := wr_N_upd (y := -1) (x := -1) (f := G) (n := 144) (q := 48 + s) (by omega)
    have b := wr_N_upd (y := -1) (x := -1) (f := upd G (48 + s) (-1)) (n := 144) (q := 96 + s) (by omega)
    rw [wr_b0 rfl] at a b
    omega
  · intro q hq hn2
    by_cases e : q = 96 + s
    · rw [e, pk_us] at hn2; exact absurd rfl hn2
    · rw [pk_un e] at hn2 ⊢
      by_cases e2 : q = 48 + s
      · rw [e2, pk_us] at hn2; exact absurd rfl hn2
      · rw [pk_un e2] at hn2 ⊢; exact h1 q hq hn2
  · intro o2 ho2 hz hd f2 hf2
    rw [pk_un (by omega), pk_un (by omega)]
    exact h2 o2 ho2 hz hd f2 hf2
  · intro t ht
    by_cases e : t = s
    · rw [e, pk_us, pk_us, pk_un (show 48 + s ≠ 96 + s by omega), pk_us]
      exact ⟨⟨fun _ => rfl, fun _ => rfl⟩, fun w => absurd w (by decide), fun w => absurd rfl w⟩
    · rw [pk_un e, pk_un (show 48 + t ≠ 96 + s by omega), pk_un (show 48 + t ≠ 48 + s by omega), pk_un (show 96 + t ≠ 96 + s by omega), pk_un (show 96 + t ≠ 48 + s by omega)]
      exact h3 t ht
  · intro t ht
    by_cases e : t = s
    · rw [e, pk_us]
      exact ⟨fun w => by rcases w with w | w | w <;> exact absurd w (by decide), fun w => by rcases w with w | w | w <;> exact absurd w (by decide)⟩
    · rw [pk_un e]
      exact h4 t ht
  · intro t ht hk7 o2 ho2 hg
    rw [pk_un (show 48 + t ≠ 96 + s by omega)] at hg
    by_cases e : t = s
    · rw [e, pk_us] at hk7; exact absurd hk7 (by decide)
    · rw [pk_un e] at hk7
      rw [pk_un (show 48 + t ≠ 48 + s by omega)] at hg
      exact h6 t ht hk7 o2 ho2 hg
  · intro t r ht hr k1 k2 hg
    by_cases e : t = s
    · rw [e, pk_us] at k1; exact absurd k1 (by decide)
    · by_cases e2 : r = s
      · rw [e2, pk_us] at k2; exact absurd k2 (by decide)
      · rw [pk_un e] at k1
        rw [pk_un e2] at k2
        rw [pk_un (show 48 + t ≠ 96 + s by omega), pk_un (show 48 + r ≠ 96 + s by omega), pk_un (show 48 + t ≠ 48 + s by omega), pk_un (show 48 + r ≠ 48 + s by omega)] at hg
        exact h7 t r ht hr k1 k2 hg
theorem wr_inew (h : wr_IV N O z G kd nd fd hm ds) {o n : Nat} (ho : o < O) (hd : hm o = -1) (hn : n < N) :
    wr_IV N O z G kd nd fd (upd hm o (nI n)) (upd ds o (nI n)) := by
  obtain ⟨⟨a1, a2, a3, a4, a5⟩, h1, h2, h3, h4, h5, h6, h7, h8⟩ := h
  have nn : nI n ≠ -1 := wr_nm (by omega)
  refine ⟨⟨a1, a2, a3, a4, a5⟩, ?_, ?_, h3, h4, ?_, ?_, h7, ?_⟩
  · intro q hq hn2
    obtain ⟨r, r1, r2, r3⟩ := h1 q hq hn2
    refine ⟨r, r1, r2, ?_⟩
    by_cases e : r = o
    · rw [e, pk_us]; exact nn
    · rw [pk_un e]; exact r3
  · intro q hq hz hm2
    by_cases e : q = o
    · rw [e, pk_us] at hm2; exact absurd hm2 nn
    · rw [pk_un e] at hm2; exact h2 q hq hz hm2
  · intro q hq hm2
    by_cases e : q = o
    · rw [e, pk_us, pk_us]; exact ⟨⟨n, hn, rfl⟩, Or.inr rfl⟩
    · rw [pk_un e] at hm2 ⊢; rw [pk_un e]; exact h5 q hq hm2
  · intro s hs hk q hq hg
    have ne : q ≠ o := fun e => by
      rw [e] at hg
      obtain ⟨r, r1, r2, r3⟩ := h1 (48 + s) (by omega) (by rw [hg]; exact wr_nm (by omega))
      have : r = o := (nI_eq (by omega) (by omega)).mp (r2.symm.trans hg)
      rw [this] at r3
      exact r3 hd
    rw [pk_un ne, pk_un ne]
    exact h6 s hs hk q hq hg
  · intro q h1q h2q
    rw [pk_un (show q ≠ o by omega)]
    exact h8 q h1q h2q
theorem wr_imig (h : wr_IV N O z G kd nd fd hm ds) {o n : Nat} (ho : o < O) (hd : hm o ≠ -1) (ht : hm o ≠ -10) (hn : n < N) :
    wr_IV N O z G kd nd fd (upd hm o (-10)) (upd ds o (nI n)) ∧ ∀ t, t < 48 → kd t = 7 → G (48 + t) ≠ nI o := by
  obtain ⟨⟨a1, a2, a3, a4, a5⟩, h1, h2, h3, h4, h5, h6, h7, h8⟩ := h
  have nn : (-10 : Int32) ≠ -1 := by decide
  have nm : ∀ t, t < 48 → kd t = 7 → G (48 + t) ≠ nI o := fun t h1t hk hg => ht (h6 t h1t hk o (by omega) hg).1
  refine ⟨⟨⟨a1, a2, a3, a4, a5⟩, ?_, ?_, h3, h4, ?_, ?_, h7, ?_⟩, nm⟩
  · intro q hq hn2
    obtain ⟨r, r1, r2, r3⟩ := h1 q hq hn2
    refine ⟨r, r1, r2, ?_⟩
    by_cases e : r = o
    · rw [e, pk_us]; exact nn
    · rw [pk_un e]; exact r3
  · intro q hq hz hm2
    by_cases e : q = o
    · rw [e, pk_us] at hm2; exact absurd hm2 nn
    · rw [pk_un e] at hm2; exact h2 q hq hz hm2
  · intro q hq hm2
    by_cases e : q = o
    · rw [e, pk_us, pk_us]; exact ⟨⟨n, hn, rfl⟩, Or.inl rfl⟩
    · rw [pk_un e] at hm2 ⊢; rw [pk_un e]; exact h5 q hq hm2
  · intro s hs hk q hq hg
    have ne : q ≠ o := fun e => by
      rw [e] at hg
      exact nm s hs hk hg
    rw [pk_un ne, pk_un ne]
    exact h6 s hs hk q hq hg
  · intro q h1q h2q
    rw [pk_un (show q ≠ o by omega)]
    exact h8 q h1q h2q
theorem wr_ihome (h : wr_IV N O z G kd nd fd hm ds) {o : Nat} (ho : o < O) (hd : hm o ≠ -1) (hn : ∀ t, t < 48 → kd t = 7 → G (48 + t) ≠ nI o) :
    wr_IV N O z G kd nd fd (upd hm o (ds o)) ds := by
  obtain ⟨⟨a1, a2, a3, a4, a5⟩, h1, h2, h3, h4, h5, h6, h7, h8⟩ := h
  obtain ⟨⟨n, n1, n2⟩, _⟩ := h5 o (by omega) hd
  have nn : ds o ≠ -1 := by rw [n2]; exact wr_nm (by omega)
  refine ⟨⟨a1, a2, a3, a4, a5⟩, ?_, ?_, h3, h4, ?_, ?_, h7, ?_⟩
  · intro q hq hn2
    obtain ⟨r, r1, r2, r3⟩ := h1 q hq hn2
    refine ⟨r, r1, r2, ?_⟩
    by_cases e : r = o
    · rw [e, pk_us]; exact nn
    · rw [pk_un e]; exact r3
  · intro q hq hz hm2
    by_cases e : q = o
    · rw [e, pk_us] at hm2; exact absurd hm2 nn
    · rw [pk_un e] at hm2; exact h2 q hq hz hm2
  · intro q hq hm2
    by_cases e : q = o
    · rw [e, pk_us]; exact ⟨⟨n, n1, n2⟩, Or.inr rfl⟩
    · rw [pk_un e] at hm2 ⊢; exact h5 q hq hm2
  · intro s hs hk q hq hg
    have ne : q ≠ o := fun e => by
      rw [e] at hg
      exact hn s hs hk hg
    rw [pk_un ne]
    exact h6 s hs hk q hq hg
  · intro q h1q h2q
    rw [pk_un (show q ≠ o by omega)]
    exact h8 q h1q h2q
theorem wr_ifree (h : wr_IV N O z G kd nd fd hm ds) {o : Nat} (hz : z = 12) (ho : o < O) (hn : ∀ p, p < 144 → G p ≠ nI o) :
    wr_IV N O o G kd nd fd (upd hm o (-1)) ds := by
  obtain ⟨⟨a1, a2, a3, a4, a5⟩, h1, h2, h3, h4, h5, h6, h7, h8⟩ := h
  refine ⟨⟨a1, a2, a3, a4, a5⟩, ?_, ?_, h3, h4, ?_, ?_, h7, ?_⟩
  · intro q hq hn2
    obtain ⟨r, r1, r2, r3⟩ := h1 q hq hn2
    refine ⟨r, r1, r2, ?_⟩
    have e : r ≠ o := fun e => by rw [e] at r2; exact hn q hq r2
    rw [pk_un e]; exact r3
  · intro q hq hz2 hm2
    rw [pk_un hz2] at hm2
    exact h2 q hq (by omega) hm2
  · intro q hq hm2
    by_cases e : q = o
    · rw [e, pk_us] at hm2; exact absurd rfl hm2
    · rw [pk_un e] at hm2 ⊢; exact h5 q hq hm2
  · intro s hs hk q hq hg
    have ne : q ≠ o := fun e => by
      rw [e] at hg
      exact hn (48 + s) (by omega) hg
    rw [pk_un ne]
    exact h6 s hs hk q hq hg
  · intro q h1q h2q
    by_cases e : q = o
    · rw [e, pk_us]
    · rw [pk_un e]
      exact h8 q h1q h2q
theorem wr_iz (h : wr_IV N O z G kd nd fd hm ds) (h0 : ∀ f, f < 2 → G (24 + z * 2 + f) = -1) : wr_IV N O 12 G kd nd fd hm ds := by
  obtain ⟨a, h1, h2, h3⟩ := h
  refine ⟨a, h1, fun o ho _ hd f hf => ?_, h3⟩
  by_cases e : o = z
  · rw [e]; exact h0 f hf
  · exact h2 o ho e hd f hf
/-- there is a slot -/
theorem wr_slot (h : wr_IV N O z G kd nd fd hm ds) (hx : wr_N (-1) G 144 + 1 ≤ 48 ∨ ∃ p, p < 48 ∧ G p ≠ -1) : ∃ s, s < 48 ∧ kd s = 0 ∧ ∀ j, j < s → kd j ≠ 0 := by
  obtain ⟨⟨a1, a2, a3, a4, a5⟩, h1, h2, h3, _⟩ := h
  rcases wr_least (fun s => kd s = 0) 48 with a | ⟨s, s1, s2, s3⟩
  · have f1 : ∀ i, i < 48 → wr_b (-1) (G (48 + i)) = 1 := fun i hi => wr_b1 (fun e => a i hi ((h3 i hi).1.mpr e))
    have o1 := wr_S_ones (f := fun i => wr_b (-1) (G i)) (a := 48) 48 f1
    have m1 := wr_S_mono (f := fun i => wr_b (-1) (G i)) (n := 96) 48
    have e144 : wr_N (-1) G 144 = wr_S (fun i => wr_b (-1) (G i)) 144 := rfl
    have m2 : wr_S (fun i => wr_b (-1) (G i)) 96 ≤ wr_S (fun i => wr_b (-1) (G i)) 144 := m1
    have o2 : wr_S (fun i => wr_b (-1) (G i)) 96 = wr_S (fun i => wr_b (-1) (G i)) 48 + 48 := o1
    rcases hx with hx | ⟨p, p1, p2⟩
    · omega
    · have l := wr_S_le (f := fun i => wr_b (-1) (G i)) 48 p p1
      have e : wr_b (-1) (G p) = 1 := wr_b1 p2
      have l2 : wr_b (-1) (G p) ≤ wr_S (fun i => wr_b (-1) (G i)) 48 := l
      omega
  · exact ⟨s, s1, s2, s3⟩
end
end
section
/-! the reference's state against the abstract one -/
def wr_YG (G he fi tg ca : Nat → Int32) : Prop := (∀ j, j < 24 → he j = G j ∧ fi j = G (24 + j)) ∧ (∀ s, s < 48 → tg s = G (48 + s) ∧ ca s = G (96 + s))
def wr_RY (N O : Nat) (G kd nd fd am hm vl : Nat → Int32) (rm : Nat → Nat) (v : SY) : Prop := ∃ he fi tg ca : Nat → Int32, v = (nI N, nI O, he, fi, hm, vl, (fun i => nI (rm i)), kd, tg, nd, fd, ca, am) ∧ wr_YG G he fi tg ca
theorem wr_yall {P : SY → Prop} (h : ∀ c1 c2 c3 c4 c5 c6 c7 c8 c9 c10 c11 c12 c13, P (c1, c2, c3, c4, c5, c6, c7, c8, c9, c10, c11, c12, c13)) : ∀ u, P u := fun ⟨c1, c2, c3, c4, c5, c6, c7, c8, c9, c10, c11, c12, c13⟩ => h c1 c2 c3 c4 c5 c6 c7 c8 c9 c10 c11 c12 c13
def wr_q (y x : Int32) : Nat := if y = x then 1 else 0
theorem wr_q1 {y x : Int32} (h : y = x) : wr_q y x = 1 := if_pos h
theorem wr_q0 {y x : Int32} (h : y ≠ x) : wr_q y x = 0 := if_neg h
def wr_E (x : Int32) (G : Nat → Int32) (n : Nat) : Nat := wr_S (fun i => wr_q (G i) x) n
theorem wr_S_add {f g : Nat → Nat} : ∀ n, wr_S (fun i => f i + g i) n = wr_S f n + wr_S g n
  | 0 => rfl
  | n + 1 => by
    show wr_S (fun i => f i + g i) n + (f n + g n) = wr_S f n + f n + (wr_S g n + g n)
    rw [wr_S_add n]
    omega
theorem wr_E_pos {x : Int32} {G : Nat → Int32} {n p : Nat} (hp : p < n) (h : G p = x) : 1 ≤ wr_E x G n := by
  have a := wr_S_le (f := fun i => wr_q (G i) x) n p hp
  have e : wr_q (G p) x = 1 := wr_q1 h
  have a2 : wr_q (G p) x ≤ wr_E x G n := a
  omega
theorem wr_E_two {x : Int32} {G : Nat → Int32} {n p q : Nat} (hp : p < n) (hq : q < n) (ne : p ≠ q) (h : G p = x) (h2 : G q = x) : 2 ≤ wr_E x G n := by
  have a := wr_S_two (f := fun i => wr_q (G i) x) n p q hp hq ne
  have e : wr_q (G p) x = 1 := wr_q1 h
  have e2 : wr_q (G q) x = 1 := wr_q1 h2
  have a2 : wr_q (G p) x + wr_q (G q) x ≤ wr_E x G n := a
  omega
theorem wr_E_0 {x : Int32} {G : Nat → Int32} {n : Nat} (h : ∀ p, p < n → G p ≠ x) : wr_E x G n = 0 := wr_S_zero n fun i hi => wr_q0 (h i hi)
theorem wr_E_1 {x : Int32} {G : Nat → Int32} {n p : Nat} (hp : p < n) (h : G p = x) (h2 : ∀ q, q < n → q ≠ p → G q ≠ x) : wr_E x G n = 1 := by
  have a := wr_S_ch (f := fun i => wr_q (G i) x) (g := fun i => if i = p then 0 else wr_q (G i) x) (p := p) (fun j hj => if_neg hj) n hp
  have z : wr_S (fun i => if i = p then 0 else wr_q (G i) x) n = 0 := wr_S_zero n fun i hi => by
    show (if i = p then 0 else wr_q (G i) x) = 0
    by_cases e : i = p
    · rw [if_pos e]
    · rw [if_neg e]; exact wr_q0 (h2 i hi e)
  have e1 : wr_q (G p) x = 1 := wr_q1 h
  have a2 : wr_S (fun i => if i = p then 0 else wr_q (G i) x) n + wr_q (G p) x = wr_E x G n + (if p = p then 0 else wr_q (G p) x) := a
  rw [if_pos rfl] at a2
  omega
/-- how many of n hold one of the first O numbers -/
theorem wr_E_sum {O : Nat} (hO : O ≤ 12) : ∀ (o : Nat), o < O → wr_S (fun i => wr_q (nI o) (nI i)) O = 1 := by
  intro o ho
  have a := wr_E_1 (x := nI o) (G := nI) (n := O) (p := o) ho rfl (fun q hq ne e => ne ((nI_eq (by omega) (by omega)).mp e))
  rw [← a]
  refine wr_S_ext O fun i hi => ?_
  show wr_q (nI o) (nI i) = wr_q (nI i) (nI o)
  by_cases e : i = o
  · rw [e]
  · rw [wr_q0 (fun z => e ((nI_eq (by omega) (by omega)).mp z).symm), wr_q0 (fun z => e ((nI_eq (by omega) (by omega)).mp z))]
theorem wr_load {O : Nat} {G : Nat → Int32} (hO : O ≤ 12) : ∀ n, (∀ p, p < n → G p ≠ -1 → ∃ o, o < O ∧ G p = nI o) → wr_S (fun i => wr_E (nI i) G n) O = wr_N (-1) G n
  | 0, _ => wr_S_zero O fun _ _ => rfl
  | n + 1, h => by
    have ih := wr_load (G := G) hO n fun p hp => h p (by omega)
    show wr_S (fun i => wr_E (nI i) G n + wr_q (G n) (nI i)) O = wr_N (-1) G n + wr_b (-1) (G n)
    rw [wr_S_add (f := fun i => wr_E (nI i) G n) (g := fun i => wr_q (G n) (nI i)), ih]
    by_cases e : G n = -1
    · rw [wr_b0 e, wr_S_zero O fun i hi => wr_q0 (by rw [e]; exact fun z => wr_nm (show i < 2 ^ 31 by omega) z.symm)]
    · obtain ⟨o, o1, o2⟩ := h n (by omega) e
      rw [wr_b1 e, o2, wr_E_sum hO o o1]
theorem wr_E_cut {x : Int32} {G he fi tg ca : Nat → Int32} (h : wr_YG G he fi tg ca) : wr_S (fun j => wr_q (he j) x + wr_q (fi j) x) 24 + wr_S (fun j => wr_q (tg j) x + wr_q (ca j) x) 48 = wr_E x G 144 := by
  obtain ⟨h1, h2⟩ := h
  have s1 := wr_S_split (f := fun i => wr_q (G i) x) 24 120
  have s2 := wr_S_split (f := fun i => wr_q (G (24 + i)) x) 24 96
  have s3 := wr_S_split (f := fun i => wr_q (G (24 + (24 + i))) x) 48 48
  have a1 : wr_S (fun j => wr_q (he j) x) 24 = wr_S (fun i => wr_q (G i) x) 24 := wr_S_ext 24 fun i hi => by show wr_q (he i) x = wr_q (G i) x; rw [(h1 i hi).1]
  have a2 : wr_S (fun j => wr_q (fi j) x) 24 = wr_S (fun i => wr_q (G (24 + i)) x) 24 := wr_S_ext 24 fun i hi => by show wr_q (fi i) x = wr_q (G (24 + i)) x; rw [(h1 i hi).2]
  have a3 : wr_S (fun j => wr_q (tg j) x) 48 = wr_S (fun i => wr_q (G (24 + (24 + i))) x) 48 := wr_S_ext 48 fun i hi => by
    show wr_q (tg i) x = wr_q (G (24 + (24 + i))) x
    rw [(h2 i hi).1, show 24 + (24 + i) = 48 + i by omega]
  have a4 : wr_S (fun j => wr_q (ca j) x) 48 = wr_S (fun i => wr_q (G (24 + (24 + (48 + i)))) x) 48 := wr_S_ext 48 fun i hi => by
    show wr_q (ca i) x = wr_q (G (24 + (24 + (48 + i)))) x
    rw [(h2 i hi).2, show 24 + (24 + (48 + i)) = 96 + i by omega]
  have t1 : wr_E x G 144 = wr_S (fun i => wr_q (G i) x) 24 + wr_S (fun i => wr_q (G (24 + i)) x) 120 := s1
  have t2 : wr_S (fun i => wr_q (G (24 + i)) x) 120 = wr_S (fun i => wr_q (G (24 + i)) x) 24 + wr_S (fun i => wr_q (G (24 + (24 + i))) x) 96 := s2
  have t3 : wr_S (fun i => wr_q (G (24 + (24 + i))) x) 96 = wr_S (fun i => wr_q (G (24 + (24 + i))) x) 48 + wr_S (fun i => wr_q (G (24 + (24 + (48 + i)))) x) 48 := s3
  rw [wr_S_add (f := fun j => wr_q (he j) x) (g := fun j => wr_q (fi j) x), wr_S_add (f := fun j => wr_q (tg j) x) (g := fun j => wr_q (ca j) x)]
  omega
theorem wr_YGh {G he fi tg ca : Nat → Int32} {j : Nat} {x : Int32} (h : wr_YG G he fi tg ca) (hj : j < 24) : wr_YG (upd G j x) (upd he j x) fi tg ca := by
  refine ⟨fun i hi => ⟨?_, ?_⟩, fun s hs => ⟨?_, ?_⟩⟩
  · by_cases e : i = j
    · rw [e, pk_us, pk_us]
    · rw [pk_un e, pk_un e]; exact (h.1 i hi).1
  · rw [pk_un (by omega)]; exact (h.1 i hi).2
  · rw [pk_un (by omega)]; exact (h.2 s hs).1
  · rw [pk_un (by omega)]; exact (h.2 s hs).2
theorem wr_YGf {G he fi tg ca : Nat → Int32} {j : Nat} {x : Int32} (h : wr_YG G he fi tg ca) (hj : j < 24) : wr_YG (upd G (24 + j) x) he (upd fi j x) tg ca := by
  refine ⟨fun i hi => ⟨?_, ?_⟩, fun s hs => ⟨?_, ?_⟩⟩
  · rw [pk_un (by omega)]; exact (h.1 i hi).1
  · by_cases e : i = j
    · rw [e, pk_us, pk_us]
    · rw [pk_un e, pk_un (by omega)]; exact (h.1 i hi).2
  · rw [pk_un (by omega)]; exact (h.2 s hs).1
  · rw [pk_un (by omega)]; exact (h.2 s hs).2
theorem wr_YGt {G he fi tg ca : Nat → Int32} {s : Nat} {x y : Int32} (h : wr_YG G he fi tg ca) (hs : s < 48) : wr_YG (upd (upd G (48 + s) x) (96 + s) y) he fi (upd tg s x) (upd ca s y) := by
  refine ⟨fun i hi => ⟨?_, ?_⟩, fun t ht => ⟨?_, ?_⟩⟩
  · rw [pk_un (by omega), pk_un (by omega)]; exact (h.1 i hi).1
  · rw [pk_un (by omega), pk_un (by omega)]; exact (h.1 i hi).2
  · rw [pk_un (show 48 + t ≠ 96 + s by omega)]
    by_cases e : t = s
    · rw [e, pk_us, pk_us]
    · rw [pk_un e, pk_un (by omega)]; exact (h.2 t ht).1
  · by_cases e : t = s
    · rw [e, pk_us, pk_us]
    · rw [pk_un e, pk_un (by omega), pk_un (by omega)]; exact (h.2 t ht).2
section
variable {N O : Nat} {G kd nd fd am hm vl : Nat → Int32} {rm : Nat → Nat}
theorem wr_yin {he fi tg ca : Nat → Int32} (h : wr_YG G he fi tg ca) : wr_RY N O G kd nd fd am hm vl rm (nI N, nI O, he, fi, hm, vl, (fun i => nI (rm i)), kd, tg, nd, fd, ca, am) := ⟨he, fi, tg, ca, rfl, h⟩
theorem wr_yel {P : SY → Prop} {v : SY} (hv : wr_RY N O G kd nd fd am hm vl rm v) (h : ∀ he fi tg ca : Nat → Int32, wr_YG G he fi tg ca → P (nI N, nI O, he, fi, hm, vl, (fun i => nI (rm i)), kd, tg, nd, fd, ca, am)) : P v := by
  obtain ⟨he, fi, tg, ca, rfl, hY⟩ := hv
  exact h _ _ _ _ hY
theorem wr_ycongr {v : SY} {G' : Nat → Int32} (hv : wr_RY N O G kd nd fd am hm vl rm v) (h : ∀ p, p < 144 → G p = G' p) : wr_RY N O G' kd nd fd am hm vl rm v := by
  obtain ⟨he, fi, tg, ca, e, h1, h2⟩ := hv
  refine ⟨he, fi, tg, ca, e, fun j hj => ⟨?_, ?_⟩, fun s hs => ⟨?_, ?_⟩⟩
  · rw [← h j (by omega)]; exact (h1 j hj).1
  · rw [← h (24 + j) (by omega)]; exact (h1 j hj).2
  · rw [← h (48 + s) (by omega)]; exact (h2 s hs).1
  · rw [← h (96 + s) (by omega)]; exact (h2 s hs).2
theorem wr_ynodT {post : Int32 → Prop} {v : SY} {x : Int32} (hv : wr_RY N O G kd nd fd am hm vl rm v) (hN : N ≤ 4) (h : wr_gd N x) (k : post 0) : wpY_badNode post v x := by
  refine wr_yel (P := fun v => wpY_badNode post v x) hv ?_
  intro he fi tg ca hY
  obtain ⟨n, hn, rfl⟩ := h
  exact br_f (nI_pos (by omega)) (br_t (nI_lt hn (by omega)) k)
theorem wr_ynodF {post : Int32 → Prop} {v : SY} {x : Int32} (hv : wr_RY N O G kd nd fd am hm vl rm v) (hN : N ≤ 4) (h : ¬ wr_gd N x) (k : post 1) : wpY_badNode post v x := by
  refine wr_yel (P := fun v => wpY_badNode post v x) hv ?_
  intro he fi tg ca hY
  rcases wr_ngd (by omega) h with a | ⟨a, c⟩
  · exact br_t a k
  · exact br_f a (br_f (fun z => Int32.lt_irrefl (Int32.lt_of_lt_of_le z c)) k)
theorem wr_yhanT {post : Int32 → Prop} {x : Int32} (h : wr_gd 6 x) (k : post 0) : ∀ v : SY, wpY_badHandle post v x := by
  refine wr_yall ?_
  intro c1 c2 c3 c4 c5 c6 c7 c8 c9 c10 c11 c12 c13
  obtain ⟨n, hn, rfl⟩ := h
  exact br_f (nI_pos (by omega)) (br_t (nI_lt (b := 6) hn (by decide)) k)
theorem wr_yhanF {post : Int32 → Prop} {x : Int32} (h : ¬ wr_gd 6 x) (k : post 1) : ∀ v : SY, wpY_badHandle post v x := by
  refine wr_yall ?_
  intro c1 c2 c3 c4 c5 c6 c7 c8 c9 c10 c11 c12 c13
  rcases wr_ngd (by omega) h with a | ⟨a, c⟩
  · exact br_t a k
  · exact br_f a (br_f (fun z => Int32.lt_irrefl (Int32.lt_of_lt_of_le z c)) k)
theorem wr_yfieT {post : Int32 → Prop} {x : Int32} (h : wr_gd 2 x) (k : post 0) : ∀ v : SY, wpY_badField post v x := by
  refine wr_yall ?_
  intro c1 c2 c3 c4 c5 c6 c7 c8 c9 c10 c11 c12 c13
  obtain ⟨n, hn, rfl⟩ := h
  exact br_f (nI_pos (by omega)) (br_t (nI_lt (b := 2) hn (by decide)) k)
theorem wr_yfieF {post : Int32 → Prop} {x : Int32} (h : ¬ wr_gd 2 x) (k : post 1) : ∀ v : SY, wpY_badField post v x := by
  refine wr_yall ?_
  intro c1 c2 c3 c4 c5 c6 c7 c8 c9 c10 c11 c12 c13
  rcases wr_ngd (by omega) h with a | ⟨a, c⟩
  · exact br_t a k
  · exact br_f a (br_f (fun z => Int32.lt_irrefl (Int32.lt_of_lt_of_le z c)) k)
theorem wr_yehL {post : Int32 → Prop} {n : Nat} {he fi tg ca : Nat → Int32} (hY : wr_YG G he fi tg ca) (hn : n < 4) {r : Nat} (hr : r ≤ 6) (hb : ∀ j, j < r → G (n * 6 + j) ≠ -1) (h0 : r < 6 → G (n * 6 + r) = -1) (k : post (if r < 6 then nI r else -1)) : ∀ d i, i + d = 6 → i ≤ r → wY_emptyHandle_2 post (nI n) (nI N) (nI O) he fi hm vl (fun i => nI (rm i)) kd tg nd fd ca am (d + 1) (nI i) := by
  intro d
  induction d with
  | zero =>
    intro i hi hle
    have e : r = 6 := by omega
    rw [e, if_neg (by omega)] at k
    have ei : i = 6 := by omega
    rw [ei]
    exact br_t (by decide) k
  | succ d ih =>
    intro i hi hle
    refine br_f (nI_ge (b := 6) (by omega) (by decide)) ?_
    rw [wr_hp]
    refine ⟨vp_in_nI (by omega) (by omega), ?_⟩
    rw [nI_clamp (show n * 6 + i < 2 ^ 31 by omega), (hY.1 (n * 6 + i) (by omega)).1]
    by_cases z : G (n * 6 + i) = -1
    · refine br_t z ?_
      have e : i = r := by
        by_cases e : i = r
        · exact e
        · exact absurd z (hb i (by omega))
      rw [e]
      rw [if_pos (by omega)] at k
      exact k
    · refine br_f z (nm_r (nI_1 i) (ih (i + 1) (by omega) ?_))
      by_cases e : i = r
      · rw [e] at z; exact absurd (h0 (by omega)) z
      · omega
theorem wr_yehN {post : Int32 → Prop} {v : SY} {n : Nat} (hv : wr_RY N O G kd nd fd am hm vl rm v) (hn : n < 4) (hb : ∀ j, j < 6 → G (n * 6 + j) ≠ -1) (k : post (-1)) : wpY_emptyHandle post v (nI n) := by
  refine wr_yel (P := fun v => wpY_emptyHandle post v (nI n)) hv ?_
  intro he fi tg ca hY
  unfold wpY_emptyHandle
  exact ⟨7, wr_yehL hY hn (r := 6) (by omega) hb (fun z => absurd z (by omega)) k 6 0 rfl (by omega)⟩
theorem wr_yehS {post : Int32 → Prop} {v : SY} {n h : Nat} (hv : wr_RY N O G kd nd fd am hm vl rm v) (hn : n < 4) (hh : h < 6) (h0 : G (n * 6 + h) = -1) (hb : ∀ j, j < h → G (n * 6 + j) ≠ -1) (k : post (nI h)) : wpY_emptyHandle post v (nI n) := by
  refine wr_yel (P := fun v => wpY_emptyHandle post v (nI n)) hv ?_
  intro he fi tg ca hY
  unfold wpY_emptyHandle
  exact ⟨7, wr_yehL hY hn (r := h) (by omega) hb (fun _ => h0) (by rw [if_pos hh]; exact k) 6 0 rfl (by omega)⟩
theorem wr_yl23 {post : Int32 → Prop} {J : Int32 → Int32 → Prop} {x : Int32} {m i : Nat} {he fi tg ca : Nat → Int32} (hi : i < 24) (k : J (nI (m + wr_q (fi i) x)) (nI (i + 1))) : wY_linksTo_23 post J x (nI m) (nI i) (nI N) (nI O) he fi hm vl (fun i => nI (rm i)) kd tg nd fd ca am := by
  unfold wY_linksTo_23
  refine ⟨vp_in_nI hi (by omega), ?_⟩
  rw [nI_clamp (show i < 2 ^ 31 by omega)]
  by_cases e : fi i = x
  · rw [wr_q1 e] at k
    exact br_t e (nm_r (nI_1 m) (nm_r (nI_1 i) k))
  · rw [wr_q0 e] at k
    exact br_f e (nm_r (nI_1 i) k)
theorem wr_yl63 {post : Int32 → Prop} {J : Int32 → Int32 → Prop} {x : Int32} {m i : Nat} {he fi tg ca : Nat → Int32} (hi : i < 48) (k : J (nI (m + wr_q (ca i) x)) (nI (i + 1))) : wY_linksTo_63 post J x (nI m) (nI i) (nI N) (nI O) he fi hm vl (fun i => nI (rm i)) kd tg nd fd ca am := by
  unfold wY_linksTo_63
  refine ⟨vp_in_nI hi (by omega), ?_⟩
  rw [nI_clamp (show i < 2 ^ 31 by omega)]
  by_cases e : ca i = x
  · rw [wr_q1 e] at k
    exact br_t e (nm_r (nI_1 m) (nm_r (nI_1 i) k))
  · rw [wr_q0 e] at k
    exact br_f e (nm_r (nI_1 i) k)
theorem wr_yl44 {post : Int32 → Prop} {x : Int32} {he fi tg ca : Nat → Int32} : ∀ d i m, i + d = 48 → post (nI (m + wr_S (fun j => wr_q (tg (i + j)) x + wr_q (ca (i + j)) x) d)) → wY_linksTo_44 post x (nI N) (nI O) he fi hm vl (fun i => nI (rm i)) kd tg nd fd ca am (d + 1) (nI m) (nI i) := by
  intro d
  induction d with
  | zero =>
    intro i m hi k
    have ei : i = 48 := by omega
    rw [ei]
    exact br_t (by decide) k
  | succ d ih =>
    intro i m hi k
    refine br_f (nI_ge (b := 48) (by omega) (by decide)) ⟨vp_in_nI (by omega) (by omega), ?_⟩
    rw [nI_clamp (show i < 2 ^ 31 by omega)]
    have s := wr_S_split (f := fun j => wr_q (tg (i + j)) x + wr_q (ca (i + j)) x) 1 d
    have s2 : wr_S (fun j => wr_q (tg (i + j)) x + wr_q (ca (i + j)) x) (d + 1) = 0 + (wr_q (tg i) x + wr_q (ca i) x) + wr_S (fun j => wr_q (tg (i + (1 + j))) x + wr_q (ca (i + (1 + j))) x) d := by
      rw [Nat.add_comm d 1]; exact s
    have s3 : wr_S (fun j => wr_q (tg (i + (1 + j))) x + wr_q (ca (i + (1 + j))) x) d = wr_S (fun j => wr_q (tg (i + 1 + j)) x + wr_q (ca (i + 1 + j)) x) d :=
      wr_S_ext d fun j _ => by show wr_q (tg (i + (1 + j))) x + wr_q (ca (i + (1 + j))) x = wr_q (tg (i + 1 + j)) x + wr_q (ca (i + 1 + j)) x; rw [Nat.add_assoc]
    rw [s2, s3] at k
    by_cases e : tg i = x
    · refine br_t e (nm_r (nI_1 m) (wr_yl63 (by omega) (ih (i + 1) _ (by omega) ?_)))
      rw [wr_q1 e] at k
      rw [show m + 1 + wr_q (ca i) x + wr_S (fun j => wr_q (tg (i + 1 + j)) x + wr_q (ca (i + 1 + j)) x) d = m + (0 + (1 + wr_q (ca i) x) + wr_S (fun j => wr_q (tg (i + 1 + j)) x + wr_q (ca (i + 1 + j)) x) d) by omega]
      exact k
    · refine br_f e (wr_yl63 (by omega) (ih (i + 1) _ (by omega) ?_))
      rw [wr_q0 e] at k
      rw [show m + wr_q (ca i) x + wr_S (fun j => wr_q (tg (i + 1 + j)) x + wr_q (ca (i + 1 + j)) x) d = m + (0 + (0 + wr_q (ca i) x) + wr_S (fun j => wr_q (tg (i + 1 + j)) x + wr_q (ca (i + 1 + j)) x) d) by omega]
      exact k
theorem wr_yl4 {post : Int32 → Prop} {x : Int32} {he fi tg ca : Nat → Int32} : ∀ d i m, i + d = 24 → (∃ n44 : Nat, wY_linksTo_44 post x (nI N) (nI O) he fi hm vl (fun i => nI (rm i)) kd tg nd fd ca am n44 (nI (m + wr_S (fun j => wr_q (he (i + j)) x + wr_q (fi (i + j)) x) d)) 0) → wY_linksTo_4 post x (nI N) (nI O) he fi hm vl (fun i => nI (rm i)) kd tg nd fd ca am (d + 1) (nI m) (nI i) := by
  intro d
  induction d with
  | zero =>
    intro i m hi k
    have ei : i = 24 := by omega
    rw [ei]
    exact br_t (by decide) k
  | succ d ih =>
    intro i m hi k
    refine br_f (nI_ge (b := 24) (by omega) (by decide)) ⟨vp_in_nI (by omega) (by omega), ?_⟩
    rw [nI_clamp (show i < 2 ^ 31 by omega)]
    have s := wr_S_split (f := fun j => wr_q (he (i + j)) x + wr_q (fi (i + j)) x) 1 d
    have s2 : wr_S (fun j => wr_q (he (i + j)) x + wr_q (fi (i + j)) x) (d + 1) = 0 + (wr_q (he i) x + wr_q (fi i) x) + wr_S (fun j => wr_q (he (i + (1 + j))) x + wr_q (fi (i + (1 + j))) x) d := by
      rw [Nat.add_comm d 1]; exact s
    have s3 : wr_S (fun j => wr_q (he (i + (1 + j))) x + wr_q (fi (i + (1 + j))) x) d = wr_S (fun j => wr_q (he (i + 1 + j)) x + wr_q (fi (i + 1 + j)) x) d :=
      wr_S_ext d fun j _ => by show wr_q (he (i + (1 + j))) x + wr_q (fi (i + (1 + j))) x = wr_q (he (i + 1 + j)) x + wr_q (fi (i + 1 + j)) x; rw [Nat.add_assoc]
    rw [s2, s3] at k
    by_cases e : he i = x
    · refine br_t e (nm_r (nI_1 m) (wr_yl23 (by omega) (ih (i + 1) _ (by omega) ?_)))
      rw [wr_q1 e] at k
      rw [show m + 1 + wr_q (fi i) x + wr_S (fun j => wr_q (he (i + 1 + j)) x + wr_q (fi (i + 1 + j)) x) d = m + (0 + (1 + wr_q (fi i) x) + wr_S (fun j => wr_q (he (i + 1 + j)) x + wr_q (fi (i + 1 + j)) x) d) by omega]
      exact k
    · refine br_f e (wr_yl23 (by omega) (ih (i + 1) _ (by omega) ?_))
      rw [wr_q0 e] at k
      rw [show m + wr_q (fi i) x + wr_S (fun j => wr_q (he (i + 1 + j)) x + wr_q (fi (i + 1 + j)) x) d = m + (0 + (0 + wr_q (fi i) x) + wr_S (fun j => wr_q (he (i + 1 + j)) x + wr_q (fi (i + 1 + j)) x) d) by omega]
      exact k
theorem wr_ylinks {post : Int32 → Prop} {v : SY} {x : Int32} (hv : wr_RY N O G kd nd fd am hm vl rm v) (k : post (nI (wr_E x G 144))) : wpY_linksTo post v x := by
  refine wr_yel (P := fun v => wpY_linksTo post v x) hv ?_
  intro he fi tg ca hY
  have c := wr_E_cut (x := x) hY
  unfold wpY_linksTo
  refine ⟨25, wr_yl4 24 0 0 rfl ⟨49, wr_yl44 48 0 _ rfl ?_⟩⟩
  have e1 : wr_S (fun j => wr_q (he (0 + j)) x + wr_q (fi (0 + j)) x) 24 = wr_S (fun j => wr_q (he j) x + wr_q (fi j) x) 24 := wr_S_ext 24 fun j _ => by
    show wr_q (he (0 + j)) x + wr_q (fi (0 + j)) x = wr_q (he j) x + wr_q (fi j) x; rw [Nat.zero_add]
  have e2 : wr_S (fun j => wr_q (tg (0 + j)) x + wr_q (ca (0 + j)) x) 48 = wr_S (fun j => wr_q (tg j) x + wr_q (ca j) x) 48 := wr_S_ext 48 fun j _ => by
    show wr_q (tg (0 + j)) x + wr_q (ca (0 + j)) x = wr_q (tg j) x + wr_q (ca j) x; rw [Nat.zero_add]
  rw [e1, e2, Nat.zero_add, c]
  exact k
end
end
section
/-! the reference's load, limits, slots -/
section
variable {N O : Nat} {G kd nd fd am hm vl : Nat → Int32} {rm : Nat → Nat}
theorem wr_yloL {post : Int32 → Prop} {he fi tg ca : Nat → Int32} (hY : wr_YG G he fi tg ca) (hO : O ≤ 12) (k : post (nI (wr_S (fun i => wr_E (nI i) G 144) O))) : ∀ d i, i + d = O → wY_load_4 post (nI N) (nI O) he fi hm vl (fun i => nI (rm i)) kd tg nd fd ca am (d + 1) (nI (wr_S (fun i => wr_E (nI i) G 144) i)) (nI i) := by
  intro d
  induction d with
  | zero =>
    intro i hi
    have ei : i = O := by omega
    rw [ei]
    exact br_t (Int32.le_refl _) k
  | succ d ih =>
    intro i hi
    refine br_f (nI_ge (by omega) (by omega)) (wr_ylinks (wr_yin hY) ?_)
    refine nm_r (e' := nI (wr_S (fun i => wr_E (nI i) G 144) (i + 1))) (by rw [nI_add]; rfl) (nm_r (nI_1 i) (ih (i + 1) (by omega)))
theorem wr_yload {post : Int32 → Prop} {v : SY} (hv : wr_RY N O G kd nd fd am hm vl rm v) (hO : O ≤ 12) (hg : ∀ p, p < 144 → G p ≠ -1 → ∃ o, o < O ∧ G p = nI o) (k : post (nI (wr_N (-1) G 144))) : wpY_load post v := by
  refine wr_yel (P := fun v => wpY_load post v) hv ?_
  intro he fi tg ca hY
  unfold wpY_load
  refine ⟨O + 1, wr_yloL hY hO ?_ O 0 (by omega)⟩
  rw [wr_load hO 144 hg]
  exact k
theorem wr_ylim {post : Int32 → Prop} {v : SY} {n m c : Nat} (hv : wr_RY N O G kd nd fd am hm vl rm v) (hO : O ≤ 12) (hg : ∀ p, p < 144 → G p ≠ -1 → ∃ o, o < O ∧ G p = nI o) (hr : rm n ≤ 60) (hn : n < 4) (hm2 : m ≤ 2) (hc : c ≤ 2)
    (k0 : 48 < wr_N (-1) G 144 + m → post (-8)) (k1 : wr_N (-1) G 144 + m ≤ 48 → rm n < c → post (-9)) (k2 : wr_N (-1) G 144 + m ≤ 48 → c ≤ rm n → post 0) : wpY_limits post v (nI n) (nI m) (nI c) := by
  refine wr_yel (P := fun v => wpY_limits post v (nI n) (nI m) (nI c)) hv ?_
  intro he fi tg ca hY
  have e1 : (nI n).toNatClampNeg = n := nI_clamp (by omega)
  have i1 : vp_in (nI n) 4 := vp_in_nI hn (by omega)
  have tb := wr_N_le (-1) G 144
  unfold wpY_limits
  refine wr_yload (wr_yin hY) hO hg ?_
  rw [nI_add]
  refine pk_le (wr_N (-1) G 144 + m) 48 (fun z => ⟨i1, ?_⟩) k0
  rw [e1]
  exact pk_le c (rm n) (k2 z) (k1 z)
theorem wr_yplL {post : Int32 → SY → Prop} {he fi tg ca : Nat → Int32} {x1 x2 x3 x4 x5 x6 : Int32} {s : Nat} (hs : s < 48) (h0 : kd s = 0) (hb : ∀ j, j < s → kd j ≠ 0)
    (k : post (nI s) (nI N, nI O, he, fi, hm, vl, (fun i => nI (rm i)), (upd kd s x1), (upd tg s x2), (upd nd s x3), (upd fd s x4), (upd ca s x5), (upd am s x6))) : ∀ d i, i + d = 48 → i ≤ s → wY_place_3 post x1 x2 x3 x4 x5 x6 (nI N) (nI O) he fi hm vl (fun i => nI (rm i)) kd tg nd fd ca am (d + 1) (nI i) := by
  intro d
  induction d with
  | zero => intro i hi hle; omega
  | succ d ih =>
    intro i hi hle
    have e1 : (nI i).toNatClampNeg = i := nI_clamp (by omega)
    have i1 : vp_in (nI i) 48 := vp_in_nI (by omega) (by omega)
    refine br_f (nI_ge (b := 48) (by omega) (by decide)) ⟨i1, ?_⟩
    rw [e1]
    by_cases e : kd i = 0
    · have ei : i = s := by
        by_cases z : i = s
        · exact z
        · exact absurd e (hb i (by omega))
      rw [ei] at e i1 ⊢
      exact br_t e ⟨i1, nm_e ⟨i1, nm_e ⟨i1, nm_e ⟨i1, nm_e ⟨i1, nm_e ⟨i1, nm_e k⟩⟩⟩⟩⟩⟩
    · refine br_f e (nm_r (nI_1 i) (ih (i + 1) (by omega) ?_))
      by_cases z : i = s
      · rw [z] at e; exact absurd h0 e
      · omega
theorem wr_yplace {post : Int32 → SY → Prop} {v : SY} {x1 x2 x3 x4 x5 x6 : Int32} {s : Nat} (hv : wr_RY N O G kd nd fd am hm vl rm v) (hs : s < 48) (h0 : kd s = 0) (hb : ∀ j, j < s → kd j ≠ 0)
    (k : ∀ v', wr_RY N O (upd (upd G (48 + s) x2) (96 + s) x5) (upd kd s x1) (upd nd s x3) (upd fd s x4) (upd am s x6) hm vl rm v' → post (nI s) v') : wpY_place post v x1 x2 x3 x4 x5 x6 := by
  refine wr_yel (P := fun v => wpY_place post v x1 x2 x3 x4 x5 x6) hv ?_
  intro he fi tg ca hY
  unfold wpY_place
  exact ⟨49, wr_yplL hs h0 hb (k _ (wr_yin (wr_YGt hY hs))) 48 0 rfl (by omega)⟩
theorem wr_yrel0 {post : SY → Prop} {v : SY} {o f : Nat} (hv : wr_RY N O G kd nd fd am hm vl rm v) (ho : o < 12) (hf : f < 2) (h0 : G (24 + o * 2 + f) = -1) (k : ∀ v', wr_RY N O G kd nd fd am hm vl rm v' → post v') : wpY_releaseField post v (nI o) (nI f) := by
  refine wr_yel (P := fun v => wpY_releaseField post v (nI o) (nI f)) hv ?_
  intro he fi tg ca hY
  have e1 : (nI (o * 2 + f)).toNatClampNeg = o * 2 + f := nI_clamp (by omega)
  unfold wpY_releaseField
  show vp_in (nI o * 2 + nI f) 24 ∧ _
  rw [wr_fp2]
  refine ⟨vp_in_nI (by omega) (by omega), nm_r (e' := -1) ?_ (br_t rfl (k _ (wr_yin hY)))⟩
  rw [e1, (hY.1 (o * 2 + f) (by omega)).2, ← Nat.add_assoc]
  exact h0
theorem wr_yrel1 {post : SY → Prop} {v : SY} {o f s : Nat} (hv : wr_RY N O G kd nd fd am hm vl rm v) (ho : o < 12) (hf : f < 2) (h0 : G (24 + o * 2 + f) ≠ -1) (hs : s < 48) (hs0 : kd s = 0) (hb : ∀ j, j < s → kd j ≠ 0)
    (k : ∀ v', wr_RY N O (upd (upd (upd G (24 + o * 2 + f) (-1)) (48 + s) (G (24 + o * 2 + f))) (96 + s) (-1)) (upd kd s 1) (upd nd s (-1)) (upd fd s (-1)) (upd am s 0) hm vl rm v' → post v') : wpY_releaseField post v (nI o) (nI f) := by
  refine wr_yel (P := fun v => wpY_releaseField post v (nI o) (nI f)) hv ?_
  intro he fi tg ca hY
  have e1 : (nI (o * 2 + f)).toNatClampNeg = o * 2 + f := nI_clamp (by omega)
  have eg : fi (o * 2 + f) = G (24 + o * 2 + f) := by rw [(hY.1 (o * 2 + f) (by omega)).2, ← Nat.add_assoc]
  have i1 : vp_in (nI (o * 2 + f)) 24 := vp_in_nI (by omega) (by omega)
  have hY2 := wr_YGf (j := o * 2 + f) (x := -1) hY (by omega)
  rw [← Nat.add_assoc] at hY2
  unfold wpY_releaseField
  show vp_in (nI o * 2 + nI f) 24 ∧ _
  rw [wr_fp2]
  refine ⟨i1, nm_r (e' := G (24 + o * 2 + f)) (by rw [e1]; exact eg) (br_f h0 ⟨i1, nm_r (e' := upd fi (o * 2 + f) (-1)) (by rw [e1]) ?_⟩)⟩
  refine wr_yplace (wr_yin hY2) hs hs0 hb (wr_yall ?_)
  intro c1 c2 c3 c4 c5 c6 c7 c8 c9 c10 c11 c12 c13 h2
  exact k _ h2
end
/-! the two hands -/
def wr_hd (G : Nat → Int32) (x y : Int32) : Nat → Int32 := fun p => if p = 144 then x else if p = 145 then y else G p
section
variable {G : Nat → Int32} {x y : Int32} {p : Nat}
theorem wr_hd1 : wr_hd G x y 144 = x := if_pos rfl
theorem wr_hd2 : wr_hd G x y 145 = y := by
  show (if 145 = 144 then x else if 145 = 145 then y else G 145) = y
  rw [if_neg (by decide), if_pos rfl]
theorem wr_hdn (h : p < 144) : wr_hd G x y p = G p := by
  show (if p = 144 then x else if p = 145 then y else G p) = G p
  rw [if_neg (by omega), if_neg (by omega)]
theorem wr_hdu {v : Int32} (h : p < 144) : upd (wr_hd G x y) p v = wr_hd (upd G p v) x y := by
  funext q
  by_cases e : q = p
  · rw [e, pk_us, wr_hdn h, pk_us]
  · rw [pk_un e]
    by_cases e1 : q = 144
    · rw [e1, wr_hd1, wr_hd1]
    · by_cases e2 : q = 145
      · rw [e2, wr_hd2, wr_hd2]
      · show (if q = 144 then x else if q = 145 then y else G q) = (if q = 144 then x else if q = 145 then y else upd G p v q)
        rw [if_neg e1, if_neg e2, if_neg e1, if_neg e2, pk_un e]
theorem wr_hdx {v : Int32} : upd (wr_hd G x y) 144 v = wr_hd G v y := by
  funext q
  by_cases e : q = 144
  · rw [e, pk_us, wr_hd1]
  · rw [pk_un e]
    show (if q = 144 then x else if q = 145 then y else G q) = (if q = 144 then v else if q = 145 then y else G q)
    rw [if_neg e, if_neg e]
theorem wr_hdy {v : Int32} : upd (wr_hd G x y) 145 v = wr_hd G x v := by
  funext q
  by_cases e : q = 145
  · rw [e, pk_us, wr_hd2]
  · rw [pk_un e]
    show (if q = 144 then x else if q = 145 then y else G q) = (if q = 144 then x else if q = 145 then v else G q)
    rw [if_neg e, if_neg e]
theorem wr_hdN : wr_N (-1) (wr_hd G x y) 146 = wr_N (-1) G 144 + wr_b (-1) x + wr_b (-1) y := by
  have e : wr_N (-1) (wr_hd G x y) 144 = wr_N (-1) G 144 := wr_N_ext fun i hi => wr_hdn hi
  have s : wr_N (-1) (wr_hd G x y) 146 = wr_N (-1) (wr_hd G x y) 144 + wr_b (-1) (wr_hd G x y 144) + wr_b (-1) (wr_hd G x y 145) := rfl
  rw [s, e, wr_hd1, wr_hd2]
end
end
section
/-! the component's reads and single writes; a field's release -/
section
variable {N O b : Nat} {G kd nd fd am hm vl ds : Nat → Int32} {rm : Nat → Nat}
theorem wr_rcongr {u : SX} {G' : Nat → Int32} (hu : wr_RX N O G kd nd fd am hm vl ds rm b u) (h : ∀ p, p < 146 → G p = G' p) : wr_RX N O G' kd nd fd am hm vl ds rm b u := by
  obtain ⟨W, sp, lv, mf, tl, lc, lw, cw, co, cn, sc, an, vs, it, mn, mg, ma, ob, rk, e, ⟨g1, g2, g3, g4, g5⟩, hL, hG, hH, hM⟩ := hu
  refine ⟨W, sp, lv, mf, tl, lc, lw, cw, co, cn, sc, an, vs, it, mn, mg, ma, ob, rk, e, ⟨g1, g2, ?_, g4, g5⟩, hL, ?_, hH, hM⟩
  · rw [g3]; exact wr_N_ext h
  · intro p hp
    rw [← h p hp]
    exact hG p hp
theorem wr_rd {c1 c2 c3 c4 c5 c6 c7 c8 c9 c10 c11 c12 c13 c14 c15 c16 c17 c18 c19 c20 c21} (hu : wr_RX N O G kd nd fd am hm vl ds rm b (c1, c2, c3, c4, c5, c6, c7, c8, c9, c10, c11, c12, c13, c14, c15, c16, c17, c18, c19, c20, c21)) : c1 = nI N ∧ c2 = nI O ∧ c5 = nI (wr_N (-1) hm O) ∧ c6 = nI (wr_N 0 kd 48) ∧ c7 = nI (wr_N (-1) G 146) ∧ c17 = kd ∧ c21 = (fun i => nI (rm i)) ∧ wr_MX kd nd fd am c18 c19 c20 ∧ wr_HX hm vl ds c14 c12 c15 c16 ∧ (∀ o, o < 12 → c14 o ≠ -1 → ∃ a, a < 252 ∧ c14 o = nI a) ∧ N ≤ 4 ∧ O ≤ 12 ∧ (∀ n, n < 4 → rm n ≤ 60) := by
  refine wr_el (P := fun u => u.1 = nI N ∧ u.2.1 = nI O ∧ u.2.2.2.2.1 = nI (wr_N (-1) hm O) ∧ u.2.2.2.2.2.1 = nI (wr_N 0 kd 48) ∧ u.2.2.2.2.2.2.1 = nI (wr_N (-1) G 146) ∧ u.2.2.2.2.2.2.2.2.2.2.2.2.2.2.2.2.1 = kd ∧ u.2.2.2.2.2.2.2.2.2.2.2.2.2.2.2.2.2.2.2.2 = (fun i => nI (rm i)) ∧ wr_MX kd nd fd am u.2.2.2.2.2.2.2.2.2.2.2.2.2.2.2.2.2.1 u.2.2.2.2.2.2.2.2.2.2.2.2.2.2.2.2.2.2.1 u.2.2.2.2.2.2.2.2.2.2.2.2.2.2.2.2.2.2.2.1 ∧ wr_HX hm vl ds u.2.2.2.2.2.2.2.2.2.2.2.2.2.1 u.2.2.2.2.2.2.2.2.2.2.2.1 u.2.2.2.2.2.2.2.2.2.2.2.2.2.2.1 u.2.2.2.2.2.2.2.2.2.2.2.2.2.2.2.1 ∧ (∀ o, o < 12 → u.2.2.2.2.2.2.2.2.2.2.2.2.2.1 o ≠ -1 → ∃ a, a < 252 ∧ u.2.2.2.2.2.2.2.2.2.2.2.2.2.1 o = nI a) ∧ N ≤ 4 ∧ O ≤ 12 ∧ (∀ n, n < 4 → rm n ≤ 60)) hu ?_
  intro W sp lv mf tl lc lw cw co cn sc an vs it mn mg ma ob rk hF
  obtain ⟨⟨g1, g2, g3, g4, g5⟩, hL, hG, hH, hM⟩ := hF
  refine ⟨rfl, rfl, by rw [← g5], by rw [← g4], by rw [← g3], rfl, rfl, hM, hH, fun o ho z => ?_, g1, hL.1.2.2.1, g2⟩
  obtain ⟨u1, a, u2, u3, _⟩ := hL.2.2.2.2.2.2.1 o ho z
  exact ⟨a, u2, u3⟩
theorem wr_wrm {c1 c2 c3 c4 c5 c6 c7 c8 c9 c10 c11 c12 c13 c14 c15 c16 c17 c18 c19 c20 c21} {n x : Nat} (hu : wr_RX N O G kd nd fd am hm vl ds rm b (c1, c2, c3, c4, c5, c6, c7, c8, c9, c10, c11, c12, c13, c14, c15, c16, c17, c18, c19, c20, c21)) (hx : x ≤ 60) : wr_RX N O G kd nd fd am hm vl ds (wr_un rm n x) b (c1, c2, c3, c4, c5, c6, c7, c8, c9, c10, c11, c12, c13, c14, c15, c16, c17, c18, c19, c20, (fun i => nI (wr_un rm n x i))) := by
  refine wr_el (P := fun u => wr_RX N O G kd nd fd am hm vl ds (wr_un rm n x) b (u.1, u.2.1, u.2.2.1, u.2.2.2.1, u.2.2.2.2.1, u.2.2.2.2.2.1, u.2.2.2.2.2.2.1, u.2.2.2.2.2.2.2.1, u.2.2.2.2.2.2.2.2.1, u.2.2.2.2.2.2.2.2.2.1, u.2.2.2.2.2.2.2.2.2.2.1, u.2.2.2.2.2.2.2.2.2.2.2.1, u.2.2.2.2.2.2.2.2.2.2.2.2.1, u.2.2.2.2.2.2.2.2.2.2.2.2.2.1, u.2.2.2.2.2.2.2.2.2.2.2.2.2.2.1, u.2.2.2.2.2.2.2.2.2.2.2.2.2.2.2.1, u.2.2.2.2.2.2.2.2.2.2.2.2.2.2.2.2.1, u.2.2.2.2.2.2.2.2.2.2.2.2.2.2.2.2.2.1, u.2.2.2.2.2.2.2.2.2.2.2.2.2.2.2.2.2.2.1, u.2.2.2.2.2.2.2.2.2.2.2.2.2.2.2.2.2.2.2.1, (fun i => nI (wr_un rm n x i)))) hu ?_
  intro W sp lv mf tl lc lw cw co cn sc an vs it mn mg ma ob rk hF
  obtain ⟨⟨g1, g2, g3, g4, g5⟩, hL, hG, hH, hM⟩ := hF
  refine wr_in ob rk ⟨⟨g1, fun j hj => ?_, g3, g4, g5⟩, hL, hG, hH, hM⟩
  by_cases e : j = n
  · rw [e, wr_us]; exact hx
  · rw [wr_ue e]; exact g2 j hj
theorem wr_wvs {c1 c2 c3 c4 c5 c6 c7 c8 c9 c10 c11 c12 c13 c14 c15 c16 c17 c18 c19 c20 c21} {o : Nat} {x : Int32} (hu : wr_RX N O G kd nd fd am hm vl ds rm b (c1, c2, c3, c4, c5, c6, c7, c8, c9, c10, c11, c12, c13, c14, c15, c16, c17, c18, c19, c20, c21)) : wr_RX N O G kd nd fd am hm (upd vl o x) ds rm b (c1, c2, c3, c4, c5, c6, c7, c8, c9, c10, c11, c12, c13, c14, upd c15 o x, c16, c17, c18, c19, c20, c21) := by
  refine wr_el (P := fun u => wr_RX N O G kd nd fd am hm (upd vl o x) ds rm b (u.1, u.2.1, u.2.2.1, u.2.2.2.1, u.2.2.2.2.1, u.2.2.2.2.2.1, u.2.2.2.2.2.2.1, u.2.2.2.2.2.2.2.1, u.2.2.2.2.2.2.2.2.1, u.2.2.2.2.2.2.2.2.2.1, u.2.2.2.2.2.2.2.2.2.2.1, u.2.2.2.2.2.2.2.2.2.2.2.1, u.2.2.2.2.2.2.2.2.2.2.2.2.1, u.2.2.2.2.2.2.2.2.2.2.2.2.2.1, upd u.2.2.2.2.2.2.2.2.2.2.2.2.2.2.1 o x, u.2.2.2.2.2.2.2.2.2.2.2.2.2.2.2.1, u.2.2.2.2.2.2.2.2.2.2.2.2.2.2.2.2.1, u.2.2.2.2.2.2.2.2.2.2.2.2.2.2.2.2.2.1, u.2.2.2.2.2.2.2.2.2.2.2.2.2.2.2.2.2.2.1, u.2.2.2.2.2.2.2.2.2.2.2.2.2.2.2.2.2.2.2.1, u.2.2.2.2.2.2.2.2.2.2.2.2.2.2.2.2.2.2.2.2)) hu ?_
  intro W sp lv mf tl lc lw cw co cn sc an vs it mn mg ma ob rk hF
  obtain ⟨g0, hL, hG, hH, hM⟩ := hF
  refine wr_in ob rk ⟨g0, hL, hG, fun r hr => ?_, hM⟩
  obtain ⟨x1, x2, x3⟩ := hH r hr
  refine ⟨x1, fun z => ⟨(x2 z).1, ?_⟩, x3⟩
  by_cases e : r = o
  · rw [e, pk_us, pk_us]
  · rw [pk_un e, pk_un e]; exact (x2 z).2
theorem wr_wit {c1 c2 c3 c4 c5 c6 c7 c8 c9 c10 c11 c12 c13 c14 c15 c16 c17 c18 c19 c20 c21} {o : Nat} (hu : wr_RX N O G kd nd fd am hm vl ds rm b (c1, c2, c3, c4, c5, c6, c7, c8, c9, c10, c11, c12, c13, c14, c15, c16, c17, c18, c19, c20, c21)) (ho : o < O) (h1 : hm o ≠ -1) (h2 : ds o ≠ -1) (h3 : ds o ≠ -10) : wr_RX N O G kd nd fd am (upd hm o (ds o)) vl ds rm b (c1, c2, c3, c4, c5, c6, c7, c8, c9, c10, c11, c12, c13, c14, c15, upd c16 o 0, c17, c18, c19, c20, c21) := by
  refine wr_el (P := fun u => wr_RX N O G kd nd fd am (upd hm o (ds o)) vl ds rm b (u.1, u.2.1, u.2.2.1, u.2.2.2.1, u.2.2.2.2.1, u.2.2.2.2.2.1, u.2.2.2.2.2.2.1, u.2.2.2.2.2.2.2.1, u.2.2.2.2.2.2.2.2.1, u.2.2.2.2.2.2.2.2.2.1, u.2.2.2.2.2.2.2.2.2.2.1, u.2.2.2.2.2.2.2.2.2.2.2.1, u.2.2.2.2.2.2.2.2.2.2.2.2.1, u.2.2.2.2.2.2.2.2.2.2.2.2.2.1, u.2.2.2.2.2.2.2.2.2.2.2.2.2.2.1, upd u.2.2.2.2.2.2.2.2.2.2.2.2.2.2.2.1 o 0, u.2.2.2.2.2.2.2.2.2.2.2.2.2.2.2.2.1, u.2.2.2.2.2.2.2.2.2.2.2.2.2.2.2.2.2.1, u.2.2.2.2.2.2.2.2.2.2.2.2.2.2.2.2.2.2.1, u.2.2.2.2.2.2.2.2.2.2.2.2.2.2.2.2.2.2.2.1, u.2.2.2.2.2.2.2.2.2.2.2.2.2.2.2.2.2.2.2.2)) hu ?_
  intro W sp lv mf tl lc lw cw co cn sc an vs it mn mg ma ob rk hF
  obtain ⟨⟨g1, g2, g3, g4, g5⟩, hL, hG, hH, hM⟩ := hF
  refine wr_in ob rk ⟨⟨g1, g2, g3, g4, ?_⟩, hL, hG, fun r hr => ?_, hM⟩
  · have a := wr_N_upd (y := -1) (x := ds o) (f := hm) (n := O) ho
    rw [wr_b1 h1, wr_b1 h2] at a
    omega
  · obtain ⟨x1, x2, x3⟩ := hH r hr
    by_cases e : r = o
    · rw [e] at x1 x2 ⊢
      rw [pk_us, pk_us]
      exact ⟨⟨fun z => absurd (x1.mp z) h1, fun z => absurd z h2⟩, x2, fun _ => ⟨fun _ => h3, fun _ => rfl⟩⟩
    · rw [pk_un e, pk_un e]
      exact ⟨x1, x2, x3⟩
theorem wr_rwle {u : SX} {p : Nat} {A B : Prop} (hu : wr_RX N O G kd nd fd am hm vl ds rm b u) (hp : p < 146) (h0 : G p = -1 → A) (h1 : G p ≠ -1 → B) : ((u.2.2.2.2.2.2.2.2.1 (nI p).toNatClampNeg ≤ 0 → A) ∧ (¬ u.2.2.2.2.2.2.2.2.1 (nI p).toNatClampNeg ≤ 0 → B)) := by
  refine wr_el (P := fun u => ((u.2.2.2.2.2.2.2.2.1 (nI p).toNatClampNeg ≤ 0 → A) ∧ (¬ u.2.2.2.2.2.2.2.2.1 (nI p).toNatClampNeg ≤ 0 → B))) hu ?_
  intro W sp lv mf tl lc lw cw co cn sc an vs it mn mg ma ob rk hF
  obtain ⟨h0', hL, hG, hH, hM⟩ := hF
  show (nI (lw (nI p).toNatClampNeg) ≤ 0 → A) ∧ (¬ nI (lw (nI p).toNatClampNeg) ≤ 0 → B)
  rw [nI_clamp (show p < 2 ^ 31 by omega)]
  have w := wr_lw64 hL (show p < 398 by omega)
  by_cases e : lw p = 0
  · exact br_t (by rw [e]; exact Int32.le_refl _) (h0 (wr_glz hG hp e))
  · exact br_f (nI_nle (by omega) (by omega)) (h1 ((wr_gln hL hG hp).mpr (by omega)))
theorem wr_rpm {post : Int32 → SX → Prop} {u : SX} {s p : Nat} {p0 p1 n' f' a' : Int32} (hu : wr_RX N O G kd nd fd am hm vl ds rm b u) (hs : s < 48) (h0 : kd s = 0) (hb : ∀ j, j < s → kd j ≠ 0) (hk : p0 ≠ 0) (hg : G (48 + s) = -1) (hp : p < 146) (hps : p ≠ 48 + s)
    (hn : p0 = 2 ∨ p0 = 5 ∨ p0 = 7 → p1 = n') (hf : p0 = 3 ∨ p0 = 4 ∨ p0 = 5 → (0 : Int32) = f') (ha : p0 = 6 → (0 : Int32) = a')
    (k : ∀ u', wr_RX N O (upd (upd G (48 + s) (G p)) p (-1)) (upd kd s p0) (upd nd s n') (upd fd s f') (upd am s a') hm vl ds rm b u' → post (nI s) u') : wpX_postMoved post u p0 p1 (nI p) := by
  revert hu
  refine wr_all (P := fun u => wr_RX N O G kd nd fd am hm vl ds rm b u → wpX_postMoved post u p0 p1 (nI p)) ?_ u
  intro c1 c2 c3 c4 c5 c6 c7 c8 c9 c10 c11 c12 c13 c14 c15 c16 c17 c18 c19 c20 c21 hu
  unfold wpX_postMoved
  refine wr_rpost hu hs h0 hb hk hn hf ha (wr_all ?_)
  intro d1 d2 d3 d4 d5 d6 d7 d8 d9 d10 d11 d12 d13 d14 d15 d16 d17 d18 d19 d20 d21 h2
  unfold wpX_targetPlace
  show wpX_moveLink _ _ (nI p) (48 + nI s)
  rw [wr_tp]
  refine wr_rmove h2 hp (by omega) hps hg (wr_all ?_)
  intro e1 e2 e3 e4 e5 e6 e7 e8 e9 e10 e11 e12 e13 e14 e15 e16 e17 e18 e19 e20 e21 h3
  exact k _ h3
theorem wr_relO {z : Nat} (h : wr_IV N O z G kd nd fd hm ds) {o f : Nat} (ho : o < 12) (hf : f < 2) :
    ∃ G' kd' nd' fd' am' : Nat → Int32, wr_IV N O z G' kd' nd' fd' hm ds ∧ G' (24 + o * 2 + f) = -1 ∧ (∀ p, p < 48 → p ≠ 24 + o * 2 + f → G' p = G p) ∧ wr_N (-1) G' 144 = wr_N (-1) G 144 ∧
      (∀ (x y : Int32) (vl : Nat → Int32) (rm : Nat → Nat) (b : Nat) (u : SX) (post : SX → Prop), wr_RX N O (wr_hd G x y) kd nd fd am hm vl ds rm b u → (∀ u', wr_RX N O (wr_hd G' x y) kd' nd' fd' am' hm vl ds rm b u' → post u') → wpX_releaseField post u (nI o) (nI f)) ∧
      (∀ (vl : Nat → Int32) (rm : Nat → Nat) (v : SY) (post : SY → Prop), wr_RY N O G kd nd fd am hm vl rm v → (∀ v', wr_RY N O G' kd' nd' fd' am' hm vl rm v' → post v') → wpY_releaseField post v (nI o) (nI f)) := by
  by_cases e : G (24 + o * 2 + f) = -1
  · refine ⟨G, kd, nd, fd, am, h, e, fun _ _ _ => rfl, rfl, ?_, ?_⟩
    · intro x y vl rm b u post hu k
      revert hu
      refine wr_all (P := fun u => wr_RX N O (wr_hd G x y) kd nd fd am hm vl ds rm b u → wpX_releaseField post u (nI o) (nI f)) ?_ u
      intro c1 c2 c3 c4 c5 c6 c7 c8 c9 c10 c11 c12 c13 c14 c15 c16 c17 c18 c19 c20 c21 hu
      unfold wpX_releaseField wpX_fieldPlace
      show vp_in (24 + nI o * 2 + nI f) 398 ∧ _
      rw [wr_fp]
      exact ⟨vp_in_nI (by omega) (by omega), wr_rwle hu (by omega) (fun _ => k _ hu) (fun q => absurd (by rw [wr_hdn (by omega)]; exact e) q)⟩
    · intro vl rm v post hv k
      exact wr_yrel0 hv ho hf e k
  · obtain ⟨s, s1, s2, s3⟩ := wr_slot h (Or.inr ⟨24 + o * 2 + f, by omega, e⟩)
    obtain ⟨q, q1, q2, q3⟩ := h.2.1 (24 + o * 2 + f) (by omega) e
    have O12 := h.1.2.2.2.1
    have gt : G (48 + s) = -1 := (h.2.2.2.1 s s1).1.mp s2
    have gc : G (96 + s) = -1 := by
      by_cases y : G (96 + s) = -1
      · exact y
      · have := (h.2.2.2.1 s s1).2.mpr y
        rw [s2] at this
        exact absurd this (by decide)
    have i1 := wr_iclr h (p := 24 + o * 2 + f) (by omega)
    have cn := wr_N_upd (y := -1) (x := -1) (f := G) (n := 144) (q := 24 + o * 2 + f) (by omega)
    rw [wr_b0 rfl, wr_b1 e] at cn
    have c48 := h.1.2.2.2.2
    have i2 := wr_ipost i1 (k := 1) (c := -1) (n := -1) (f := -1) s1 s2 (by decide) q1 q3 (fun y => absurd rfl y) ⟨fun y => absurd y (by decide), fun y => absurd rfl y⟩ (by rw [wr_b0 rfl]; omega) (fun y => by rcases y with y | y | y <;> exact absurd y (by decide)) (fun y => by rcases y with y | y | y <;> exact absurd y (by decide)) (fun y => absurd y (by decide))
    rw [← q2] at i2
    refine ⟨_, _, _, _, upd am s 0, i2, ?_, ?_, ?_, ?_, ?_⟩
    · rw [pk_un (by omega), pk_un (by omega), pk_us]
    · intro p hp hn
      rw [pk_un (by omega), pk_un (by omega), pk_un hn]
    · have c2 := wr_N_upd (y := -1) (x := G (24 + o * 2 + f)) (f := upd G (24 + o * 2 + f) (-1)) (n := 144) (q := 48 + s) (by omega)
      have c3 := wr_N_upd (y := -1) (x := -1) (f := upd (upd G (24 + o * 2 + f) (-1)) (48 + s) (G (24 + o * 2 + f))) (n := 144) (q := 96 + s) (by omega)
      rw [pk_un (show 48 + s ≠ 24 + o * 2 + f by omega), gt, wr_b0 rfl, wr_b1 e] at c2
      rw [pk_un (show 96 + s ≠ 48 + s by omega), pk_un (show 96 + s ≠ 24 + o * 2 + f by omega), gc, wr_b0 rfl] at c3
      omega
    · intro x y vl rm b u post hu k
      revert hu
      refine wr_all (P := fun u => wr_RX N O (wr_hd G x y) kd nd fd am hm vl ds rm b u → wpX_releaseField post u (nI o) (nI f)) ?_ u
      intro c1 c2 c3 c4 c5 c6 c7 c8 c9 c10 c11 c12 c13 c14 c15 c16 c17 c18 c19 c20 c21 hu
      unfold wpX_releaseField wpX_fieldPlace
      show vp_in (24 + nI o * 2 + nI f) 398 ∧ _
      rw [wr_fp]
      refine ⟨vp_in_nI (by omega) (by omega), wr_rwle hu (by omega) (fun q => absurd (by rw [wr_hdn (by omega)] at q; exact q) e) (fun _ => ?_)⟩
      refine wr_rpm (n' := -1) (f' := -1) (a' := 0) hu s1 s2 s3 (by decide) (by rw [wr_hdn (by omega)]; exact gt) (by omega) (by omega) (fun y => by rcases y with y | y | y <;> exact absurd y (by decide)) (fun y => by rcases y with y | y | y <;> exact absurd y (by decide)) (fun y => absurd y (by decide)) (wr_all ?_)
      intro d1 d2 d3 d4 d5 d6 d7 d8 d9 d10 d11 d12 d13 d14 d15 d16 d17 d18 d19 d20 d21 h2
      refine k _ (wr_rcongr h2 ?_)
      intro p hp
      rw [wr_hdn (by omega), wr_hdu (by omega), wr_hdu (by omega)]
      have ee : upd (upd G (48 + s) (G (24 + o * 2 + f))) (24 + o * 2 + f) (-1) = upd (upd (upd G (24 + o * 2 + f) (-1)) (48 + s) (G (24 + o * 2 + f))) (96 + s) (-1) := by
        funext r
        by_cases r1 : r = 96 + s
        · rw [r1, pk_us, pk_un (by omega), pk_un (by omega)]; exact gc
        · rw [pk_un r1]
          by_cases r2 : r = 48 + s
          · rw [r2, pk_us, pk_un (by omega), pk_us]
          · rw [pk_un r2]
            by_cases r3 : r = 24 + o * 2 + f
            · rw [r3, pk_us, pk_us]
            · rw [pk_un r3, pk_un r3, pk_un r2]
      rw [ee]
    · intro vl rm v post hv k
      exact wr_yrel1 hv ho hf e s1 s2 s3 k
end
end
section
/-! the end of a delivery -/
def wr_4 (rm : Nat → Nat) : Nat := rm 0 + rm 1 + rm 2 + rm 3
theorem wr_4u {rm : Nat → Nat} {n : Nat} (hn : n < 4) (h : 1 ≤ rm n) : wr_4 (wr_un rm n (rm n - 1)) = wr_4 rm - 1 ∧ 1 ≤ wr_4 rm := by
  have c : n = 0 ∨ n = 1 ∨ n = 2 ∨ n = 3 := by omega
  unfold wr_4
  rcases c with rfl | rfl | rfl | rfl <;> simp [wr_un] <;> omega
theorem wr_4b {rm : Nat → Nat} {n : Nat} {x : Nat} (h : ∀ n, n < 4 → rm n ≤ 60) (hx : x ≤ 60) : ∀ j, j < 4 → wr_un rm n x j ≤ 60 := by
  intro j hj
  by_cases e : j = n
  · rw [e, wr_us]; exact hx
  · rw [wr_ue e]; exact h j hj
section
variable {N O b : Nat} {G kd nd fd am hm vl ds : Nat → Int32} {rm : Nat → Nat}
theorem wr_yk {P : SY → Prop} (h : ∀ he fi tg ca : Nat → Int32, wr_YG G he fi tg ca → P (nI N, nI O, he, fi, hm, vl, (fun i => nI (rm i)), kd, tg, nd, fd, ca, am)) : ∀ v', wr_RY N O G kd nd fd am hm vl rm v' → P v' := fun _ hv => wr_yel hv h
theorem wr_fin (h : wr_IV N O 12 G kd nd fd hm ds) {o : Nat} (ho : o < O) (hl : hm o ≠ -1) :
    ∃ (G' kd' nd' fd' am' hm' : Nat → Int32) (r : Int32), wr_IV N O 12 G' kd' nd' fd' hm' ds ∧
      (∀ (vl : Nat → Int32) (rm : Nat → Nat) (b : Nat) (u : SX) (post : Int32 → SX → Prop), wr_RX N O (wr_hd G (nI o) (-1)) kd nd fd am hm vl ds rm b u → (∀ u', wr_RX N O (wr_hd G' (-1) (-1)) kd' nd' fd' am' hm' vl ds rm b u' → post r u') → wpX_endLink post u 144) ∧
      (∀ (vl : Nat → Int32) (rm : Nat → Nat) (he fi tg ca : Nat → Int32) (post : Int32 → SY → Prop), wr_YG G he fi tg ca → (∀ v', wr_RY N O G' kd' nd' fd' am' hm' vl rm v' → post r v') → wY_deliver_296 post (nI o) (nI N) (nI O) he fi hm vl (fun i => nI (rm i)) kd tg nd fd ca am) := by
  have O12 := h.1.2.2.2.1
  by_cases e : ∃ p, p < 144 ∧ G p = nI o
  · refine ⟨G, kd, nd, fd, am, hm, 0, h, ?_, ?_⟩
    · intro vl rm b u post hu k
      obtain ⟨p, p1, p2⟩ := e
      refine wr_rendD (p := 144) (o := o) hu (by omega) (by omega) wr_hd1 ⟨p, by omega, by omega, by rw [wr_hdn p1]; exact p2⟩ ?_
      rw [wr_hdx]
      exact k
    · intro vl rm he fi tg ca post hY k
      obtain ⟨p, p1, p2⟩ := e
      have e1 := wr_E_pos p1 p2
      have e2 : wr_E (nI o) G 144 ≤ 144 := wr_S_bd (fun i => by
        show wr_q (G i) (nI o) ≤ 1
        by_cases z : G i = nI o
        · rw [wr_q1 z]; omega
        · rw [wr_q0 z]; omega) 144
      unfold wY_deliver_296
      refine wr_ylinks (wr_yin hY) ?_
      exact br_f (nI_nle (by omega) (by omega)) (k _ (wr_yin hY))
  · have en : ∀ p, p < 144 → G p ≠ nI o := fun p hp z => e ⟨p, hp, z⟩
    have i1 := wr_ifree h rfl ho en
    obtain ⟨G2, kd2, nd2, fd2, am2, i2, r1, r2, r3, X0, Y0⟩ := wr_relO (am := am) i1 (o := o) (f := 0) (by omega) (by omega)
    obtain ⟨G3, kd3, nd3, fd3, am3, i3, q1, q2, q3, X1, Y1⟩ := wr_relO (am := am2) i2 (o := o) (f := 1) (by omega) (by omega)
    refine ⟨G3, kd3, nd3, fd3, am3, upd hm o (-1), 1, wr_iz i3 ?_, ?_, ?_⟩
    · intro f hf
      have c : f = 0 ∨ f = 1 := by omega
      rcases c with rfl | rfl
      · rw [q2 _ (by omega) (by omega)]; exact r1
      · exact q1
    · intro vl rm b u post hu k
      refine wr_rendF (p := 144) (o := o) hu (by omega) (by omega) wr_hd1 ?_ (fun u' pst h' k' => X0 (-1) (-1) vl rm b u' pst ?_ k') (fun u' pst h' k' => X1 (-1) (-1) vl rm b u' pst h' k') k
      · intro q hq hne
        by_cases e5 : q = 145
        · rw [e5, wr_hd2]; exact fun z => wr_nm (show o < 2 ^ 31 by omega) z.symm
        · rw [wr_hdn (by omega)]; exact en q (by omega)
      · rw [wr_hdx] at h'
        exact h'
    · intro vl rm he fi tg ca post hY k
      have e1 : (nI o).toNatClampNeg = o := nI_clamp (by omega)
      unfold wY_deliver_296
      refine wr_ylinks (wr_yin hY) ?_
      rw [wr_E_0 en]
      refine br_t (by decide) ⟨vp_in_nI (by omega) (by omega), nm_r (e' := upd hm o (-1)) (by rw [e1]) ⟨3, ?_⟩⟩
      refine br_f (by decide) (Y0 vl rm _ _ (wr_yin hY) (wr_yk ?_))
      intro he2 fi2 tg2 ca2 hY2
      refine nm_r (e' := 1) (by decide) ?_
      refine br_f (by decide) (Y1 vl rm _ _ (wr_yin hY2) (wr_yk ?_))
      intro he3 fi3 tg3 ca3 hY3
      refine nm_r (e' := 2) (by decide) ?_
      exact br_t (by decide) (k _ (wr_yin hY3))
/-- the message is taken out: its links are in the two hands -/
theorem wr_xtk {post : SX → Prop} {u : SX} {s : Nat} (hu : wr_RX N O (wr_hd G (-1) (-1)) kd nd fd am hm vl ds rm b u) (hs : s < 48) (hk : kd s ≠ 0)
    (k : ∀ u', wr_RX N O (wr_hd (upd (upd G (48 + s) (-1)) (96 + s) (-1)) (G (48 + s)) (G (96 + s))) (upd kd s 0) nd fd am hm vl ds rm b u' → post u') : wpX_takeOut post u (nI s) := by
  refine wr_rtake hu hs wr_hd1 wr_hd2 hk ?_
  rw [wr_hdn (show 48 + s < 144 by omega), wr_hdn (show 96 + s < 144 by omega), wr_hdx, wr_hdu (by omega), wr_hdy, wr_hdu (by omega)]
  exact k
theorem wr_x217 {post : Int32 → SX → Prop} {c1 c2 c3 c4 c5 c6 c7 c8 c9 c10 c11 c12 c13 c14 c15 c16 c17 c18 c19 c20 c21} (k : wpX_endLink post (c1, c2, c3, c4, c5, c6, c7, c8, c9, c10, c11, c12, c13, c14, c15, c16, c17, c18, c19, c20, c21) 144) : wX_deliver_217 post c1 c2 c3 c4 c5 c6 c7 c8 c9 c10 c11 c12 c13 c14 c15 c16 c17 c18 c19 c20 c21 := by
  unfold wX_deliver_217 wpX_targetInHand
  exact k
end
end
section
/-! a delivery, kind by kind, up to the end of the target link -/
def wr_MID (N O : Nat) (G kd nd fd am hm vl ds : Nat → Int32) (rm : Nat → Nat) (s o : Nat) : Prop :=
  ∃ (G2 kd2 nd2 fd2 am2 hm2 vl2 : Nat → Int32) (rm2 : Nat → Nat), wr_IV N O 12 G2 kd2 nd2 fd2 hm2 ds ∧ hm2 o ≠ -1 ∧ (∀ n, n < 4 → rm2 n ≤ 60) ∧
    (∀ c1 c2 c3 c4 c5 c6 c7 c8 c9 c10 c11 c12 c13 c14 c15 c16 c17 c18 c19 c20 c21, ∀ post : Int32 → SX → Prop, wr_RX N O (wr_hd G (-1) (-1)) kd nd fd am hm vl ds rm (wr_4 rm) (c1, c2, c3, c4, c5, c6, c7, c8, c9, c10, c11, c12, c13, c14, c15, c16, c17, c18, c19, c20, c21) → (∀ d1 d2 d3 d4 d5 d6 d7 d8 d9 d10 d11 d12 d13 d14 d15 d16 d17 d18 d19 d20 d21, wr_RX N O (wr_hd G2 (nI o) (-1)) kd2 nd2 fd2 am2 hm2 vl2 ds rm2 (wr_4 rm2) (d1, d2, d3, d4, d5, d6, d7, d8, d9, d10, d11, d12, d13, d14, d15, d16, d17, d18, d19, d20, d21) → wX_deliver_217 post d1 d2 d3 d4 d5 d6 d7 d8 d9 d10 d11 d12 d13 d14 d15 d16 d17 d18 d19 d20 d21) → wX_deliver_71 post (nI s) (kd s) (nI o) c1 c2 c3 c4 c5 c6 c7 c8 c9 c10 c11 c12 c13 c14 c15 c16 c17 c18 c19 c20 c21) ∧
    (∀ (he fi tg ca : Nat → Int32) (post : Int32 → SY → Prop), wr_YG G he fi tg ca → (∀ he2 fi2 tg2 ca2 : Nat → Int32, wr_YG G2 he2 fi2 tg2 ca2 → wY_deliver_296 post (nI o) (nI N) (nI O) he2 fi2 hm2 vl2 (fun i => nI ((rm2) i)) kd2 tg2 nd2 fd2 ca2 am2) → ∀ x7 : Int32, wY_deliver_108 post (nI s) (kd s) (nI o) (nd s) (fd s) (G (96 + s)) x7 (nI N) (nI O) he fi hm vl (fun i => nI (rm i)) kd tg nd fd ca am)
section
variable {N O b : Nat} {G kd nd fd am hm vl ds : Nat → Int32} {rm : Nat → Nat}
theorem wr_noc {z s : Nat} (h : wr_IV N O z G kd nd fd hm ds) (hs : s < 48) (hk : kd s ≠ 3) : G (96 + s) = -1 := by
  by_cases e : G (96 + s) = -1
  · exact e
  · exact absurd ((h.2.2.2.1 s hs).2.mpr e) hk
theorem wr_mid1 {s o : Nat} (h : wr_IV N O 12 G kd nd fd hm ds) (hr : ∀ n, n < 4 → rm n ≤ 60) (hs : s < 48) (gt : G (48 + s) = nI o) (hl : hm o ≠ -1)
    (k0 : kd s ≠ 0) (k2 : kd s ≠ 2) (k3 : kd s ≠ 3) (k4 : kd s ≠ 4) (k5 : kd s ≠ 5) (k6 : kd s ≠ 6) (k7 : kd s ≠ 7) : wr_MID N O G kd nd fd am hm vl ds rm s o := by
  have gc := wr_noc h hs k3
  have i1 : vp_in (nI s) 48 := vp_in_nI hs (by omega)
  have e1 : (nI s).toNatClampNeg = s := nI_clamp (by omega)
  refine ⟨_, _, _, _, am, _, vl, rm, wr_itake h hs, hl, hr, ?_, ?_⟩
  · intro c1 c2 c3 c4 c5 c6 c7 c8 c9 c10 c11 c12 c13 c14 c15 c16 c17 c18 c19 c20 c21 post hu k
    unfold wX_deliver_71
    refine ⟨i1, nm_e ⟨i1, nm_e ⟨i1, nm_e (wr_xtk hu hs k0 (wr_all ?_))⟩⟩⟩
    intro d1 d2 d3 d4 d5 d6 d7 d8 d9 d10 d11 d12 d13 d14 d15 d16 d17 d18 d19 d20 d21 h2
    rw [gt, gc] at h2
    exact br_f k3 (br_f k4 (br_f k5 (br_f k6 (br_f k7 (k d1 d2 d3 d4 d5 d6 d7 d8 d9 d10 d11 d12 d13 d14 d15 d16 d17 d18 d19 d20 d21 h2)))))
  · intro he fi tg ca post hY k x7
    unfold wY_deliver_108
    refine ⟨i1, nm_r (e' := upd kd s 0) (by rw [e1]) ⟨i1, nm_r (e' := upd tg s (-1)) (by rw [e1]) ⟨i1, nm_r (e' := upd ca s (-1)) (by rw [e1]) ?_⟩⟩⟩
    exact br_f k2 (br_f k3 (br_f k4 (br_f k5 (br_f k6 (br_f k7 (k _ _ _ _ (wr_YGt hY hs)))))))
theorem wr_mid4 {s o : Nat} (h : wr_IV N O 12 G kd nd fd hm ds) (hr : ∀ n, n < 4 → rm n ≤ 60) (hs : s < 48) (ho : o < 12) (gt : G (48 + s) = nI o) (hl : hm o ≠ -1) (hk : kd s = 4) : wr_MID N O G kd nd fd am hm vl ds rm s o := by
  have gc := wr_noc h hs (by rw [hk]; decide)
  have i1 : vp_in (nI s) 48 := vp_in_nI hs (by omega)
  have e1 : (nI s).toNatClampNeg = s := nI_clamp (by omega)
  have k0 : kd s ≠ 0 := by rw [hk]; decide
  obtain ⟨f, hf, ef⟩ := (h.2.2.2.2.1 s hs).2 (Or.inr (Or.inl hk))
  obtain ⟨G2, kd2, nd2, fd2, am2, i2, r1, r2, r3, X0, Y0⟩ := wr_relO (am := am) (wr_itake h hs) ho hf
  refine ⟨G2, kd2, nd2, fd2, am2, hm, vl, rm, i2, hl, hr, ?_, ?_⟩
  · intro c1 c2 c3 c4 c5 c6 c7 c8 c9 c10 c11 c12 c13 c14 c15 c16 c17 c18 c19 c20 c21 post hu k
    obtain ⟨_, _, _, _, _, _, _, hM, _⟩ := wr_rd hu
    unfold wX_deliver_71
    refine ⟨i1, nm_e ⟨i1, nm_r (e' := nI f) (by rw [e1, (hM s hs).2.1 (Or.inr (Or.inl hk))]; exact ef) ⟨i1, nm_e (wr_xtk hu hs k0 (wr_all ?_))⟩⟩⟩
    intro d1 d2 d3 d4 d5 d6 d7 d8 d9 d10 d11 d12 d13 d14 d15 d16 d17 d18 d19 d20 d21 h2
    rw [gt, gc] at h2
    refine br_f (by rw [hk]; decide) (br_t hk (X0 _ _ _ _ _ _ _ h2 (wr_all ?_)))
    intro e1 e2 e3 e4 e5 e6 e7 e8 e9 e10 e11 e12 e13 e14 e15 e16 e17 e18 e19 e20 e21 h3
    exact k _ _ _ _ _ _ _ _ _ _ _ _ _ _ _ _ _ _ _ _ _ h3
  · intro he fi tg ca post hY k x7
    unfold wY_deliver_108
    refine ⟨i1, nm_r (e' := upd kd s 0) (by rw [e1]) ⟨i1, nm_r (e' := upd tg s (-1)) (by rw [e1]) ⟨i1, nm_r (e' := upd ca s (-1)) (by rw [e1]) ?_⟩⟩⟩
    rw [ef]
    refine br_f (by rw [hk]; decide) (br_f (by rw [hk]; decide) (br_t hk (Y0 _ _ _ _ (wr_yin (wr_YGt hY hs)) (wr_yk ?_))))
    intro he2 fi2 tg2 ca2 hY2
    exact br_f (by rw [hk]; decide) (br_f (by rw [hk]; decide) (br_f (by rw [hk]; decide) (k _ _ _ _ hY2)))
theorem wr_mid3 {s o : Nat} (h : wr_IV N O 12 G kd nd fd hm ds) (hr : ∀ n, n < 4 → rm n ≤ 60) (hs : s < 48) (ho : o < 12) (gt : G (48 + s) = nI o) (hl : hm o ≠ -1) (hk : kd s = 3) : wr_MID N O G kd nd fd am hm vl ds rm s o := by
  have i1 : vp_in (nI s) 48 := vp_in_nI hs (by omega)
  have e1 : (nI s).toNatClampNeg = s := nI_clamp (by omega)
  have k0 : kd s ≠ 0 := by rw [hk]; decide
  have O12 := h.1.2.2.2.1
  have c48 := h.1.2.2.2.2
  have gc : G (96 + s) ≠ -1 := (h.2.2.2.1 s hs).2.mp hk
  obtain ⟨q, q1, q2, q3⟩ := h.2.1 (96 + s) (by omega) gc
  obtain ⟨f, hf, ef⟩ := (h.2.2.2.2.1 s hs).2 (Or.inl hk)
  obtain ⟨G2, kd2, nd2, fd2, am2, i2, r1, r2, r3, X0, Y0⟩ := wr_relO (am := am) (wr_itake h hs) ho hf
  have cc : wr_N (-1) G2 144 + 2 ≤ 48 := by
    have a := wr_N_upd (y := -1) (x := -1) (f := G) (n := 144) (q := 48 + s) (by omega)
    have c := wr_N_upd (y := -1) (x := -1) (f := upd G (48 + s) (-1)) (n := 144) (q := 96 + s) (by omega)
    rw [wr_b0 rfl, wr_b1 (by rw [gt]; exact wr_nm (by omega))] at a
    rw [wr_b0 rfl, pk_un (show 96 + s ≠ 48 + s by omega), wr_b1 gc] at c
    omega
  have i3 := wr_iset i2 (p := 24 + o * 2 + f) (by omega) r1 q1 q3 (by omega) (fun r hr2 f2 hf2 e => by
    have : r = o := by omega
    rw [this]; exact hl)
  rw [← q2] at i3
  refine ⟨_, kd2, nd2, fd2, am2, hm, vl, rm, i3, hl, hr, ?_, ?_⟩
  · intro c1 c2 c3 c4 c5 c6 c7 c8 c9 c10 c11 c12 c13 c14 c15 c16 c17 c18 c19 c20 c21 post hu k
    obtain ⟨_, _, _, _, _, _, _, hM, _⟩ := wr_rd hu
    unfold wX_deliver_71
    refine ⟨i1, nm_e ⟨i1, nm_r (e' := nI f) (by rw [e1, (hM s hs).2.1 (Or.inl hk)]; exact ef) ⟨i1, nm_e (wr_xtk hu hs k0 (wr_all ?_))⟩⟩⟩
    intro d1 d2 d3 d4 d5 d6 d7 d8 d9 d10 d11 d12 d13 d14 d15 d16 d17 d18 d19 d20 d21 h2
    rw [gt] at h2
    refine br_t hk (X0 _ _ _ _ _ _ _ h2 (wr_all ?_))
    intro e1 e2 e3 e4 e5 e6 e7 e8 e9 e10 e11 e12 e13 e14 e15 e16 e17 e18 e19 e20 e21 h3
    unfold wpX_fieldPlace wpX_carriedInHand
    show wpX_moveLink _ _ 145 (24 + nI o * 2 + nI f)
    rw [wr_fp]
    refine wr_rmove (p := 145) h3 (by omega) (by omega) (by omega) (by rw [wr_hdn (by omega)]; exact r1) (wr_all ?_)
    intro g1 g2 g3 g4 g5 g6 g7 g8 g9 g10 g11 g12 g13 g14 g15 g16 g17 g18 g19 g20 g21 h4
    rw [wr_hd2, wr_hdu (by omega), wr_hdy] at h4
    exact k _ _ _ _ _ _ _ _ _ _ _ _ _ _ _ _ _ _ _ _ _ h4
  · intro he fi tg ca post hY k x7
    have e2 : (nI (o * 2 + f)).toNatClampNeg = o * 2 + f := nI_clamp (by omega)
    unfold wY_deliver_108
    refine ⟨i1, nm_r (e' := upd kd s 0) (by rw [e1]) ⟨i1, nm_r (e' := upd tg s (-1)) (by rw [e1]) ⟨i1, nm_r (e' := upd ca s (-1)) (by rw [e1]) ?_⟩⟩⟩
    rw [ef]
    refine br_f (by rw [hk]; decide) (br_t hk (Y0 _ _ _ _ (wr_yin (wr_YGt hY hs)) (wr_yk ?_)))
    intro he2 fi2 tg2 ca2 hY2
    have hY3 := wr_YGf (j := o * 2 + f) (x := G (96 + s)) hY2 (by omega)
    rw [← Nat.add_assoc] at hY3
    rw [wr_fp2]
    refine ⟨vp_in_nI (by omega) (by omega), nm_r (e' := upd fi2 (o * 2 + f) (G (96 + s))) (by rw [e2]) ?_⟩
    exact br_f (by rw [hk]; decide) (br_f (by rw [hk]; decide) (br_f (by rw [hk]; decide) (br_f (by rw [hk]; decide) (k _ _ _ _ hY3))))
theorem wr_mid6 {s o : Nat} (h : wr_IV N O 12 G kd nd fd hm ds) (hr : ∀ n, n < 4 → rm n ≤ 60) (hs : s < 48) (ho : o < 12) (gt : G (48 + s) = nI o) (hl : hm o ≠ -1) (hk : kd s = 6) : wr_MID N O G kd nd fd am hm vl ds rm s o := by
  have gc := wr_noc h hs (by rw [hk]; decide)
  have i1 : vp_in (nI s) 48 := vp_in_nI hs (by omega)
  have e1 : (nI s).toNatClampNeg = s := nI_clamp (by omega)
  have i2 : vp_in (nI o) 12 := vp_in_nI ho (by omega)
  have e2 : (nI o).toNatClampNeg = o := nI_clamp (by omega)
  have k0 : kd s ≠ 0 := by rw [hk]; decide
  refine ⟨_, _, _, _, am, _, upd vl o (31 * vl o + am s), rm, wr_itake h hs, hl, hr, ?_, ?_⟩
  · intro c1 c2 c3 c4 c5 c6 c7 c8 c9 c10 c11 c12 c13 c14 c15 c16 c17 c18 c19 c20 c21 post hu k
    obtain ⟨_, _, _, _, _, _, _, hM, _⟩ := wr_rd hu
    unfold wX_deliver_71
    refine ⟨i1, nm_e ⟨i1, nm_e ⟨i1, nm_r (e' := am s) (by rw [e1]; exact (hM s hs).2.2 hk) (wr_xtk hu hs k0 (wr_all ?_))⟩⟩⟩
    intro d1 d2 d3 d4 d5 d6 d7 d8 d9 d10 d11 d12 d13 d14 d15 d16 d17 d18 d19 d20 d21 h2
    rw [gt, gc] at h2
    obtain ⟨_, _, _, _, _, _, _, _, hH, _⟩ := wr_rd h2
    have hv : d15 o = vl o := ((hH o ho).2.1 (fun z => hl ((hH o ho).1.mp z))).2
    refine br_f (by rw [hk]; decide) (br_f (by rw [hk]; decide) (br_f (by rw [hk]; decide) (br_t hk ⟨i2, i2, nm_r (e' := upd d15 o (31 * vl o + am s)) (by rw [e2, hv]) ?_⟩)))
    exact k _ _ _ _ _ _ _ _ _ _ _ _ _ _ _ _ _ _ _ _ _ (wr_wvs h2)
  · intro he fi tg ca post hY k x7
    unfold wY_deliver_108
    refine ⟨i1, nm_r (e' := upd kd s 0) (by rw [e1]) ⟨i1, nm_r (e' := upd tg s (-1)) (by rw [e1]) ⟨i1, nm_r (e' := upd ca s (-1)) (by rw [e1]) ?_⟩⟩⟩
    refine br_f (by rw [hk]; decide) (br_f (by rw [hk]; decide) (br_f (by rw [hk]; decide) (br_f (by rw [hk]; decide) (br_t hk ⟨i2, i1, i2, nm_r (e' := upd vl o (31 * vl o + am s)) (by rw [e1, e2]) ?_⟩))))
    exact br_f (by rw [hk]; decide) (k _ _ _ _ (wr_YGt hY hs))
theorem wr_mid7 {s o : Nat} (h : wr_IV N O 12 G kd nd fd hm ds) (hr : ∀ n, n < 4 → rm n ≤ 60) (hs : s < 48) (ho : o < O) (gt : G (48 + s) = nI o) (hl : hm o ≠ -1) (hk : kd s = 7) : wr_MID N O G kd nd fd am hm vl ds rm s o := by
  have gc := wr_noc h hs (by rw [hk]; decide)
  have O12 := h.1.2.2.2.1
  have N4 := h.1.2.1
  have i1 : vp_in (nI s) 48 := vp_in_nI hs (by omega)
  have e1 : (nI s).toNatClampNeg = s := nI_clamp (by omega)
  have i2 : vp_in (nI o) 12 := vp_in_nI (by omega) (by omega)
  have e2 : (nI o).toNatClampNeg = o := nI_clamp (by omega)
  have k0 : kd s ≠ 0 := by rw [hk]; decide
  obtain ⟨m1, m2⟩ := h.2.2.2.2.2.2.1 s hs hk o (by omega) gt
  obtain ⟨⟨n, n1, n2⟩, _⟩ := h.2.2.2.2.2.1 o (by omega) hl
  have dn1 : ds o ≠ -1 := by rw [n2]; exact wr_nm (by omega)
  have dn2 : ds o ≠ -10 := by rw [n2]; exact wr_nm10 (by omega)
  have i3 := wr_ihome (wr_itake h hs) ho hl (fun t ht hk2 hg => by
    by_cases e : t = s
    · rw [e, pk_us] at hk2; exact absurd hk2 (by decide)
    · rw [pk_un e] at hk2
      rw [pk_un (by omega), pk_un (by omega)] at hg
      exact e (h.2.2.2.2.2.2.2.1 t s ht hs hk2 hk (hg.trans gt.symm)))
  refine ⟨_, _, _, _, am, _, vl, rm, i3, by rw [pk_us]; exact dn1, hr, ?_, ?_⟩
  · intro c1 c2 c3 c4 c5 c6 c7 c8 c9 c10 c11 c12 c13 c14 c15 c16 c17 c18 c19 c20 c21 post hu k
    unfold wX_deliver_71
    refine ⟨i1, nm_e ⟨i1, nm_e ⟨i1, nm_e (wr_xtk hu hs k0 (wr_all ?_))⟩⟩⟩
    intro d1 d2 d3 d4 d5 d6 d7 d8 d9 d10 d11 d12 d13 d14 d15 d16 d17 d18 d19 d20 d21 h2
    rw [gt, gc] at h2
    refine br_f (by rw [hk]; decide) (br_f (by rw [hk]; decide) (br_f (by rw [hk]; decide) (br_f (by rw [hk]; decide) (br_t hk ⟨i2, nm_r (e' := upd d16 o 0) (by rw [e2, wr_bo0]) ?_⟩))))
    exact k _ _ _ _ _ _ _ _ _ _ _ _ _ _ _ _ _ _ _ _ _ (wr_wit h2 ho hl dn1 dn2)
  · intro he fi tg ca post hY k x7
    unfold wY_deliver_108
    refine ⟨i1, nm_r (e' := upd kd s 0) (by rw [e1]) ⟨i1, nm_r (e' := upd tg s (-1)) (by rw [e1]) ⟨i1, nm_r (e' := upd ca s (-1)) (by rw [e1]) ?_⟩⟩⟩
    refine br_f (by rw [hk]; decide) (br_f (by rw [hk]; decide) (br_f (by rw [hk]; decide) (br_f (by rw [hk]; decide) (br_f (by rw [hk]; decide) (br_t hk ⟨i2, nm_r (e' := upd hm o (ds o)) (by rw [e2, m2]) ?_⟩)))))
    exact k _ _ _ _ (wr_YGt hY hs)
end
end
section
/-! a FETCH -/
section
variable {N O b : Nat} {G kd nd fd am hm vl ds : Nat → Int32} {rm : Nat → Nat}
theorem wr_rep0 {post : SX → Prop} {o f n : Nat} {p2 : Int32} {c1 c2 c3 c4 c5 c6 c7 c8 c9 c10 c11 c12 c13 c14 c15 c16 c17 c18 c19 c20 c21} (hu : wr_RX N O G kd nd fd am hm vl ds rm b (c1, c2, c3, c4, c5, c6, c7, c8, c9, c10, c11, c12, c13, c14, c15, c16, c17, c18, c19, c20, c21)) (ho : o < 12) (hf : f < 2) (hl : hm o ≠ -1) (hn : n < 4) (hd : ds o = nI n) (h0 : G (24 + o * 2 + f) = -1 ∨ rm n < 1) (k : post (c1, c2, c3, c4, c5, c6, c7, c8, c9, c10, c11, c12, c13, c14, c15, c16, c17, c18, c19, c20, c21)) : wpX_reply post (c1, c2, c3, c4, c5, c6, c7, c8, c9, c10, c11, c12, c13, c14, c15, c16, c17, c18, c19, c20, c21) (nI o) (nI f) p2 := by
  have i2 : vp_in (nI o) 12 := vp_in_nI ho (by omega)
  have e2 : (nI o).toNatClampNeg = o := nI_clamp (by omega)
  have e3 : (nI n).toNatClampNeg = n := nI_clamp (by omega)
  obtain ⟨_, _, _, _, _, _, hrm, _, hH, hA, _, _, h60⟩ := wr_rd hu
  have al : c14 o ≠ -1 := fun z => hl ((hH o ho).1.mp z)
  obtain ⟨a, a1, a2⟩ := hA o ho al
  have i4 : vp_in (c14 (nI o).toNatClampNeg) 252 := by rw [e2, a2]; exact vp_in_nI a1 (by omega)
  have r60 := h60 n hn
  unfold wpX_reply wpX_fieldPlace
  show vp_in (nI o) 12 ∧ _
  rw [wr_fp]
  refine ⟨i2, i4, nm_r (e' := nI n) (by rw [e2, ((hH o ho).2.1 al).1]; exact hd) ⟨vp_in_nI (by omega) (by omega), wr_rw hu (by omega) (fun _ => k) (fun z => ⟨vp_in_nI hn (by omega), ?_⟩)⟩⟩
  rcases h0 with h0 | h0
  · exact absurd h0 z
  · refine br_f ?_ k
    rw [hrm, e3]
    exact nI_ge (b := 1) h0 (by decide)
theorem wr_rep1 {post : SX → Prop} {o f n s : Nat} {p2 : Int32} {c1 c2 c3 c4 c5 c6 c7 c8 c9 c10 c11 c12 c13 c14 c15 c16 c17 c18 c19 c20 c21} (hu : wr_RX N O G kd nd fd am hm vl ds rm b (c1, c2, c3, c4, c5, c6, c7, c8, c9, c10, c11, c12, c13, c14, c15, c16, c17, c18, c19, c20, c21)) (ho : o < 12) (hf : f < 2) (hl : hm o ≠ -1) (hn : n < 4) (hd : ds o = nI n) (h0 : G (24 + o * 2 + f) ≠ -1) (h1 : 1 ≤ rm n) (hb : 1 ≤ b)
    (hs : s < 48) (hs0 : kd s = 0) (hsb : ∀ j, j < s → kd j ≠ 0) (hg : G (48 + s) = -1)
    (k : ∀ u', wr_RX N O (upd G (48 + s) (G (24 + o * 2 + f))) (upd kd s 2) (upd nd s p2) (upd fd s (-1)) (upd am s 0) hm vl ds (wr_un rm n (rm n - 1)) (b - 1) u' → post u') : wpX_reply post (c1, c2, c3, c4, c5, c6, c7, c8, c9, c10, c11, c12, c13, c14, c15, c16, c17, c18, c19, c20, c21) (nI o) (nI f) p2 := by
  have i2 : vp_in (nI o) 12 := vp_in_nI ho (by omega)
  have e2 : (nI o).toNatClampNeg = o := nI_clamp (by omega)
  have e3 : (nI n).toNatClampNeg = n := nI_clamp (by omega)
  obtain ⟨_, _, _, _, _, _, hrm, _, hH, hA, _, _, h60⟩ := wr_rd hu
  have al : c14 o ≠ -1 := fun z => hl ((hH o ho).1.mp z)
  obtain ⟨a, a1, a2⟩ := hA o ho al
  have i4 : vp_in (c14 (nI o).toNatClampNeg) 252 := by rw [e2, a2]; exact vp_in_nI a1 (by omega)
  have r60 := h60 n hn
  unfold wpX_reply wpX_fieldPlace
  show vp_in (nI o) 12 ∧ _
  rw [wr_fp]
  refine ⟨i2, i4, nm_r (e' := nI n) (by rw [e2, ((hH o ho).2.1 al).1]; exact hd) ⟨vp_in_nI (by omega) (by omega), wr_rw hu (by omega) (fun z => absurd z h0) (fun z => ⟨vp_in_nI hn (by omega), br_t ?_ ?_⟩)⟩⟩
  · rw [hrm, e3]
    exact nI_le (a := 1) h1 (by omega)
  · refine wr_rpost (n' := p2) (f' := -1) (a' := 0) hu hs hs0 hsb (by decide) (fun _ => rfl) (fun y => by rcases y with y | y | y <;> exact absurd y (by decide)) (fun y => absurd y (by decide)) (wr_all ?_)
    intro d1 d2 d3 d4 d5 d6 d7 d8 d9 d10 d11 d12 d13 d14 d15 d16 d17 d18 d19 d20 d21 h2
    unfold wpX_targetPlace
    show wpX_copyLink _ _ (nI (24 + o * 2 + f)) (48 + nI s) (nI n)
    rw [wr_tp]
    refine wr_rcopy h2 (by omega) (by omega) (by omega) hg h0 hn h1 hb (wr_all ?_)
    intro e1 e2 e3 e4 e5 e6 e7 e8 e9 e10 e11 e12 e13 e14 e15 e16 e17 e18 e19 e20 e21 h3
    exact k _ h3
theorem wr_mid5 {s o : Nat} (h : wr_IV N O 12 G kd nd fd hm ds) (hr : ∀ n, n < 4 → rm n ≤ 60) (hs : s < 48) (ho : o < 12) (gt : G (48 + s) = nI o) (hl : hm o ≠ -1) (ha : hm o ≠ -10) (hk : kd s = 5) : wr_MID N O G kd nd fd am hm vl ds rm s o := by
  have gc := wr_noc h hs (by rw [hk]; decide)
  have O12 := h.1.2.2.2.1
  have N4 := h.1.2.1
  have c48 := h.1.2.2.2.2
  have i1 : vp_in (nI s) 48 := vp_in_nI hs (by omega)
  have e1 : (nI s).toNatClampNeg = s := nI_clamp (by omega)
  have i2 : vp_in (nI o) 12 := vp_in_nI (by omega) (by omega)
  have e2 : (nI o).toNatClampNeg = o := nI_clamp (by omega)
  have k0 : kd s ≠ 0 := by rw [hk]; decide
  obtain ⟨f, hf, ef⟩ := (h.2.2.2.2.1 s hs).2 (Or.inr (Or.inr hk))
  obtain ⟨m, hm1, em⟩ := (h.2.2.2.2.1 s hs).1 (Or.inr (Or.inl hk))
  obtain ⟨⟨n, n1, n2⟩, n3⟩ := h.2.2.2.2.2.1 o (by omega) hl
  have hmo : hm o = nI n := by
    rcases n3 with z | z
    · exact absurd z ha
    · exact z.trans n2
  have e3 : (nI n).toNatClampNeg = n := nI_clamp (by omega)
  have i3 : vp_in (nI n) 4 := vp_in_nI (by omega) (by omega)
  have ih : vp_in (hm (nI o).toNatClampNeg) 4 := by rw [e2, hmo]; exact i3
  have e4 : (nI (o * 2 + f)).toNatClampNeg = o * 2 + f := nI_clamp (by omega)
  have it := wr_itake h hs
  have rn := hr n (by omega)
  by_cases hc : G (24 + o * 2 + f) = -1 ∨ rm n < 1
  · refine ⟨_, _, _, _, am, _, vl, rm, it, hl, hr, ?_, ?_⟩
    · intro c1 c2 c3 c4 c5 c6 c7 c8 c9 c10 c11 c12 c13 c14 c15 c16 c17 c18 c19 c20 c21 post hu k
      obtain ⟨_, _, _, _, _, _, _, hM, _⟩ := wr_rd hu
      unfold wX_deliver_71
      refine ⟨i1, nm_e ⟨i1, nm_r (e' := nI f) (by rw [e1, (hM s hs).2.1 (Or.inr (Or.inr hk))]; exact ef) ⟨i1, nm_e (wr_xtk hu hs k0 (wr_all ?_))⟩⟩⟩
      intro d1 d2 d3 d4 d5 d6 d7 d8 d9 d10 d11 d12 d13 d14 d15 d16 d17 d18 d19 d20 d21 h2
      rw [gt, gc] at h2
      refine br_f (by rw [hk]; decide) (br_f (by rw [hk]; decide) (br_t hk ?_))
      refine wr_rep0 h2 ho hf hl (by omega) n2 ?_ (k d1 d2 d3 d4 d5 d6 d7 d8 d9 d10 d11 d12 d13 d14 d15 d16 d17 d18 d19 d20 d21 h2)
      rw [wr_hdn (by omega), pk_un (by omega), pk_un (by omega)]
      exact hc
    · intro he fi tg ca post hY k x7
      have hY1 := wr_YGt (x := -1) (y := -1) hY hs
      have eg : fi (o * 2 + f) = G (24 + o * 2 + f) := by rw [(hY.1 (o * 2 + f) (by omega)).2, ← Nat.add_assoc]
      have kk := k _ _ _ _ hY1
      unfold wY_deliver_108
      refine ⟨i1, nm_r (e' := upd kd s 0) (by rw [e1]) ⟨i1, nm_r (e' := upd tg s (-1)) (by rw [e1]) ⟨i1, nm_r (e' := upd ca s (-1)) (by rw [e1]) ?_⟩⟩⟩
      rw [ef]
      refine br_f (by rw [hk]; decide) (br_f (by rw [hk]; decide) (br_f (by rw [hk]; decide) (br_t hk ?_)))
      rw [wr_fp2]
      have fin : wY_deliver_254 post (nI s) (kd s) (nI o) (nd s) (nI N) (nI O) he fi hm vl (fun i => nI (rm i)) (upd kd s 0) (upd tg s (-1)) nd fd (upd ca s (-1)) am := br_f (by rw [hk]; decide) (br_f (by rw [hk]; decide) kk)
      refine ⟨vp_in_nI (by omega) (by omega), nm_r (e' := G (24 + o * 2 + f)) (by rw [e4]; exact eg) ?_⟩
      by_cases z : G (24 + o * 2 + f) = -1
      · exact br_t z fin
      · refine br_f z ⟨i2, ih, br_t ?_ fin⟩
        rcases hc with hc | hc
        · exact absurd hc z
        · rw [e2, hmo, e3]
          exact nI_lt (b := 1) hc (by decide)
  · have g0 : G (24 + o * 2 + f) ≠ -1 := fun z => hc (Or.inl z)
    have r1 : 1 ≤ rm n := by
      by_cases z : 1 ≤ rm n
      · exact z
      · exact absurd (Or.inr (by omega)) hc
    obtain ⟨q, q1, q2, q3⟩ := h.2.1 (24 + o * 2 + f) (by omega) g0
    have gf1 : upd (upd G (48 + s) (-1)) (96 + s) (-1) (24 + o * 2 + f) = G (24 + o * 2 + f) := by rw [pk_un (by omega), pk_un (by omega)]
    have c1 : wr_N (-1) (upd (upd G (48 + s) (-1)) (96 + s) (-1)) 144 + 1 ≤ 48 := by
      have a := wr_N_upd (y := -1) (x := -1) (f := G) (n := 144) (q := 48 + s) (by omega)
      have c := wr_N_upd (y := -1) (x := -1) (f := upd G (48 + s) (-1)) (n := 144) (q := 96 + s) (by omega)
      rw [wr_b0 rfl, wr_b1 (by rw [gt]; exact wr_nm (by omega))] at a
      rw [wr_b0 rfl] at c
      omega
    obtain ⟨t, t1, t2, t3⟩ := wr_slot it (Or.inl c1)
    have gtt : upd (upd G (48 + s) (-1)) (96 + s) (-1) (48 + t) = -1 := (it.2.2.2.1 t t1).1.mp t2
    have gtc : upd (upd G (48 + s) (-1)) (96 + s) (-1) (96 + t) = -1 := wr_noc it t1 (by rw [t2]; decide)
    have i5 := wr_ipost it (k := 2) (c := -1) (n := nd s) (f := -1) t1 t2 (by decide) q1 q3 (fun y => absurd rfl y) ⟨fun y => absurd y (by decide), fun y => absurd rfl y⟩ (by rw [wr_b0 rfl]; omega) (fun _ => ⟨m, hm1, em⟩) (fun y => by rcases y with y | y | y <;> exact absurd y (by decide)) (fun y => absurd y (by decide))
    rw [← q2] at i5
    obtain ⟨b1, b2⟩ := wr_4u (rm := rm) (show n < 4 by omega) r1
    refine ⟨_, _, _, _, upd am t 0, hm, vl, wr_un rm n (rm n - 1), i5, hl, wr_4b hr (by omega), ?_, ?_⟩
    · intro c1 c2 c3 c4 c5 c6 c7 c8 c9 c10 c11 c12 c13 c14 c15 c16 c17 c18 c19 c20 c21 post hu k
      obtain ⟨_, _, _, _, _, _, _, hM, _⟩ := wr_rd hu
      unfold wX_deliver_71
      refine ⟨i1, nm_r (e' := nd s) (by rw [e1]; exact (hM s hs).1 (Or.inr (Or.inl hk))) ⟨i1, nm_r (e' := nI f) (by rw [e1, (hM s hs).2.1 (Or.inr (Or.inr hk))]; exact ef) ⟨i1, nm_e (wr_xtk hu hs k0 (wr_all ?_))⟩⟩⟩
      intro d1 d2 d3 d4 d5 d6 d7 d8 d9 d10 d11 d12 d13 d14 d15 d16 d17 d18 d19 d20 d21 h2
      rw [gt, gc] at h2
      refine br_f (by rw [hk]; decide) (br_f (by rw [hk]; decide) (br_t hk ?_))
      refine wr_rep1 h2 ho hf hl (by omega) n2 (by rw [wr_hdn (by omega), gf1]; exact g0) r1 b2 t1 t2 t3 (by rw [wr_hdn (by omega)]; exact gtt) (wr_all ?_)
      intro e1 e2 e3 e4 e5 e6 e7 e8 e9 e10 e11 e12 e13 e14 e15 e16 e17 e18 e19 e20 e21 h3
      rw [wr_hdn (show 24 + o * 2 + f < 144 by omega), gf1, wr_hdu (by omega), ← b1] at h3
      refine k _ _ _ _ _ _ _ _ _ _ _ _ _ _ _ _ _ _ _ _ _ (wr_rcongr h3 ?_)
      intro p hp
      rw [← wr_hdu (show 96 + t < 144 by omega)]
      by_cases e : p = 96 + t
      · rw [e, pk_us, wr_hdn (by omega), pk_un (by omega)]; exact gtc
      · rw [pk_un e]
    · intro he fi tg ca post hY k x7
      have hY1 := wr_YGt (x := -1) (y := -1) hY hs
      have eg : fi (o * 2 + f) = G (24 + o * 2 + f) := by rw [(hY.1 (o * 2 + f) (by omega)).2, ← Nat.add_assoc]
      unfold wY_deliver_108
      refine ⟨i1, nm_r (e' := upd kd s 0) (by rw [e1]) ⟨i1, nm_r (e' := upd tg s (-1)) (by rw [e1]) ⟨i1, nm_r (e' := upd ca s (-1)) (by rw [e1]) ?_⟩⟩⟩
      rw [ef]
      refine br_f (by rw [hk]; decide) (br_f (by rw [hk]; decide) (br_f (by rw [hk]; decide) (br_t hk ?_)))
      rw [wr_fp2]
      refine ⟨vp_in_nI (by omega) (by omega), nm_r (e' := G (24 + o * 2 + f)) (by rw [e4]; exact eg) (br_f g0 ⟨i2, ih, br_f ?_ ⟨i2, ih, ih, nm_r (e' := fun i => nI (wr_un rm n (rm n - 1) i)) ?_ ?_⟩⟩)⟩
      · rw [e2, hmo, e3]
        exact nI_nlt (b := 1) r1 (by omega)
      · rw [e2, hmo, e3]
        show upd _ n (nI (rm n) - 1) = _
        rw [wr_s1 r1, wr_nu]
      · refine wr_yplace (wr_yin hY1) t1 t2 t3 (wr_yk ?_)
        intro he2 fi2 tg2 ca2 hY2
        exact br_f (by rw [hk]; decide) (br_f (by rw [hk]; decide) (k _ _ _ _ hY2))
end
end
section
/-! a delivery as one outcome; the sweep -/
def wr_OUT (N O : Nat) (G kd nd fd am hm vl ds : Nat → Int32) (rm : Nat → Nat) (s : Nat) : Prop :=
  ∃ (G' kd' nd' fd' am' hm' vl' : Nat → Int32) (rm' : Nat → Nat) (r : Int32), wr_IV N O 12 G' kd' nd' fd' hm' ds ∧ (∀ n, n < 4 → rm' n ≤ 60) ∧
    (∀ (u : SX) (post : Int32 → SX → Prop), wr_RX N O (wr_hd G (-1) (-1)) kd nd fd am hm vl ds rm (wr_4 rm) u → (∀ u', wr_RX N O (wr_hd G' (-1) (-1)) kd' nd' fd' am' hm' vl' ds rm' (wr_4 rm') u' → post r u') → wpX_deliver post u (nI s)) ∧
    (∀ (v : SY) (post : Int32 → SY → Prop), wr_RY N O G kd nd fd am hm vl rm v → (∀ v', wr_RY N O G' kd' nd' fd' am' hm' vl' rm' v' → post r v') → wpY_deliver post v (nI s))
section
variable {N O b : Nat} {G kd nd fd am hm vl ds : Nat → Int32} {rm : Nat → Nat}
theorem wr_out {s : Nat} (h : wr_IV N O 12 G kd nd fd hm ds) (hr : ∀ n, n < 4 → rm n ≤ 60) (hs : s < 48) : wr_OUT N O G kd nd fd am hm vl ds rm s := by
  have i1 : vp_in (nI s) 48 := vp_in_nI hs (by omega)
  have e1 : (nI s).toNatClampNeg = s := nI_clamp (by omega)
  have p0 : ¬ nI s < 0 := nI_pos (by omega)
  have p48 : nI s < 48 := nI_lt (b := 48) hs (by decide)
  have O12 := h.1.2.2.2.1
  have N4 := h.1.2.1
  have c48 := h.1.2.2.2.2
  by_cases k0 : kd s = 0
  · refine ⟨G, kd, nd, fd, am, hm, vl, rm, -4, h, hr, ?_, ?_⟩
    · intro u post hu k
      revert hu
      refine wr_all (P := fun u => wr_RX N O (wr_hd G (-1) (-1)) kd nd fd am hm vl ds rm (wr_4 rm) u → wpX_deliver post u (nI s)) ?_ u
      intro c1 c2 c3 c4 c5 c6 c7 c8 c9 c10 c11 c12 c13 c14 c15 c16 c17 c18 c19 c20 c21 hu
      obtain ⟨_, _, _, _, _, hk, _⟩ := wr_rd hu
      unfold wpX_deliver
      exact br_f p0 (br_t p48 ⟨i1, nm_r (e' := kd s) (by rw [e1, hk]) (br_t k0 (k _ hu))⟩)
    · intro v post hv k
      refine wr_yel (P := fun v => wpY_deliver post v (nI s)) hv ?_
      intro he fi tg ca hY
      unfold wpY_deliver
      exact br_f p0 (br_t p48 ⟨i1, nm_r (e' := kd s) (by rw [e1]) (br_t k0 (k _ (wr_yin hY)))⟩)
  · have gtn : G (48 + s) ≠ -1 := fun z => k0 ((h.2.2.2.1 s hs).1.mpr z)
    obtain ⟨o, o1, gt, hl⟩ := h.2.1 (48 + s) (by omega) gtn
    by_cases k2 : kd s = 2
    · obtain ⟨n, n1, n2⟩ := (h.2.2.2.2.1 s hs).1 (Or.inl k2)
      have gc := wr_noc h hs (by rw [k2]; decide)
      rcases wr_least (fun j => G (n * 6 + j) = -1) 6 with hb | ⟨hh, h1, h2, h3⟩
      · refine ⟨G, kd, nd, fd, am, hm, vl, rm, -6, h, hr, ?_, ?_⟩
        · intro u post hu k
          revert hu
          refine wr_all (P := fun u => wr_RX N O (wr_hd G (-1) (-1)) kd nd fd am hm vl ds rm (wr_4 rm) u → wpX_deliver post u (nI s)) ?_ u
          intro c1 c2 c3 c4 c5 c6 c7 c8 c9 c10 c11 c12 c13 c14 c15 c16 c17 c18 c19 c20 c21 hu
          obtain ⟨_, _, _, _, _, hk, _, hM, _⟩ := wr_rd hu
          unfold wpX_deliver wpX_targetPlace
          refine br_f p0 (br_t p48 ⟨i1, nm_r (e' := kd s) (by rw [e1, hk]) (br_f k0 (br_t k2 ?_))⟩)
          unfold wpX_deliverLink
          refine ⟨i1, nm_r (e' := nI n) (by rw [e1, (hM s hs).1 (Or.inl k2)]; exact n2) (wr_ehN hu (by omega) ?_ (br_f (by decide) (k _ hu)))⟩
          intro j hj
          rw [wr_hdn (by omega)]
          exact hb j hj
        · intro v post hv k
          refine wr_yel (P := fun v => wpY_deliver post v (nI s)) hv ?_
          intro he fi tg ca hY
          unfold wpY_deliver
          refine br_f p0 (br_t p48 ⟨i1, nm_r (e' := kd s) (by rw [e1]) (br_f k0 ⟨i1, nm_e ⟨i1, nm_r (e' := nI n) (by rw [e1]; exact n2) ⟨i1, nm_e ⟨i1, nm_e (br_t k2 ?_)⟩⟩⟩⟩)⟩)
          exact wr_yehN (wr_yin hY) (by omega) hb (br_t rfl (k _ (wr_yin hY)))
      · have it := wr_itake h hs
        have c1 : wr_N (-1) (upd (upd G (48 + s) (-1)) (96 + s) (-1)) 144 + 1 ≤ 48 := by
          have a := wr_N_upd (y := -1) (x := -1) (f := G) (n := 144) (q := 48 + s) (by omega)
          have c := wr_N_upd (y := -1) (x := -1) (f := upd G (48 + s) (-1)) (n := 144) (q := 96 + s) (by omega)
          rw [wr_b0 rfl, wr_b1 gtn] at a
          rw [wr_b0 rfl] at c
          omega
        have i3 := wr_iset it (p := n * 6 + hh) (by omega) (by rw [pk_un (by omega), pk_un (by omega)]; exact h2) o1 hl c1 (fun q _ f _ e => by omega)
        refine ⟨_, _, _, _, am, _, vl, rm, 0, i3, hr, ?_, ?_⟩
        · intro u post hu k
          revert hu
          refine wr_all (P := fun u => wr_RX N O (wr_hd G (-1) (-1)) kd nd fd am hm vl ds rm (wr_4 rm) u → wpX_deliver post u (nI s)) ?_ u
          intro c1 c2 c3 c4 c5 c6 c7 c8 c9 c10 c11 c12 c13 c14 c15 c16 c17 c18 c19 c20 c21 hu
          obtain ⟨_, _, _, _, _, hk, _, hM, _⟩ := wr_rd hu
          unfold wpX_deliver wpX_targetPlace
          refine br_f p0 (br_t p48 ⟨i1, nm_r (e' := kd s) (by rw [e1, hk]) (br_f k0 (br_t k2 ?_))⟩)
          unfold wpX_deliverLink
          refine ⟨i1, nm_r (e' := nI n) (by rw [e1, (hM s hs).1 (Or.inl k2)]; exact n2) (wr_ehS (h := hh) hu (by omega) h1 (by rw [wr_hdn (by omega)]; exact h2) ?_ (br_t (nI_pos' (by omega)) (wr_xtk hu hs k0 (wr_all ?_))))⟩
          · intro j hj
            rw [wr_hdn (by omega)]
            exact h3 j hj
          · intro d1 d2 d3 d4 d5 d6 d7 d8 d9 d10 d11 d12 d13 d14 d15 d16 d17 d18 d19 d20 d21 h4
            rw [gt, gc] at h4
            unfold wpX_targetInHand wpX_handlePlace
            show wpX_moveLink _ _ 144 (nI n * 6 + nI hh)
            rw [wr_hp]
            refine wr_rmove (p := 144) h4 (by omega) (by omega) (by omega) (by rw [wr_hdn (by omega), pk_un (by omega), pk_un (by omega)]; exact h2) (wr_all ?_)
            intro e1 e2 e3 e4 e5 e6 e7 e8 e9 e10 e11 e12 e13 e14 e15 e16 e17 e18 e19 e20 e21 h5
            rw [wr_hd1, wr_hdu (by omega), wr_hdx] at h5
            exact k _ h5
        · intro v post hv k
          refine wr_yel (P := fun v => wpY_deliver post v (nI s)) hv ?_
          intro he fi tg ca hY
          have e6 : (nI (n * 6 + hh)).toNatClampNeg = n * 6 + hh := nI_clamp (by omega)
          unfold wpY_deliver
          refine br_f p0 (br_t p48 ⟨i1, nm_r (e' := kd s) (by rw [e1]) (br_f k0 ⟨i1, nm_r (e' := nI o) (by rw [e1, (hY.2 s hs).1]; exact gt) ⟨i1, nm_r (e' := nI n) (by rw [e1]; exact n2) ⟨i1, nm_e ⟨i1, nm_e (br_t k2 ?_)⟩⟩⟩⟩)⟩)
          refine wr_yehS (wr_yin hY) (by omega) h1 h2 h3 (br_f (wr_nm (by omega)) (br_t k2 ?_))
          unfold wY_deliver_108
          refine ⟨i1, nm_r (e' := upd kd s 0) (by rw [e1]) ⟨i1, nm_r (e' := upd tg s (-1)) (by rw [e1]) ⟨i1, nm_r (e' := upd ca s (-1)) (by rw [e1]) ?_⟩⟩⟩
          refine br_t k2 ?_
          rw [wr_hp]
          refine ⟨vp_in_nI (by omega) (by omega), nm_r (e' := upd he (n * 6 + hh) (nI o)) (by rw [e6]) (k _ (wr_yin ?_))⟩
          exact wr_YGh (wr_YGt hY hs) (by omega)
    · by_cases aw : kd s ≠ 7 ∧ hm o = -10
      · refine ⟨G, kd, nd, fd, am, hm, vl, rm, -10, h, hr, ?_, ?_⟩
        · intro u post hu k
          revert hu
          refine wr_all (P := fun u => wr_RX N O (wr_hd G (-1) (-1)) kd nd fd am hm vl ds rm (wr_4 rm) u → wpX_deliver post u (nI s)) ?_ u
          intro c1 c2 c3 c4 c5 c6 c7 c8 c9 c10 c11 c12 c13 c14 c15 c16 c17 c18 c19 c20 c21 hu
          obtain ⟨_, _, _, _, _, hk, _, _, hH, _⟩ := wr_rd hu
          unfold wpX_deliver wpX_targetPlace
          refine br_f p0 (br_t p48 ⟨i1, nm_r (e' := kd s) (by rw [e1, hk]) (br_f k0 (br_f k2 ?_))⟩)
          rw [wr_tp]
          refine wr_robj hu (by omega) ?_
          rw [wr_hdn (by omega), gt]
          refine br_f aw.1 ⟨vp_in_nI (by omega) (by omega), br_f ?_ (k _ hu)⟩
          rw [nI_clamp (by omega)]
          intro z
          exact ((hH o (by omega)).2.2 hl).mp z aw.2
        · intro v post hv k
          refine wr_yel (P := fun v => wpY_deliver post v (nI s)) hv ?_
          intro he fi tg ca hY
          unfold wpY_deliver
          refine br_f p0 (br_t p48 ⟨i1, nm_r (e' := kd s) (by rw [e1]) (br_f k0 ⟨i1, nm_r (e' := nI o) (by rw [e1, (hY.2 s hs).1]; exact gt) ⟨i1, nm_e ⟨i1, nm_e ⟨i1, nm_e (br_f k2 ?_)⟩⟩⟩⟩)⟩)
          refine br_f k2 (br_f aw.1 ⟨vp_in_nI (by omega) (by omega), br_t ?_ (k _ (wr_yin hY))⟩)
          rw [nI_clamp (by omega)]
          exact aw.2
      · have mid : wr_MID N O G kd nd fd am hm vl ds rm s o := by
          by_cases k7 : kd s = 7
          · exact wr_mid7 h hr hs o1 gt hl k7
          · have na : hm o ≠ -10 := fun z => aw ⟨k7, z⟩
            by_cases k3 : kd s = 3
            · exact wr_mid3 h hr hs (by omega) gt hl k3
            · by_cases k4 : kd s = 4
              · exact wr_mid4 h hr hs (by omega) gt hl k4
              · by_cases k5 : kd s = 5
                · exact wr_mid5 h hr hs (by omega) gt hl na k5
                · by_cases k6 : kd s = 6
                  · exact wr_mid6 h hr hs (by omega) gt hl k6
                  · exact wr_mid1 h hr hs gt hl k0 k2 k3 k4 k5 k6 k7
        obtain ⟨G2, kd2, nd2, fd2, am2, hm2, vl2, rm2, m1, m2, m3, mX, mY⟩ := mid
        obtain ⟨G3, kd3, nd3, fd3, am3, hm3, r, f1, fX, fY⟩ := wr_fin (am := am2) m1 o1 m2
        refine ⟨G3, kd3, nd3, fd3, am3, hm3, vl2, rm2, r, f1, m3, ?_, ?_⟩
        · intro u post hu k
          revert hu
          refine wr_all (P := fun u => wr_RX N O (wr_hd G (-1) (-1)) kd nd fd am hm vl ds rm (wr_4 rm) u → wpX_deliver post u (nI s)) ?_ u
          intro c1 c2 c3 c4 c5 c6 c7 c8 c9 c10 c11 c12 c13 c14 c15 c16 c17 c18 c19 c20 c21 hu
          obtain ⟨_, _, _, _, _, hk, _, _, hH, _⟩ := wr_rd hu
          have go : wX_deliver_71 post (nI s) (kd s) (nI o) c1 c2 c3 c4 c5 c6 c7 c8 c9 c10 c11 c12 c13 c14 c15 c16 c17 c18 c19 c20 c21 := mX _ _ _ _ _ _ _ _ _ _ _ _ _ _ _ _ _ _ _ _ _ post hu (fun d1 d2 d3 d4 d5 d6 d7 d8 d9 d10 d11 d12 d13 d14 d15 d16 d17 d18 d19 d20 d21 h2 => wr_x217 (fX vl2 rm2 _ _ post h2 k))
          unfold wpX_deliver wpX_targetPlace
          refine br_f p0 (br_t p48 ⟨i1, nm_r (e' := kd s) (by rw [e1, hk]) (br_f k0 (br_f k2 ?_))⟩)
          rw [wr_tp]
          refine wr_robj hu (by omega) ?_
          rw [wr_hdn (by omega), gt]
          by_cases k7 : kd s = 7
          · exact br_t k7 go
          · refine br_f k7 ⟨vp_in_nI (by omega) (by omega), br_t ?_ go⟩
            rw [nI_clamp (by omega)]
            exact ((hH o (by omega)).2.2 hl).mpr (fun z => aw ⟨k7, z⟩)
        · intro v post hv k
          refine wr_yel (P := fun v => wpY_deliver post v (nI s)) hv ?_
          intro he fi tg ca hY
          have go := mY he fi tg ca post hY (fun he2 fi2 tg2 ca2 hY2 => fY vl2 rm2 he2 fi2 tg2 ca2 post hY2 k) (-1)
          unfold wpY_deliver
          refine br_f p0 (br_t p48 ⟨i1, nm_r (e' := kd s) (by rw [e1]) (br_f k0 ⟨i1, nm_r (e' := nI o) (by rw [e1, (hY.2 s hs).1]; exact gt) ⟨i1, nm_r (e' := nd s) (by rw [e1]) ⟨i1, nm_r (e' := fd s) (by rw [e1]) ⟨i1, nm_r (e' := G (96 + s)) (by rw [e1]; exact (hY.2 s hs).2) (br_f k2 ?_)⟩⟩⟩⟩)⟩)
          refine br_f k2 ?_
          by_cases k7 : kd s = 7
          · exact br_t k7 go
          · refine br_f k7 ⟨vp_in_nI (by omega) (by omega), br_f ?_ go⟩
            rw [nI_clamp (by omega)]
            exact fun z => aw ⟨k7, z⟩
theorem wr_swp : ∀ (d i x : Nat) {G kd nd fd am hm vl : Nat → Int32} {rm : Nat → Nat}, i + d = 48 → wr_IV N O 12 G kd nd fd hm ds → (∀ n, n < 4 → rm n ≤ 60) →
    ∃ (G' kd' nd' fd' am' hm' vl' : Nat → Int32) (rm' : Nat → Nat) (r : Int32), wr_IV N O 12 G' kd' nd' fd' hm' ds ∧ (∀ n, n < 4 → rm' n ≤ 60) ∧
      (∀ c1 c2 c3 c4 c5 c6 c7 c8 c9 c10 c11 c12 c13 c14 c15 c16 c17 c18 c19 c20 c21, ∀ post : Int32 → SX → Prop, wr_RX N O (wr_hd G (-1) (-1)) kd nd fd am hm vl ds rm (wr_4 rm) (c1, c2, c3, c4, c5, c6, c7, c8, c9, c10, c11, c12, c13, c14, c15, c16, c17, c18, c19, c20, c21) → (∀ u', wr_RX N O (wr_hd G' (-1) (-1)) kd' nd' fd' am' hm' vl' ds rm' (wr_4 rm') u' → post r u') → wX_sweep_4 post (d + 1) (nI x) (nI i) c1 c2 c3 c4 c5 c6 c7 c8 c9 c10 c11 c12 c13 c14 c15 c16 c17 c18 c19 c20 c21) ∧
      (∀ c1 c2 c3 c4 c5 c6 c7 c8 c9 c10 c11 c12 c13, ∀ post : Int32 → SY → Prop, wr_RY N O G kd nd fd am hm vl rm (c1, c2, c3, c4, c5, c6, c7, c8, c9, c10, c11, c12, c13) → (∀ v', wr_RY N O G' kd' nd' fd' am' hm' vl' rm' v' → post r v') → wY_sweep_4 post (d + 1) (nI x) (nI i) c1 c2 c3 c4 c5 c6 c7 c8 c9 c10 c11 c12 c13) := by
  intro d
  induction d with
  | zero =>
    intro i x G kd nd fd am hm vl rm hi h hr
    have ei : i = 48 := by omega
    rw [ei]
    exact ⟨G, kd, nd, fd, am, hm, vl, rm, nI x, h, hr, fun c1 c2 c3 c4 c5 c6 c7 c8 c9 c10 c11 c12 c13 c14 c15 c16 c17 c18 c19 c20 c21 post hu k => br_t (by decide) (k _ hu), fun c1 c2 c3 c4 c5 c6 c7 c8 c9 c10 c11 c12 c13 post hv k => br_t (by decide) (k _ hv)⟩
  | succ d ih =>
    intro i x G kd nd fd am hm vl rm hi h hr
    obtain ⟨G2, kd2, nd2, fd2, am2, hm2, vl2, rm2, r, m1, m2, mX, mY⟩ := wr_out (am := am) (vl := vl) h hr (show i < 48 by omega)
    have hi48 : ¬ (48 : Int32) ≤ nI i := nI_ge (b := 48) (by omega) (by decide)
    by_cases r0 : r = 0 ∨ r = 1
    · obtain ⟨G3, kd3, nd3, fd3, am3, hm3, vl3, rm3, r3, n1, n2, nX, nY⟩ := ih (i + 1) (x + 1) (am := am2) (vl := vl2) (by omega) m1 m2
      refine ⟨G3, kd3, nd3, fd3, am3, hm3, vl3, rm3, r3, n1, n2, ?_, ?_⟩
      · intro c1 c2 c3 c4 c5 c6 c7 c8 c9 c10 c11 c12 c13 c14 c15 c16 c17 c18 c19 c20 c21 post hu k
        refine br_f hi48 (mX _ _ hu (wr_all ?_))
        intro e1 e2 e3 e4 e5 e6 e7 e8 e9 e10 e11 e12 e13 e14 e15 e16 e17 e18 e19 e20 e21 h2
        have go := nX _ _ _ _ _ _ _ _ _ _ _ _ _ _ _ _ _ _ _ _ _ post h2 k
        rcases r0 with r0 | r0
        · exact br_t r0 (nm_r (nI_1 x) (nm_r (nI_1 i) go))
        · exact br_f (by rw [r0]; decide) (br_t r0 (nm_r (nI_1 x) (nm_r (nI_1 i) go)))
      · intro c1 c2 c3 c4 c5 c6 c7 c8 c9 c10 c11 c12 c13 post hv k
        refine br_f hi48 (mY _ _ hv (wr_yall ?_))
        intro e1 e2 e3 e4 e5 e6 e7 e8 e9 e10 e11 e12 e13 h2
        have go := nY _ _ _ _ _ _ _ _ _ _ _ _ _ post h2 k
        rcases r0 with r0 | r0
        · exact br_t r0 (nm_r (nI_1 x) (nm_r (nI_1 i) go))
        · exact br_f (by rw [r0]; decide) (br_t r0 (nm_r (nI_1 x) (nm_r (nI_1 i) go)))
    · obtain ⟨G3, kd3, nd3, fd3, am3, hm3, vl3, rm3, r3, n1, n2, nX, nY⟩ := ih (i + 1) x (am := am2) (vl := vl2) (by omega) m1 m2
      refine ⟨G3, kd3, nd3, fd3, am3, hm3, vl3, rm3, r3, n1, n2, ?_, ?_⟩
      · intro c1 c2 c3 c4 c5 c6 c7 c8 c9 c10 c11 c12 c13 c14 c15 c16 c17 c18 c19 c20 c21 post hu k
        refine br_f hi48 (mX _ _ hu (wr_all ?_))
        intro e1 e2 e3 e4 e5 e6 e7 e8 e9 e10 e11 e12 e13 e14 e15 e16 e17 e18 e19 e20 e21 h2
        have go := nX _ _ _ _ _ _ _ _ _ _ _ _ _ _ _ _ _ _ _ _ _ post h2 k
        exact br_f (fun z => r0 (Or.inl z)) (br_f (fun z => r0 (Or.inr z)) (nm_r (nI_1 i) go))
      · intro c1 c2 c3 c4 c5 c6 c7 c8 c9 c10 c11 c12 c13 post hv k
        refine br_f hi48 (mY _ _ hv (wr_yall ?_))
        intro e1 e2 e3 e4 e5 e6 e7 e8 e9 e10 e11 e12 e13 h2
        have go := nY _ _ _ _ _ _ _ _ _ _ _ _ _ post h2 k
        exact br_f (fun z => r0 (Or.inl z)) (br_f (fun z => r0 (Or.inr z)) (nm_r (nI_1 i) go))
end
end
section
/-! the relation, and the component's heads with empty hands -/
def i_Rel (_ : Nat) (u : SX) (v : SY) : Prop :=
  ∃ (N O : Nat) (G kd nd fd am hm vl ds : Nat → Int32) (rm : Nat → Nat), wr_IV N O 12 G kd nd fd hm ds ∧ (∀ n, n < 4 → rm n ≤ 60) ∧ wr_RX N O (wr_hd G (-1) (-1)) kd nd fd am hm vl ds rm (wr_4 rm) u ∧ wr_RY N O G kd nd fd am hm vl rm v
theorem i_up {k : Nat} {u : SX} {v : SY} (h : i_Rel k u v) : i_Rel (k + 5) u v := h
theorem wr_pid {f : Nat → Int32} {q : Nat} {x : Int32} (h : f q = x) : upd f q x = f := by
  funext j
  by_cases e : j = q
  · rw [e, pk_us]; exact h.symm
  · rw [pk_un e]
theorem wr_mvd {G : Nat → Int32} {p s : Nat} (h1 : G (96 + s) = -1) (h2 : p ≠ 48 + s) (h3 : p ≠ 96 + s) : upd (upd G (48 + s) (G p)) p (-1) = upd (upd (upd G p (-1)) (48 + s) (G p)) (96 + s) (-1) := by
  funext r
  by_cases r1 : r = 96 + s
  · rw [r1, pk_us, pk_un (fun z => h3 z.symm), pk_un (by omega)]; exact h1
  · rw [pk_un r1]
    by_cases r2 : r = 48 + s
    · rw [r2, pk_us, pk_un (fun z => h2 z.symm), pk_us]
    · rw [pk_un r2]
      by_cases r3 : r = p
      · rw [r3, pk_us, pk_us]
      · rw [pk_un r3, pk_un r3, pk_un r2]
section
variable {N O b : Nat} {G kd nd fd am hm vl ds : Nat → Int32} {rm : Nat → Nat}
theorem wr_ckX {post : Int32 → Prop} {u : SX} {n h : Nat} {y : Int32} (hu : wr_RX N O (wr_hd G (-1) (-1)) kd nd fd am hm vl ds rm b u) (hn : n < N) (hN : N ≤ 4) (h1 : wr_gd N y) (hh : h < 6) (k0 : G (n * 6 + h) = -1 → post (-4)) (k1 : G (n * 6 + h) ≠ -1 → post 0) : wpX_checkHandle post u (nI n) y (nI h) := by
  refine wr_ckE hu hn hN h1 hh ?_ ?_
  · rw [wr_hdn (by omega)]; exact k0
  · rw [wr_hdn (by omega)]; exact k1
theorem wr_spX {post : Int32 → Prop} {u : SX} {n m c : Nat} (hu : wr_RX N O (wr_hd G (-1) (-1)) kd nd fd am hm vl ds rm b u) (hn : n < 4) (hm2 : m ≤ 2) (hc : c ≤ 2) (k0 : 48 < wr_N (-1) G 144 + m → post (-8)) (k1 : wr_N (-1) G 144 + m ≤ 48 → rm n < c → post (-9)) (k2 : wr_N (-1) G 144 + m ≤ 48 → c ≤ rm n → post 0) : wpX_checkSpending post u (nI n) (nI m) (nI c) := by
  have e : wr_N (-1) (wr_hd G (-1) (-1)) 146 = wr_N (-1) G 144 := by rw [wr_hdN, wr_b0 rfl]; rfl
  refine wr_spend hu hn hm2 hc ?_ ?_ ?_
  · rw [e]; exact k0
  · rw [e]; exact k1
  · rw [e]; exact k2
theorem wr_pmH {post : Int32 → SX → Prop} {u : SX} {s p : Nat} {p0 p1 n' : Int32} (hu : wr_RX N O (wr_hd G (-1) (-1)) kd nd fd am hm vl ds rm b u) (hs : s < 48) (h0 : kd s = 0) (hb : ∀ j, j < s → kd j ≠ 0) (hk : p0 = 1 ∨ p0 = 2) (hg : G (48 + s) = -1) (hc : G (96 + s) = -1) (hp : p < 48) (hn : p0 = 2 → p1 = n')
    (k : ∀ u', wr_RX N O (wr_hd (upd (upd (upd G p (-1)) (48 + s) (G p)) (96 + s) (-1)) (-1) (-1)) (upd kd s p0) (upd nd s n') (upd fd s (-1)) (upd am s 0) hm vl ds rm b u' → post (nI s) u') : wpX_postMoved post u p0 p1 (nI p) := by
  have k0 : p0 ≠ 0 := by rcases hk with z | z <;> rw [z] <;> decide
  refine wr_rpm (n' := n') (f' := -1) (a' := 0) hu hs h0 hb k0 (by rw [wr_hdn (by omega)]; exact hg) (by omega) (by omega) ?_ ?_ ?_ ?_
  · intro y
    rcases y with y | y | y
    · exact hn y
    · rcases hk with z | z <;> rw [z] at y <;> exact absurd y (by decide)
    · rcases hk with z | z <;> rw [z] at y <;> exact absurd y (by decide)
  · intro y
    rcases hk with z | z <;> rw [z] at y <;> rcases y with y | y | y <;> exact absurd y (by decide)
  · intro y
    rcases hk with z | z <;> rw [z] at y <;> exact absurd y (by decide)
  · intro u' h'
    rw [wr_hdn (by omega), wr_hdu (by omega), wr_hdu (by omega), wr_mvd hc (by omega) (by omega)] at h'
    exact k u' h'
theorem wr_raim {post : SX → Prop} {u : SX} {s n h : Nat} {x y : Int32} (hu : wr_RX N O (wr_hd G x y) kd nd fd am hm vl ds rm b u) (hs : s < 48) (hn : n < 4) (hh : h < 6) (hg : G (48 + s) = -1) (h1 : G (n * 6 + h) ≠ -1) (hr : 1 ≤ rm n) (hb : 1 ≤ b)
    (k : ∀ u', wr_RX N O (wr_hd (upd G (48 + s) (G (n * 6 + h))) x y) kd nd fd am hm vl ds (wr_un rm n (rm n - 1)) (b - 1) u' → post u') : wpX_aim post u (nI s) (nI n) (nI h) := by
  revert hu
  refine wr_all (P := fun u => wr_RX N O (wr_hd G x y) kd nd fd am hm vl ds rm b u → wpX_aim post u (nI s) (nI n) (nI h)) ?_ u
  intro c1 c2 c3 c4 c5 c6 c7 c8 c9 c10 c11 c12 c13 c14 c15 c16 c17 c18 c19 c20 c21 hu
  unfold wpX_aim wpX_handlePlace wpX_targetPlace
  show wpX_copyLink _ _ (nI n * 6 + nI h) (48 + nI s) (nI n)
  rw [wr_hp, wr_tp]
  refine wr_rcopy hu (by omega) (by omega) (by omega) (by rw [wr_hdn (by omega)]; exact hg) (by rw [wr_hdn (by omega)]; exact h1) hn hr hb (wr_all ?_)
  intro d1 d2 d3 d4 d5 d6 d7 d8 d9 d10 d11 d12 d13 d14 d15 d16 d17 d18 d19 d20 d21 h2
  rw [wr_hdn (by omega), wr_hdu (by omega)] at h2
  exact k _ h2
/-- a message with a copied target link -/
theorem wr_send {post : SX → Prop} {u : SX} {s n h : Nat} (hu : wr_RX N O (wr_hd G (-1) (-1)) kd nd fd am hm vl ds rm (wr_4 rm) u) (hs : s < 48) (hn : n < 4) (hh : h < 6) (hg : G (48 + s) = -1) (hc : G (96 + s) = -1) (h1 : G (n * 6 + h) ≠ -1) (hr : 1 ≤ rm n)
    (k : ∀ u', wr_RX N O (wr_hd (upd (upd G (48 + s) (G (n * 6 + h))) (96 + s) (-1)) (-1) (-1)) kd nd fd am hm vl ds (wr_un rm n (rm n - 1)) (wr_4 (wr_un rm n (rm n - 1))) u' → post u') : wpX_aim post u (nI s) (nI n) (nI h) := by
  obtain ⟨b1, b2⟩ := wr_4u (rm := rm) hn hr
  refine wr_raim hu hs hn hh hg h1 hr b2 ?_
  rw [← b1]
  have e : upd (upd G (48 + s) (G (n * 6 + h))) (96 + s) (-1) = upd G (48 + s) (G (n * 6 + h)) := wr_pid (by rw [pk_un (by omega)]; exact hc)
  rw [e] at k
  exact k
theorem wr_rdep {post : SX → Prop} {u : SX} {o n : Nat} (hu : wr_RX N O G kd nd fd am hm vl ds rm b u) (ho : o < 12) (hl : hm o ≠ -1) (hb : 1 ≤ b)
    (k : ∀ u', wr_RX N O G kd nd fd am (upd hm o (-10)) vl (upd ds o (nI n)) rm (b - 1) u' → post u') : wpX_depart post u (nI o) (nI n) := by
  refine wr_el (P := fun u => wpX_depart post u (nI o) (nI n)) hu ?_
  intro W sp lv mf tl lc lw cw co cn sc an vs it mn mg ma ob rk hF
  obtain ⟨⟨g1, g2, g3, g4, g5⟩, hL, hG, hH, hM⟩ := hF
  have al : an o ≠ -1 := fun z => hl ((hH o ho).1.mp z)
  obtain ⟨u1, a, u2, u3, u4, u5⟩ := hL.2.2.2.2.2.2.1 o ho al
  have lvb : lv ≤ O := by rw [g5]; exact wr_N_le _ _ _
  have hl0 := hL.1
  obtain ⟨s, rfl⟩ : ∃ s, sp = s + 1 := ⟨sp - 1, by omega⟩
  obtain ⟨f1, f2, f3, f4, f5⟩ := wr_fresh hL rfl
  have s252 : s < 252 := by have := hL.2.2.2.2.2.2.2.2.2.2; omega
  have e1 : (nI o).toNatClampNeg = o := nI_clamp (by omega)
  have i1 : vp_in (nI o) 12 := vp_in_nI ho (by omega)
  have e2 : (nI a).toNatClampNeg = a := nI_clamp (by omega)
  have i2 : vp_in (nI a) 252 := vp_in_nI u2 (by omega)
  have e3 : (nI (146 + a)).toNatClampNeg = 146 + a := nI_clamp (by omega)
  have i3 : vp_in (nI (146 + a)) 398 := vp_in_nI (by omega) (by omega)
  have nac : a ≠ sc s := fun z => by rw [z] at u4; omega
  have hL2 := wr_depart hL (c := sc s) rfl hb ho u3 u2
  unfold wpX_depart
  refine ⟨i1, nm_r (e' := nI a) (by rw [e1]; exact u3) (wr_xtake s252 rfl f1 ?_)⟩
  unfold wpX_innerPlace
  show vp_in (nI a) 252 ∧ _
  rw [wr_ip]
  refine ⟨i2, nm_r (e' := upd (upd co (sc s) (nI o)) a (-1)) (by rw [e2]) ⟨i3, nm_r (e' := fun i => nI (wr_un lc (146 + a) (sc s) i)) (by rw [e3, wr_nu]) ⟨i3, nm_r (e' := fun i => nI (wr_un lw (146 + a) W i)) (by rw [e3, wr_nu]) ⟨i1, nm_r (e' := upd an o (nI (sc s))) (by rw [e1]) ⟨i1, nm_r (e' := upd it o 1) (by rw [e1, wr_bo1]) (k _ ?_)⟩⟩⟩⟩⟩
  refine wr_in (upd ob (sc s) (nI o)) (wr_up rk (sc s)) ⟨⟨g1, g2, g3, g4, ?_⟩, hL2, ?_, ?_, hM⟩
  · have q := wr_N_upd (y := -1) (x := -10) (f := hm) (n := O) u1
    rw [wr_b1 hl, wr_b1 (by decide)] at q
    omega
  · intro r hr
    rw [wr_ue (show r ≠ 146 + a by omega), wr_ue (show r ≠ 146 + a by omega)]
    by_cases e4 : lw r = 0
    · rw [if_pos e4]; exact wr_glz hG hr e4
    · rw [if_neg e4, pk_un (f3 r (by omega) (by omega))]
      exact wr_gl1 hG hr (by omega)
  · intro r hr
    obtain ⟨x1, x2, x3⟩ := hH r hr
    by_cases e : r = o
    · rw [e] at x2 ⊢
      rw [pk_us, pk_us, pk_us, pk_us, nI_clamp (by omega), pk_us]
      exact ⟨⟨fun z => absurd z (wr_nm (by omega)), fun z => absurd z (by decide)⟩, fun _ => ⟨rfl, (x2 al).2⟩, fun _ => ⟨fun z => absurd z (by decide), fun z => absurd rfl z⟩⟩
    · rw [pk_un e, pk_un e, pk_un e, pk_un e]
      refine ⟨x1, fun z => ?_, x3⟩
      obtain ⟨v1, a', v2, v3, v4, v5⟩ := hL.2.2.2.2.2.2.1 r hr z
      have na : (an r).toNatClampNeg ≠ sc s := by
        rw [v3, nI_clamp (by omega)]
        intro y; rw [y] at v4; omega
      rw [pk_un na]
      exact x2 z
end
end
section
/-! drop, give, send, tell, copy -/
theorem i_vc_drop {k : Nat} {u : SX} {v : SY} (I : i_Rel k u v) (hk : k + 5 ≤ 2564) (v1 : Int32) (v2 : Int32) : wpX_drop (fun r u' => wpY_drop (fun r' v' => r' = r ∧ i_Rel (k + 5) u' v') v v1 v2) u v1 v2 := by
  obtain ⟨N, O, G, kd, nd, fd, am, hm, vl, ds, rm, hI, hr, hX0, hY0⟩ := I
  revert hX0
  refine wr_all (P := fun u => wr_RX N O (wr_hd G (-1) (-1)) kd nd fd am hm vl ds rm (wr_4 rm) u → wpX_drop (fun r u' => wpY_drop (fun r' v' => r' = r ∧ i_Rel (k + 5) u' v') v v1 v2) u v1 v2) ?_ u
  intro c1 c2 c3 c4 c5 c6 c7 c8 c9 c10 c11 c12 c13 c14 c15 c16 c17 c18 c19 c20 c21 hX
  refine wr_yk (P := fun v => wpX_drop (fun r u' => wpY_drop (fun r' v' => r' = r ∧ i_Rel (k + 5) u' v') v v1 v2) (c1, c2, c3, c4, c5, c6, c7, c8, c9, c10, c11, c12, c13, c14, c15, c16, c17, c18, c19, c20, c21) v1 v2) ?_ v hY0
  intro he fi tg ca hG
  have hY : wr_RY N O G kd nd fd am hm vl rm (nI N, nI O, he, fi, hm, vl, (fun i => nI (rm i)), kd, tg, nd, fd, ca, am) := wr_yin hG
  have IR : i_Rel (k + 5) (c1, c2, c3, c4, c5, c6, c7, c8, c9, c10, c11, c12, c13, c14, c15, c16, c17, c18, c19, c20, c21) (nI N, nI O, he, fi, hm, vl, (fun i => nI (rm i)), kd, tg, nd, fd, ca, am) := ⟨N, O, G, kd, nd, fd, am, hm, vl, ds, rm, hI, hr, hX, hY⟩
  have N4 := hI.1.2.1
  have O12 := hI.1.2.2.2.1
  have gO : ∀ p, p < 144 → G p ≠ -1 → ∃ o, o < O ∧ G p = nI o := fun p hp z => by
    obtain ⟨o, o1, o2, _⟩ := hI.2.1 p hp z
    exact ⟨o, o1, o2⟩
  by_cases g1 : wr_gd N v1
  · by_cases g2 : wr_gd 6 v2
    · obtain ⟨n, hn, rfl⟩ := g1
      obtain ⟨h, hh, rfl⟩ := g2
      have e6 : (nI (n * 6 + h)).toNatClampNeg = n * 6 + h := nI_clamp (by omega)
      have i6 : vp_in (nI (n * 6 + h)) 24 := vp_in_nI (by omega) (by omega)
      have eh : he (n * 6 + h) = G (n * 6 + h) := (hG.1 _ (by omega)).1
      by_cases ge : G (n * 6 + h) = -1
      · unfold wpX_drop
        refine wr_ckX hX hn N4 ⟨n, hn, rfl⟩ hh (fun _ => br_f (by decide) ?_) (fun z => absurd ge z)
        unfold wpY_drop
        refine wr_ynodT hY N4 ⟨n, hn, rfl⟩ (br_t rfl (wr_yhanT ⟨h, hh, rfl⟩ (br_t rfl ?_) _))
        rw [wr_hp]
        exact ⟨i6, nm_r (e' := G (n * 6 + h)) (by rw [e6]; exact eh) (br_t ge ⟨rfl, IR⟩)⟩
      · obtain ⟨o, o1, o2, o3⟩ := hI.2.1 (n * 6 + h) (by omega) ge
        obtain ⟨s, s1, s2, s3⟩ := wr_slot hI (Or.inr ⟨n * 6 + h, by omega, ge⟩)
        have gt : G (48 + s) = -1 := (hI.2.2.2.1 s s1).1.mp s2
        have gc : G (96 + s) = -1 := wr_noc hI s1 (by rw [s2]; decide)
        have i1 := wr_iclr hI (p := n * 6 + h) (by omega)
        have cn := wr_N_upd (y := -1) (x := -1) (f := G) (n := 144) (q := n * 6 + h) (by omega)
        rw [wr_b0 rfl, wr_b1 ge] at cn
        have c48 := hI.1.2.2.2.2
        have i2 := wr_ipost i1 (k := 1) (c := -1) (n := -1) (f := -1) s1 s2 (by decide) o1 o3 (fun y => absurd rfl y) ⟨fun y => absurd y (by decide), fun y => absurd rfl y⟩ (by rw [wr_b0 rfl]; omega) (fun y => by rcases y with y | y | y <;> exact absurd y (by decide)) (fun y => by rcases y with y | y | y <;> exact absurd y (by decide)) (fun y => absurd y (by decide))
        rw [← o2] at i2
        unfold wpX_drop wpX_handlePlace
        rw [wr_hp]
        refine wr_ckX hX hn N4 ⟨n, hn, rfl⟩ hh (fun z => absurd z ge) (fun _ => br_t (by decide) ?_)
        refine wr_pmH (n' := -1) hX s1 s2 s3 (Or.inl rfl) gt gc (by omega) (fun y => absurd y (by decide)) (wr_all ?_)
        intro d1 d2 d3 d4 d5 d6 d7 d8 d9 d10 d11 d12 d13 d14 d15 d16 d17 d18 d19 d20 d21 h2
        unfold wpY_drop
        refine wr_ynodT hY N4 ⟨n, hn, rfl⟩ (br_t rfl (wr_yhanT ⟨h, hh, rfl⟩ (br_t rfl ?_) _))
        rw [wr_hp]
        refine ⟨i6, nm_r (e' := G (n * 6 + h)) (by rw [e6]; exact eh) (br_f ge ⟨i6, nm_r (e' := upd he (n * 6 + h) (-1)) (by rw [e6]) ?_⟩)⟩
        refine wr_yplace (wr_yin (wr_YGh hG (by omega))) s1 s2 s3 (wr_yall ?_)
        intro e1 e2 e3 e4 e5 e6 e7 e8 e9 e10 e11 e12 e13 h3
        exact ⟨rfl, N, O, _, _, _, _, _, hm, vl, ds, rm, i2, hr, h2, h3⟩
    · unfold wpX_drop
      refine wr_ckH hX g1 g1 g2 (br_f (by decide) ?_)
      unfold wpY_drop
      exact wr_ynodT hY N4 g1 (br_t rfl (wr_yhanF g2 (br_f (by decide) ⟨rfl, IR⟩) _))
  · unfold wpX_drop
    refine wr_ckN0 hX g1 (br_f (by decide) ?_)
    unfold wpY_drop
    exact wr_ynodF hY N4 g1 (br_f (by decide) ⟨rfl, IR⟩)
theorem i_vc_give {k : Nat} {u : SX} {v : SY} (I : i_Rel k u v) (hk : k + 5 ≤ 2564) (v1 : Int32) (v2 : Int32) (v3 : Int32) : wpX_give (fun r u' => wpY_give (fun r' v' => r' = r ∧ i_Rel (k + 5) u' v') v v1 v2 v3) u v1 v2 v3 := by
  obtain ⟨N, O, G, kd, nd, fd, am, hm, vl, ds, rm, hI, hr, hX0, hY0⟩ := I
  revert hX0
  refine wr_all (P := fun u => wr_RX N O (wr_hd G (-1) (-1)) kd nd fd am hm vl ds rm (wr_4 rm) u → wpX_give (fun r u' => wpY_give (fun r' v' => r' = r ∧ i_Rel (k + 5) u' v') v v1 v2 v3) u v1 v2 v3) ?_ u
  intro c1 c2 c3 c4 c5 c6 c7 c8 c9 c10 c11 c12 c13 c14 c15 c16 c17 c18 c19 c20 c21 hX
  refine wr_yk (P := fun v => wpX_give (fun r u' => wpY_give (fun r' v' => r' = r ∧ i_Rel (k + 5) u' v') v v1 v2 v3) (c1, c2, c3, c4, c5, c6, c7, c8, c9, c10, c11, c12, c13, c14, c15, c16, c17, c18, c19, c20, c21) v1 v2 v3) ?_ v hY0
  intro he fi tg ca hG
  have hY : wr_RY N O G kd nd fd am hm vl rm (nI N, nI O, he, fi, hm, vl, (fun i => nI (rm i)), kd, tg, nd, fd, ca, am) := wr_yin hG
  have IR : i_Rel (k + 5) (c1, c2, c3, c4, c5, c6, c7, c8, c9, c10, c11, c12, c13, c14, c15, c16, c17, c18, c19, c20, c21) (nI N, nI O, he, fi, hm, vl, (fun i => nI (rm i)), kd, tg, nd, fd, ca, am) := ⟨N, O, G, kd, nd, fd, am, hm, vl, ds, rm, hI, hr, hX, hY⟩
  have N4 := hI.1.2.1
  have O12 := hI.1.2.2.2.1
  have gO : ∀ p, p < 144 → G p ≠ -1 → ∃ o, o < O ∧ G p = nI o := fun p hp z => by
    obtain ⟨o, o1, o2, _⟩ := hI.2.1 p hp z
    exact ⟨o, o1, o2⟩
  by_cases g1 : wr_gd N v1
  · by_cases g3 : wr_gd N v3
    · by_cases g2 : wr_gd 6 v2
      · obtain ⟨n, hn, rfl⟩ := g1
        obtain ⟨h, hh, rfl⟩ := g2
        have e6 : (nI (n * 6 + h)).toNatClampNeg = n * 6 + h := nI_clamp (by omega)
        have i6 : vp_in (nI (n * 6 + h)) 24 := vp_in_nI (by omega) (by omega)
        have eh : he (n * 6 + h) = G (n * 6 + h) := (hG.1 _ (by omega)).1
        by_cases ge : G (n * 6 + h) = -1
        · unfold wpX_give
          refine wr_ckX hX hn N4 g3 hh (fun _ => br_f (by decide) ?_) (fun z => absurd ge z)
          unfold wpY_give
          refine wr_ynodT hY N4 ⟨n, hn, rfl⟩ (br_t rfl (wr_ynodT hY N4 g3 (br_t rfl (wr_yhanT ⟨h, hh, rfl⟩ (br_t rfl ?_) _))))
          rw [wr_hp]
          exact ⟨i6, nm_r (e' := G (n * 6 + h)) (by rw [e6]; exact eh) (br_t ge ⟨rfl, IR⟩)⟩
        · obtain ⟨o, o1, o2, o3⟩ := hI.2.1 (n * 6 + h) (by omega) ge
          obtain ⟨s, s1, s2, s3⟩ := wr_slot hI (Or.inr ⟨n * 6 + h, by omega, ge⟩)
          have gt : G (48 + s) = -1 := (hI.2.2.2.1 s s1).1.mp s2
          have gc : G (96 + s) = -1 := wr_noc hI s1 (by rw [s2]; decide)
          have i1 := wr_iclr hI (p := n * 6 + h) (by omega)
          have cn := wr_N_upd (y := -1) (x := -1) (f := G) (n := 144) (q := n * 6 + h) (by omega)
          rw [wr_b0 rfl, wr_b1 ge] at cn
          have c48 := hI.1.2.2.2.2
          have i2 := wr_ipost i1 (k := 2) (c := -1) (n := v3) (f := -1) s1 s2 (by decide) o1 o3 (fun y => absurd rfl y) ⟨fun y => absurd y (by decide), fun y => absurd rfl y⟩ (by rw [wr_b0 rfl]; omega) (fun _ => g3) (fun y => by rcases y with y | y | y <;> exact absurd y (by decide)) (fun y => absurd y (by decide))
          rw [← o2] at i2
          unfold wpX_give wpX_handlePlace
          rw [wr_hp]
          refine wr_ckX hX hn N4 g3 hh (fun z => absurd z ge) (fun _ => br_t (by decide) ?_)
          refine wr_pmH (n' := v3) hX s1 s2 s3 (Or.inr rfl) gt gc (by omega) (fun _ => rfl) (wr_all ?_)
          intro d1 d2 d3 d4 d5 d6 d7 d8 d9 d10 d11 d12 d13 d14 d15 d16 d17 d18 d19 d20 d21 h2
          unfold wpY_give
          refine wr_ynodT hY N4 ⟨n, hn, rfl⟩ (br_t rfl (wr_ynodT hY N4 g3 (br_t rfl (wr_yhanT ⟨h, hh, rfl⟩ (br_t rfl ?_) _))))
          rw [wr_hp]
          refine ⟨i6, nm_r (e' := G (n * 6 + h)) (by rw [e6]; exact eh) (br_f ge ⟨i6, nm_r (e' := upd he (n * 6 + h) (-1)) (by rw [e6]) ?_⟩)⟩
          refine wr_yplace (wr_yin (wr_YGh hG (by omega))) s1 s2 s3 (wr_yall ?_)
          intro e1 e2 e3 e4 e5 e6 e7 e8 e9 e10 e11 e12 e13 h3
          exact ⟨rfl, N, O, _, _, _, _, _, hm, vl, ds, rm, i2, hr, h2, h3⟩
      · unfold wpX_give
        refine wr_ckH hX g1 g3 g2 (br_f (by decide) ?_)
        unfold wpY_give
        exact wr_ynodT hY N4 g1 (br_t rfl (wr_ynodT hY N4 g3 (br_t rfl (wr_yhanF g2 (br_f (by decide) ⟨rfl, IR⟩) _))))
    · unfold wpX_give
      refine wr_ckN1 hX g1 g3 (br_f (by decide) ?_)
      unfold wpY_give
      exact wr_ynodT hY N4 g1 (br_t rfl (wr_ynodF hY N4 g3 (br_f (by decide) ⟨rfl, IR⟩)))
  · unfold wpX_give
    refine wr_ckN0 hX g1 (br_f (by decide) ?_)
    unfold wpY_give
    exact wr_ynodF hY N4 g1 (br_f (by decide) ⟨rfl, IR⟩)
end
section
/-! send, tell, copy -/
theorem wr_sub1 {rm : Nat → Nat} {n : Nat} (hn : n < 4) (h : 1 ≤ rm n) : upd (fun i => nI (rm i)) (nI n).toNatClampNeg ((fun i => nI (rm i)) (nI n).toNatClampNeg - 1) = fun i => nI (wr_un rm n (rm n - 1) i) := by
  rw [nI_clamp (show n < 2 ^ 31 by omega)]
  show upd _ n (nI (rm n) - 1) = _
  rw [wr_s1 h, wr_nu]
theorem wr_sub2 {rm : Nat → Nat} {n : Nat} (hn : n < 4) (h : 2 ≤ rm n) : upd (fun i => nI (rm i)) (nI n).toNatClampNeg ((fun i => nI (rm i)) (nI n).toNatClampNeg - 2) = fun i => nI (wr_un rm n (rm n - 2) i) := by
  have e : nI (rm n) - 2 = nI (rm n - 2) := pk_sub (b := 2) h
  rw [nI_clamp (show n < 2 ^ 31 by omega)]
  show upd _ n (nI (rm n) - 2) = _
  rw [e, wr_nu]
theorem i_vc_send {k : Nat} {u : SX} {v : SY} (I : i_Rel k u v) (hk : k + 5 ≤ 2564) (v1 : Int32) (v2 : Int32) (v3 : Int32) : wpX_send (fun r u' => wpY_send (fun r' v' => r' = r ∧ i_Rel (k + 5) u' v') v v1 v2 v3) u v1 v2 v3 := by
  obtain ⟨N, O, G, kd, nd, fd, am, hm, vl, ds, rm, hI, hr, hX0, hY0⟩ := I
  revert hX0
  refine wr_all (P := fun u => wr_RX N O (wr_hd G (-1) (-1)) kd nd fd am hm vl ds rm (wr_4 rm) u → wpX_send (fun r u' => wpY_send (fun r' v' => r' = r ∧ i_Rel (k + 5) u' v') v v1 v2 v3) u v1 v2 v3) ?_ u
  intro c1 c2 c3 c4 c5 c6 c7 c8 c9 c10 c11 c12 c13 c14 c15 c16 c17 c18 c19 c20 c21 hX
  refine wr_yk (P := fun v => wpX_send (fun r u' => wpY_send (fun r' v' => r' = r ∧ i_Rel (k + 5) u' v') v v1 v2 v3) (c1, c2, c3, c4, c5, c6, c7, c8, c9, c10, c11, c12, c13, c14, c15, c16, c17, c18, c19, c20, c21) v1 v2 v3) ?_ v hY0
  intro he fi tg ca hG
  have hY : wr_RY N O G kd nd fd am hm vl rm (nI N, nI O, he, fi, hm, vl, (fun i => nI (rm i)), kd, tg, nd, fd, ca, am) := wr_yin hG
  have IR : i_Rel (k + 5) (c1, c2, c3, c4, c5, c6, c7, c8, c9, c10, c11, c12, c13, c14, c15, c16, c17, c18, c19, c20, c21) (nI N, nI O, he, fi, hm, vl, (fun i => nI (rm i)), kd, tg, nd, fd, ca, am) := ⟨N, O, G, kd, nd, fd, am, hm, vl, ds, rm, hI, hr, hX, hY⟩
  have N4 := hI.1.2.1
  have O12 := hI.1.2.2.2.1
  have gO : ∀ p, p < 144 → G p ≠ -1 → ∃ o, o < O ∧ G p = nI o := fun p hp z => by
    obtain ⟨o, o1, o2, _⟩ := hI.2.1 p hp z
    exact ⟨o, o1, o2⟩
  by_cases g1 : wr_gd N v1
  · by_cases g3 : wr_gd N v3
    · by_cases g2 : wr_gd 6 v2
      · obtain ⟨n, hn, rfl⟩ := g1
        obtain ⟨h, hh, rfl⟩ := g2
        have e6 : (nI (n * 6 + h)).toNatClampNeg = n * 6 + h := nI_clamp (by omega)
        have i6 : vp_in (nI (n * 6 + h)) 24 := vp_in_nI (by omega) (by omega)
        have eh : he (n * 6 + h) = G (n * 6 + h) := (hG.1 _ (by omega)).1
        have rn := hr n (by omega)
        have in4 : vp_in (nI n) 4 := vp_in_nI (by omega) (by omega)
        by_cases ge : G (n * 6 + h) = -1
        · unfold wpX_send
          refine wr_ckX hX hn N4 g3 hh (fun _ => br_f (by decide) ?_) (fun z => absurd ge z)
          unfold wpY_send
          refine wr_ynodT hY N4 ⟨n, hn, rfl⟩ (br_t rfl (wr_ynodT hY N4 g3 (br_t rfl (wr_yhanT ⟨h, hh, rfl⟩ (br_t rfl ?_) _))))
          rw [wr_hp]
          exact ⟨i6, nm_r (e' := G (n * 6 + h)) (by rw [e6]; exact eh) (br_t ge ⟨rfl, IR⟩)⟩
        · unfold wpX_send
          refine wr_ckX hX hn N4 g3 hh (fun z => absurd z ge) (fun _ => br_t (by decide) ?_)
          refine wr_spX (m := 1) (c := 1) hX (by omega) (by omega) (by omega) (fun z => br_f (by decide) ?_) (fun z1 z2 => br_f (by decide) ?_) (fun z1 z2 => br_t (by decide) ?_)
          · unfold wpY_send
            refine wr_ynodT hY N4 ⟨n, hn, rfl⟩ (br_t rfl (wr_ynodT hY N4 g3 (br_t rfl (wr_yhanT ⟨h, hh, rfl⟩ (br_t rfl ?_) _))))
            rw [wr_hp]
            refine ⟨i6, nm_r (e' := G (n * 6 + h)) (by rw [e6]; exact eh) (br_f ge ?_)⟩
            exact wr_ylim (m := 1) (c := 1) hY O12 gO rn (by omega) (by omega) (by omega) (fun _ => br_f (by decide) ⟨rfl, IR⟩) (fun y1 y2 => by omega) (fun y1 y2 => by omega)
          · unfold wpY_send
            refine wr_ynodT hY N4 ⟨n, hn, rfl⟩ (br_t rfl (wr_ynodT hY N4 g3 (br_t rfl (wr_yhanT ⟨h, hh, rfl⟩ (br_t rfl ?_) _))))
            rw [wr_hp]
            refine ⟨i6, nm_r (e' := G (n * 6 + h)) (by rw [e6]; exact eh) (br_f ge ?_)⟩
            exact wr_ylim (m := 1) (c := 1) hY O12 gO rn (by omega) (by omega) (by omega) (fun y1 => by omega) (fun _ _ => br_f (by decide) ⟨rfl, IR⟩) (fun y1 y2 => by omega)
          · obtain ⟨o, o1, o2, o3⟩ := hI.2.1 (n * 6 + h) (by omega) ge
            obtain ⟨s, s1, s2, s3⟩ := wr_slot hI (Or.inl z1)
            have gt : G (48 + s) = -1 := (hI.2.2.2.1 s s1).1.mp s2
            have gc : G (96 + s) = -1 := wr_noc hI s1 (by rw [s2]; decide)
            have i2 := wr_ipost hI (k := 2) (c := -1) (n := v3) (f := -1) s1 s2 (by decide) o1 o3 (fun y => absurd rfl y) ⟨fun y => absurd y (by decide), fun y => absurd rfl y⟩ (by rw [wr_b0 rfl]; omega) (fun _ => g3) (fun y => by rcases y with y | y | y <;> exact absurd y (by decide)) (fun y => absurd y (by decide))
            rw [← o2] at i2
            refine wr_rpost (n' := v3) (f' := -1) (a' := 0) hX s1 s2 s3 (by decide) (fun _ => rfl) (fun y => by rcases y with y | y | y <;> exact absurd y (by decide)) (fun y => absurd y (by decide)) (wr_all ?_)
            intro d1 d2 d3 d4 d5 d6 d7 d8 d9 d10 d11 d12 d13 d14 d15 d16 d17 d18 d19 d20 d21 h2
            refine wr_send h2 s1 (by omega) hh gt gc ge z2 (wr_all ?_)
            intro j1 j2 j3 j4 j5 j6 j7 j8 j9 j10 j11 j12 j13 j14 j15 j16 j17 j18 j19 j20 j21 h3
            unfold wpY_send
            refine wr_ynodT hY N4 ⟨n, hn, rfl⟩ (br_t rfl (wr_ynodT hY N4 g3 (br_t rfl (wr_yhanT ⟨h, hh, rfl⟩ (br_t rfl ?_) _))))
            rw [wr_hp]
            refine ⟨i6, nm_r (e' := G (n * 6 + h)) (by rw [e6]; exact eh) (br_f ge ?_)⟩
            refine wr_ylim (m := 1) (c := 1) hY O12 gO rn (by omega) (by omega) (by omega) (fun y1 => by omega) (fun y1 y2 => by omega) (fun _ _ => br_t rfl ⟨in4, in4, nm_r (wr_sub1 (by omega) z2) ?_⟩)
            refine wr_yplace (wr_yin hG) s1 s2 s3 (wr_yall ?_)
            intro f1 f2 f3 f4 f5 f6 f7 f8 f9 f10 f11 f12 f13 h4
            exact ⟨rfl, N, O, _, _, _, _, _, hm, vl, ds, _, i2, wr_4b hr (by omega), h3, h4⟩
      · unfold wpX_send
        refine wr_ckH hX g1 g3 g2 (br_f (by decide) ?_)
        unfold wpY_send
        exact wr_ynodT hY N4 g1 (br_t rfl (wr_ynodT hY N4 g3 (br_t rfl (wr_yhanF g2 (br_f (by decide) ⟨rfl, IR⟩) _))))
    · unfold wpX_send
      refine wr_ckN1 hX g1 g3 (br_f (by decide) ?_)
      unfold wpY_send
      exact wr_ynodT hY N4 g1 (br_t rfl (wr_ynodF hY N4 g3 (br_f (by decide) ⟨rfl, IR⟩)))
  · unfold wpX_send
    refine wr_ckN0 hX g1 (br_f (by decide) ?_)
    unfold wpY_send
    exact wr_ynodF hY N4 g1 (br_f (by decide) ⟨rfl, IR⟩)
theorem i_vc_tell {k : Nat} {u : SX} {v : SY} (I : i_Rel k u v) (hk : k + 5 ≤ 2564) (v1 : Int32) (v2 : Int32) (v3 : Int32) : wpX_tell (fun r u' => wpY_tell (fun r' v' => r' = r ∧ i_Rel (k + 5) u' v') v v1 v2 v3) u v1 v2 v3 := by
  obtain ⟨N, O, G, kd, nd, fd, am, hm, vl, ds, rm, hI, hr, hX0, hY0⟩ := I
  revert hX0
  refine wr_all (P := fun u => wr_RX N O (wr_hd G (-1) (-1)) kd nd fd am hm vl ds rm (wr_4 rm) u → wpX_tell (fun r u' => wpY_tell (fun r' v' => r' = r ∧ i_Rel (k + 5) u' v') v v1 v2 v3) u v1 v2 v3) ?_ u
  intro c1 c2 c3 c4 c5 c6 c7 c8 c9 c10 c11 c12 c13 c14 c15 c16 c17 c18 c19 c20 c21 hX
  refine wr_yk (P := fun v => wpX_tell (fun r u' => wpY_tell (fun r' v' => r' = r ∧ i_Rel (k + 5) u' v') v v1 v2 v3) (c1, c2, c3, c4, c5, c6, c7, c8, c9, c10, c11, c12, c13, c14, c15, c16, c17, c18, c19, c20, c21) v1 v2 v3) ?_ v hY0
  intro he fi tg ca hG
  have hY : wr_RY N O G kd nd fd am hm vl rm (nI N, nI O, he, fi, hm, vl, (fun i => nI (rm i)), kd, tg, nd, fd, ca, am) := wr_yin hG
  have IR : i_Rel (k + 5) (c1, c2, c3, c4, c5, c6, c7, c8, c9, c10, c11, c12, c13, c14, c15, c16, c17, c18, c19, c20, c21) (nI N, nI O, he, fi, hm, vl, (fun i => nI (rm i)), kd, tg, nd, fd, ca, am) := ⟨N, O, G, kd, nd, fd, am, hm, vl, ds, rm, hI, hr, hX, hY⟩
  have N4 := hI.1.2.1
  have O12 := hI.1.2.2.2.1
  have gO : ∀ p, p < 144 → G p ≠ -1 → ∃ o, o < O ∧ G p = nI o := fun p hp z => by
    obtain ⟨o, o1, o2, _⟩ := hI.2.1 p hp z
    exact ⟨o, o1, o2⟩
  by_cases g1 : wr_gd N v1
  · by_cases g2 : wr_gd 6 v2
    · obtain ⟨n, hn, rfl⟩ := g1
      obtain ⟨h, hh, rfl⟩ := g2
      have e6 : (nI (n * 6 + h)).toNatClampNeg = n * 6 + h := nI_clamp (by omega)
      have i6 : vp_in (nI (n * 6 + h)) 24 := vp_in_nI (by omega) (by omega)
      have eh : he (n * 6 + h) = G (n * 6 + h) := (hG.1 _ (by omega)).1
      have rn := hr n (by omega)
      have in4 : vp_in (nI n) 4 := vp_in_nI (by omega) (by omega)
      by_cases ge : G (n * 6 + h) = -1
      · unfold wpX_tell
        refine wr_ckX hX hn N4 ⟨n, hn, rfl⟩ hh (fun _ => br_f (by decide) ?_) (fun z => absurd ge z)
        unfold wpY_tell
        refine wr_ynodT hY N4 ⟨n, hn, rfl⟩ (br_t rfl (wr_yhanT ⟨h, hh, rfl⟩ (br_t rfl ?_) _))
        rw [wr_hp]
        exact ⟨i6, nm_r (e' := G (n * 6 + h)) (by rw [e6]; exact eh) (br_t ge ⟨rfl, IR⟩)⟩
      · unfold wpX_tell
        refine wr_ckX hX hn N4 ⟨n, hn, rfl⟩ hh (fun z => absurd z ge) (fun _ => br_t (by decide) ?_)
        refine wr_spX (m := 1) (c := 1) hX (by omega) (by omega) (by omega) (fun z => br_f (by decide) ?_) (fun z1 z2 => br_f (by decide) ?_) (fun z1 z2 => br_t (by decide) ?_)
        · unfold wpY_tell
          refine wr_ynodT hY N4 ⟨n, hn, rfl⟩ (br_t rfl (wr_yhanT ⟨h, hh, rfl⟩ (br_t rfl ?_) _))
          rw [wr_hp]
          refine ⟨i6, nm_r (e' := G (n * 6 + h)) (by rw [e6]; exact eh) (br_f ge ?_)⟩
          exact wr_ylim (m := 1) (c := 1) hY O12 gO rn (by omega) (by omega) (by omega) (fun _ => br_f (by decide) ⟨rfl, IR⟩) (fun y1 y2 => by omega) (fun y1 y2 => by omega)
        · unfold wpY_tell
          refine wr_ynodT hY N4 ⟨n, hn, rfl⟩ (br_t rfl (wr_yhanT ⟨h, hh, rfl⟩ (br_t rfl ?_) _))
          rw [wr_hp]
          refine ⟨i6, nm_r (e' := G (n * 6 + h)) (by rw [e6]; exact eh) (br_f ge ?_)⟩
          exact wr_ylim (m := 1) (c := 1) hY O12 gO rn (by omega) (by omega) (by omega) (fun y1 => by omega) (fun _ _ => br_f (by decide) ⟨rfl, IR⟩) (fun y1 y2 => by omega)
        · obtain ⟨o, o1, o2, o3⟩ := hI.2.1 (n * 6 + h) (by omega) ge
          obtain ⟨s, s1, s2, s3⟩ := wr_slot hI (Or.inl z1)
          have gt : G (48 + s) = -1 := (hI.2.2.2.1 s s1).1.mp s2
          have gc : G (96 + s) = -1 := wr_noc hI s1 (by rw [s2]; decide)
          have i2 := wr_ipost hI (k := 6) (c := -1) (n := -1) (f := -1) s1 s2 (by decide) o1 o3 (fun y => absurd rfl y) ⟨fun y => absurd y (by decide), fun y => absurd rfl y⟩ (by rw [wr_b0 rfl]; omega) (fun y => by rcases y with y | y | y <;> exact absurd y (by decide)) (fun y => by rcases y with y | y | y <;> exact absurd y (by decide)) (fun y => absurd y (by decide))
          rw [← o2] at i2
          refine wr_rpost (n' := -1) (f' := -1) (a' := v3) hX s1 s2 s3 (by decide) (fun y => by rcases y with y | y | y <;> exact absurd y (by decide)) (fun y => by rcases y with y | y | y <;> exact absurd y (by decide)) (fun _ => rfl) (wr_all ?_)
          intro d1 d2 d3 d4 d5 d6 d7 d8 d9 d10 d11 d12 d13 d14 d15 d16 d17 d18 d19 d20 d21 h2
          refine wr_send h2 s1 (by omega) hh gt gc ge z2 (wr_all ?_)
          intro j1 j2 j3 j4 j5 j6 j7 j8 j9 j10 j11 j12 j13 j14 j15 j16 j17 j18 j19 j20 j21 h3
          unfold wpY_tell
          refine wr_ynodT hY N4 ⟨n, hn, rfl⟩ (br_t rfl (wr_yhanT ⟨h, hh, rfl⟩ (br_t rfl ?_) _))
          rw [wr_hp]
          refine ⟨i6, nm_r (e' := G (n * 6 + h)) (by rw [e6]; exact eh) (br_f ge ?_)⟩
          refine wr_ylim (m := 1) (c := 1) hY O12 gO rn (by omega) (by omega) (by omega) (fun y1 => by omega) (fun y1 y2 => by omega) (fun _ _ => br_t rfl ⟨in4, in4, nm_r (wr_sub1 (by omega) z2) ?_⟩)
          refine wr_yplace (wr_yin hG) s1 s2 s3 (wr_yall ?_)
          intro f1 f2 f3 f4 f5 f6 f7 f8 f9 f10 f11 f12 f13 h4
          exact ⟨rfl, N, O, _, _, _, _, _, hm, vl, ds, _, i2, wr_4b hr (by omega), h3, h4⟩
    · unfold wpX_tell
      refine wr_ckH hX g1 g1 g2 (br_f (by decide) ?_)
      unfold wpY_tell
      exact wr_ynodT hY N4 g1 (br_t rfl (wr_yhanF g2 (br_f (by decide) ⟨rfl, IR⟩) _))
  · unfold wpX_tell
    refine wr_ckN0 hX g1 (br_f (by decide) ?_)
    unfold wpY_tell
    exact wr_ynodF hY N4 g1 (br_f (by decide) ⟨rfl, IR⟩)
theorem i_vc_copy {k : Nat} {u : SX} {v : SY} (I : i_Rel k u v) (hk : k + 5 ≤ 2564) (v1 : Int32) (v2 : Int32) : wpX_copy (fun r u' => wpY_copy (fun r' v' => r' = r ∧ i_Rel (k + 5) u' v') v v1 v2) u v1 v2 := by
  obtain ⟨N, O, G, kd, nd, fd, am, hm, vl, ds, rm, hI, hr, hX0, hY0⟩ := I
  revert hX0
  refine wr_all (P := fun u => wr_RX N O (wr_hd G (-1) (-1)) kd nd fd am hm vl ds rm (wr_4 rm) u → wpX_copy (fun r u' => wpY_copy (fun r' v' => r' = r ∧ i_Rel (k + 5) u' v') v v1 v2) u v1 v2) ?_ u
  intro c1 c2 c3 c4 c5 c6 c7 c8 c9 c10 c11 c12 c13 c14 c15 c16 c17 c18 c19 c20 c21 hX
  refine wr_yk (P := fun v => wpX_copy (fun r u' => wpY_copy (fun r' v' => r' = r ∧ i_Rel (k + 5) u' v') v v1 v2) (c1, c2, c3, c4, c5, c6, c7, c8, c9, c10, c11, c12, c13, c14, c15, c16, c17, c18, c19, c20, c21) v1 v2) ?_ v hY0
  intro he fi tg ca hG
  have hY : wr_RY N O G kd nd fd am hm vl rm (nI N, nI O, he, fi, hm, vl, (fun i => nI (rm i)), kd, tg, nd, fd, ca, am) := wr_yin hG
  have IR : i_Rel (k + 5) (c1, c2, c3, c4, c5, c6, c7, c8, c9, c10, c11, c12, c13, c14, c15, c16, c17, c18, c19, c20, c21) (nI N, nI O, he, fi, hm, vl, (fun i => nI (rm i)), kd, tg, nd, fd, ca, am) := ⟨N, O, G, kd, nd, fd, am, hm, vl, ds, rm, hI, hr, hX, hY⟩
  have N4 := hI.1.2.1
  have O12 := hI.1.2.2.2.1
  have gO : ∀ p, p < 144 → G p ≠ -1 → ∃ o, o < O ∧ G p = nI o := fun p hp z => by
    obtain ⟨o, o1, o2, _⟩ := hI.2.1 p hp z
    exact ⟨o, o1, o2⟩
  by_cases g1 : wr_gd N v1
  · by_cases g2 : wr_gd 6 v2
    · obtain ⟨n, hn, rfl⟩ := g1
      obtain ⟨h, hh, rfl⟩ := g2
      have e6 : (nI (n * 6 + h)).toNatClampNeg = n * 6 + h := nI_clamp (by omega)
      have i6 : vp_in (nI (n * 6 + h)) 24 := vp_in_nI (by omega) (by omega)
      have eh : he (n * 6 + h) = G (n * 6 + h) := (hG.1 _ (by omega)).1
      have rn := hr n (by omega)
      have in4 : vp_in (nI n) 4 := vp_in_nI (by omega) (by omega)
      by_cases ge : G (n * 6 + h) = -1
      · unfold wpX_copy
        refine wr_ckX hX hn N4 ⟨n, hn, rfl⟩ hh (fun _ => br_f (by decide) ?_) (fun z => absurd ge z)
        unfold wpY_copy
        refine wr_ynodT hY N4 ⟨n, hn, rfl⟩ (br_t rfl (wr_yhanT ⟨h, hh, rfl⟩ (br_t rfl ?_) _))
        rw [wr_hp]
        exact ⟨i6, nm_r (e' := G (n * 6 + h)) (by rw [e6]; exact eh) (br_t ge ⟨rfl, IR⟩)⟩
      · unfold wpX_copy
        refine wr_ckX hX hn N4 ⟨n, hn, rfl⟩ hh (fun z => absurd z ge) (fun _ => br_t (by decide) ?_)
        rcases wr_least (fun j => G (n * 6 + j) = -1) 6 with hb | ⟨l, l1, l2, l3⟩
        · refine wr_ehN hX (by omega) (fun j hj => by rw [wr_hdn (by omega)]; exact hb j hj) (br_f (by decide) ?_)
          unfold wpY_copy
          refine wr_ynodT hY N4 ⟨n, hn, rfl⟩ (br_t rfl (wr_yhanT ⟨h, hh, rfl⟩ (br_t rfl ?_) _))
          rw [wr_hp]
          refine ⟨i6, nm_r (e' := G (n * 6 + h)) (by rw [e6]; exact eh) (br_f ge ?_)⟩
          exact wr_yehN hY (by omega) hb (br_t rfl ⟨rfl, IR⟩)
        · refine wr_ehS (h := l) hX (by omega) l1 (by rw [wr_hdn (by omega)]; exact l2) (fun j hj => by rw [wr_hdn (by omega)]; exact l3 j hj) (br_t (nI_pos' (by omega)) ?_)
          refine wr_spX (m := 1) (c := 1) hX (by omega) (by omega) (by omega) (fun z => br_f (by decide) ?_) (fun z1 z2 => br_f (by decide) ?_) (fun z1 z2 => br_t (by decide) ?_)
          · unfold wpY_copy
            refine wr_ynodT hY N4 ⟨n, hn, rfl⟩ (br_t rfl (wr_yhanT ⟨h, hh, rfl⟩ (br_t rfl ?_) _))
            rw [wr_hp]
            refine ⟨i6, nm_r (e' := G (n * 6 + h)) (by rw [e6]; exact eh) (br_f ge ?_)⟩
            refine wr_yehS hY (by omega) l1 l2 l3 (br_f (wr_nm (by omega)) ?_)
            exact wr_ylim (m := 1) (c := 1) hY O12 gO rn (by omega) (by omega) (by omega) (fun _ => br_f (by decide) ⟨rfl, IR⟩) (fun y1 y2 => by omega) (fun y1 y2 => by omega)
          · unfold wpY_copy
            refine wr_ynodT hY N4 ⟨n, hn, rfl⟩ (br_t rfl (wr_yhanT ⟨h, hh, rfl⟩ (br_t rfl ?_) _))
            rw [wr_hp]
            refine ⟨i6, nm_r (e' := G (n * 6 + h)) (by rw [e6]; exact eh) (br_f ge ?_)⟩
            refine wr_yehS hY (by omega) l1 l2 l3 (br_f (wr_nm (by omega)) ?_)
            exact wr_ylim (m := 1) (c := 1) hY O12 gO rn (by omega) (by omega) (by omega) (fun y1 => by omega) (fun _ _ => br_f (by decide) ⟨rfl, IR⟩) (fun y1 y2 => by omega)
          · obtain ⟨o, o1, o2, o3⟩ := hI.2.1 (n * 6 + h) (by omega) ge
            have nhl : n * 6 + h ≠ n * 6 + l := fun z => by rw [z] at ge; exact ge l2
            obtain ⟨b1, b2⟩ := wr_4u (rm := rm) (show n < 4 by omega) z2
            have i2 := wr_iset hI (p := n * 6 + l) (by omega) l2 o1 o3 z1 (fun q _ f _ e => by omega)
            rw [← o2] at i2
            unfold wpX_handlePlace
            show wpX_copyLink _ _ (nI n * 6 + nI h) (nI n * 6 + nI l) (nI n)
            rw [wr_hp, wr_hp]
            refine wr_rcopy hX (by omega) (by omega) nhl (by rw [wr_hdn (by omega)]; exact l2) (by rw [wr_hdn (by omega)]; exact ge) (by omega) z2 b2 (wr_all ?_)
            intro d1 d2 d3 d4 d5 d6 d7 d8 d9 d10 d11 d12 d13 d14 d15 d16 d17 d18 d19 d20 d21 h2
            rw [wr_hdn (by omega), wr_hdu (by omega), ← b1] at h2
            have e7 : (nI (n * 6 + l)).toNatClampNeg = n * 6 + l := nI_clamp (by omega)
            unfold wpY_copy
            refine wr_ynodT hY N4 ⟨n, hn, rfl⟩ (br_t rfl (wr_yhanT ⟨h, hh, rfl⟩ (br_t rfl ?_) _))
            rw [wr_hp]
            refine ⟨i6, nm_r (e' := G (n * 6 + h)) (by rw [e6]; exact eh) (br_f ge ?_)⟩
            refine wr_yehS hY (by omega) l1 l2 l3 (br_f (wr_nm (by omega)) ?_)
            rw [wr_hp]
            refine wr_ylim (m := 1) (c := 1) hY O12 gO rn (by omega) (by omega) (by omega) (fun y1 => by omega) (fun y1 y2 => by omega) (fun _ _ => br_t rfl ⟨vp_in_nI (by omega) (by omega), nm_r (e' := upd he (n * 6 + l) (G (n * 6 + h))) (by rw [e7]) ⟨in4, in4, nm_r (wr_sub1 (by omega) z2) ?_⟩⟩)
            exact ⟨rfl, N, O, _, _, _, _, _, hm, vl, ds, _, i2, wr_4b hr (by omega), h2, wr_yin (wr_YGh hG (by omega))⟩
    · unfold wpX_copy
      refine wr_ckH hX g1 g1 g2 (br_f (by decide) ?_)
      unfold wpY_copy
      exact wr_ynodT hY N4 g1 (br_t rfl (wr_yhanF g2 (br_f (by decide) ⟨rfl, IR⟩) _))
  · unfold wpX_copy
    refine wr_ckN0 hX g1 (br_f (by decide) ?_)
    unfold wpY_copy
    exact wr_ynodF hY N4 g1 (br_f (by decide) ⟨rfl, IR⟩)
end
section
/-! clear, fetch -/
theorem i_vc_clear {k : Nat} {u : SX} {v : SY} (I : i_Rel k u v) (hk : k + 5 ≤ 2564) (v1 : Int32) (v2 : Int32) (v3 : Int32) : wpX_clear (fun r u' => wpY_clear (fun r' v' => r' = r ∧ i_Rel (k + 5) u' v') v v1 v2 v3) u v1 v2 v3 := by
  obtain ⟨N, O, G, kd, nd, fd, am, hm, vl, ds, rm, hI, hr, hX0, hY0⟩ := I
  revert hX0
  refine wr_all (P := fun u => wr_RX N O (wr_hd G (-1) (-1)) kd nd fd am hm vl ds rm (wr_4 rm) u → wpX_clear (fun r u' => wpY_clear (fun r' v' => r' = r ∧ i_Rel (k + 5) u' v') v v1 v2 v3) u v1 v2 v3) ?_ u
  intro c1 c2 c3 c4 c5 c6 c7 c8 c9 c10 c11 c12 c13 c14 c15 c16 c17 c18 c19 c20 c21 hX
  refine wr_yk (P := fun v => wpX_clear (fun r u' => wpY_clear (fun r' v' => r' = r ∧ i_Rel (k + 5) u' v') v v1 v2 v3) (c1, c2, c3, c4, c5, c6, c7, c8, c9, c10, c11, c12, c13, c14, c15, c16, c17, c18, c19, c20, c21) v1 v2 v3) ?_ v hY0
  intro he fi tg ca hG
  have hY : wr_RY N O G kd nd fd am hm vl rm (nI N, nI O, he, fi, hm, vl, (fun i => nI (rm i)), kd, tg, nd, fd, ca, am) := wr_yin hG
  have IR : i_Rel (k + 5) (c1, c2, c3, c4, c5, c6, c7, c8, c9, c10, c11, c12, c13, c14, c15, c16, c17, c18, c19, c20, c21) (nI N, nI O, he, fi, hm, vl, (fun i => nI (rm i)), kd, tg, nd, fd, ca, am) := ⟨N, O, G, kd, nd, fd, am, hm, vl, ds, rm, hI, hr, hX, hY⟩
  have N4 := hI.1.2.1
  have O12 := hI.1.2.2.2.1
  have gO : ∀ p, p < 144 → G p ≠ -1 → ∃ o, o < O ∧ G p = nI o := fun p hp z => by
    obtain ⟨o, o1, o2, _⟩ := hI.2.1 p hp z
    exact ⟨o, o1, o2⟩
  by_cases g1 : wr_gd N v1
  · by_cases g2 : wr_gd 6 v2
    · by_cases g3 : wr_gd 2 v3
      · obtain ⟨n, hn, rfl⟩ := g1
        obtain ⟨h, hh, rfl⟩ := g2
        have e6 : (nI (n * 6 + h)).toNatClampNeg = n * 6 + h := nI_clamp (by omega)
        have i6 : vp_in (nI (n * 6 + h)) 24 := vp_in_nI (by omega) (by omega)
        have eh : he (n * 6 + h) = G (n * 6 + h) := (hG.1 _ (by omega)).1
        have rn := hr n (by omega)
        have in4 : vp_in (nI n) 4 := vp_in_nI (by omega) (by omega)
        unfold wpX_clear
        unfold wpX_askField
        refine wr_nodeT hX ⟨n, hn, rfl⟩ (br_f (by decide) (wr_handT ⟨h, hh, rfl⟩ (br_f (by decide) (wr_fielT g3 (br_f (by decide) ?_) _)) _))
        by_cases ge : G (n * 6 + h) = -1
        · refine wr_ckX hX hn N4 ⟨n, hn, rfl⟩ hh (fun _ => br_f (by decide) ?_) (fun z => absurd ge z)
          unfold wpY_clear
          unfold wpY_ask
          refine wr_ynodT hY N4 ⟨n, hn, rfl⟩ (br_t rfl (wr_yhanT ⟨h, hh, rfl⟩ (br_t rfl (wr_yfieT g3 (br_t rfl ?_) _)) _))
          rw [wr_hp]
          exact ⟨i6, nm_r (e' := G (n * 6 + h)) (by rw [e6]; exact eh) (br_t ge ⟨rfl, IR⟩)⟩
        · refine wr_ckX hX hn N4 ⟨n, hn, rfl⟩ hh (fun z => absurd z ge) (fun _ => br_t (by decide) ?_)
          refine wr_spX (m := 1) (c := 1) hX (by omega) (by omega) (by omega) (fun z => br_f (by decide) ?_) (fun z1 z2 => br_f (by decide) ?_) (fun z1 z2 => br_t (by decide) ?_)
          · unfold wpY_clear
            unfold wpY_ask
            refine wr_ynodT hY N4 ⟨n, hn, rfl⟩ (br_t rfl (wr_yhanT ⟨h, hh, rfl⟩ (br_t rfl (wr_yfieT g3 (br_t rfl ?_) _)) _))
            rw [wr_hp]
            refine ⟨i6, nm_r (e' := G (n * 6 + h)) (by rw [e6]; exact eh) (br_f ge ?_)⟩
            exact wr_ylim (m := 1) (c := 1) hY O12 gO rn (by omega) (by omega) (by omega) (fun _ => br_f (by decide) ⟨rfl, IR⟩) (fun y1 y2 => by omega) (fun y1 y2 => by omega)
          · unfold wpY_clear
            unfold wpY_ask
            refine wr_ynodT hY N4 ⟨n, hn, rfl⟩ (br_t rfl (wr_yhanT ⟨h, hh, rfl⟩ (br_t rfl (wr_yfieT g3 (br_t rfl ?_) _)) _))
            rw [wr_hp]
            refine ⟨i6, nm_r (e' := G (n * 6 + h)) (by rw [e6]; exact eh) (br_f ge ?_)⟩
            exact wr_ylim (m := 1) (c := 1) hY O12 gO rn (by omega) (by omega) (by omega) (fun y1 => by omega) (fun _ _ => br_f (by decide) ⟨rfl, IR⟩) (fun y1 y2 => by omega)
          · obtain ⟨o, o1, o2, o3⟩ := hI.2.1 (n * 6 + h) (by omega) ge
            obtain ⟨s, s1, s2, s3⟩ := wr_slot hI (Or.inl z1)
            have gt : G (48 + s) = -1 := (hI.2.2.2.1 s s1).1.mp s2
            have gc : G (96 + s) = -1 := wr_noc hI s1 (by rw [s2]; decide)
            have i2 := wr_ipost hI (k := 4) (c := -1) (n := nI n) (f := v3) s1 s2 (by decide) o1 o3 (fun y => absurd rfl y) ⟨fun y => absurd y (by decide), fun y => absurd rfl y⟩ (by rw [wr_b0 rfl]; omega) (fun _ => ⟨n, hn, rfl⟩) (fun _ => g3) (fun y => absurd y (by decide))
            rw [← o2] at i2
            refine wr_rpost (n' := nI n) (f' := v3) (a' := 0) hX s1 s2 s3 (by decide) (fun _ => rfl) (fun _ => rfl) (fun y => absurd y (by decide)) (wr_all ?_)
            intro d1 d2 d3 d4 d5 d6 d7 d8 d9 d10 d11 d12 d13 d14 d15 d16 d17 d18 d19 d20 d21 h2
            refine wr_send h2 s1 (by omega) hh gt gc ge z2 (wr_all ?_)
            intro j1 j2 j3 j4 j5 j6 j7 j8 j9 j10 j11 j12 j13 j14 j15 j16 j17 j18 j19 j20 j21 h3
            unfold wpY_clear
            unfold wpY_ask
            refine wr_ynodT hY N4 ⟨n, hn, rfl⟩ (br_t rfl (wr_yhanT ⟨h, hh, rfl⟩ (br_t rfl (wr_yfieT g3 (br_t rfl ?_) _)) _))
            rw [wr_hp]
            refine ⟨i6, nm_r (e' := G (n * 6 + h)) (by rw [e6]; exact eh) (br_f ge ?_)⟩
            refine wr_ylim (m := 1) (c := 1) hY O12 gO rn (by omega) (by omega) (by omega) (fun y1 => by omega) (fun y1 y2 => by omega) (fun _ _ => br_t rfl ⟨in4, in4, nm_r (wr_sub1 (by omega) z2) ?_⟩)
            refine wr_yplace (wr_yin hG) s1 s2 s3 (wr_yall ?_)
            intro f1 f2 f3 f4 f5 f6 f7 f8 f9 f10 f11 f12 f13 h4
            exact ⟨rfl, N, O, _, _, _, _, _, hm, vl, ds, _, i2, wr_4b hr (by omega), h3, h4⟩
      · unfold wpX_clear
        unfold wpX_askField
        refine wr_nodeT hX g1 (br_f (by decide) (wr_handT g2 (br_f (by decide) (wr_fielF g3 (br_t rfl ?_) _)) _))
        unfold wpY_clear
        unfold wpY_ask
        exact wr_ynodT hY N4 g1 (br_t rfl (wr_yhanT g2 (br_t rfl (wr_yfieF g3 (br_f (by decide) ⟨rfl, IR⟩) _)) _))
    · unfold wpX_clear
      unfold wpX_askField
      refine wr_nodeT hX g1 (br_f (by decide) (wr_handF g2 (br_t rfl ?_) _))
      unfold wpY_clear
      unfold wpY_ask
      exact wr_ynodT hY N4 g1 (br_t rfl (wr_yhanF g2 (br_f (by decide) ⟨rfl, IR⟩) _))
  · unfold wpX_clear
    unfold wpX_askField
    refine wr_nodeF hX g1 (br_t rfl ?_)
    unfold wpY_clear
    unfold wpY_ask
    exact wr_ynodF hY N4 g1 (br_f (by decide) ⟨rfl, IR⟩)
theorem i_vc_fetch {k : Nat} {u : SX} {v : SY} (I : i_Rel k u v) (hk : k + 5 ≤ 2564) (v1 : Int32) (v2 : Int32) (v3 : Int32) : wpX_fetch (fun r u' => wpY_fetch (fun r' v' => r' = r ∧ i_Rel (k + 5) u' v') v v1 v2 v3) u v1 v2 v3 := by
  obtain ⟨N, O, G, kd, nd, fd, am, hm, vl, ds, rm, hI, hr, hX0, hY0⟩ := I
  revert hX0
  refine wr_all (P := fun u => wr_RX N O (wr_hd G (-1) (-1)) kd nd fd am hm vl ds rm (wr_4 rm) u → wpX_fetch (fun r u' => wpY_fetch (fun r' v' => r' = r ∧ i_Rel (k + 5) u' v') v v1 v2 v3) u v1 v2 v3) ?_ u
  intro c1 c2 c3 c4 c5 c6 c7 c8 c9 c10 c11 c12 c13 c14 c15 c16 c17 c18 c19 c20 c21 hX
  refine wr_yk (P := fun v => wpX_fetch (fun r u' => wpY_fetch (fun r' v' => r' = r ∧ i_Rel (k + 5) u' v') v v1 v2 v3) (c1, c2, c3, c4, c5, c6, c7, c8, c9, c10, c11, c12, c13, c14, c15, c16, c17, c18, c19, c20, c21) v1 v2 v3) ?_ v hY0
  intro he fi tg ca hG
  have hY : wr_RY N O G kd nd fd am hm vl rm (nI N, nI O, he, fi, hm, vl, (fun i => nI (rm i)), kd, tg, nd, fd, ca, am) := wr_yin hG
  have IR : i_Rel (k + 5) (c1, c2, c3, c4, c5, c6, c7, c8, c9, c10, c11, c12, c13, c14, c15, c16, c17, c18, c19, c20, c21) (nI N, nI O, he, fi, hm, vl, (fun i => nI (rm i)), kd, tg, nd, fd, ca, am) := ⟨N, O, G, kd, nd, fd, am, hm, vl, ds, rm, hI, hr, hX, hY⟩
  have N4 := hI.1.2.1
  have O12 := hI.1.2.2.2.1
  have gO : ∀ p, p < 144 → G p ≠ -1 → ∃ o, o < O ∧ G p = nI o := fun p hp z => by
    obtain ⟨o, o1, o2, _⟩ := hI.2.1 p hp z
    exact ⟨o, o1, o2⟩
  by_cases g1 : wr_gd N v1
  · by_cases g2 : wr_gd 6 v2
    · by_cases g3 : wr_gd 2 v3
      · obtain ⟨n, hn, rfl⟩ := g1
        obtain ⟨h, hh, rfl⟩ := g2
        have e6 : (nI (n * 6 + h)).toNatClampNeg = n * 6 + h := nI_clamp (by omega)
        have i6 : vp_in (nI (n * 6 + h)) 24 := vp_in_nI (by omega) (by omega)
        have eh : he (n * 6 + h) = G (n * 6 + h) := (hG.1 _ (by omega)).1
        have rn := hr n (by omega)
        have in4 : vp_in (nI n) 4 := vp_in_nI (by omega) (by omega)
        unfold wpX_fetch
        unfold wpX_askField
        refine wr_nodeT hX ⟨n, hn, rfl⟩ (br_f (by decide) (wr_handT ⟨h, hh, rfl⟩ (br_f (by decide) (wr_fielT g3 (br_f (by decide) ?_) _)) _))
        by_cases ge : G (n * 6 + h) = -1
        · refine wr_ckX hX hn N4 ⟨n, hn, rfl⟩ hh (fun _ => br_f (by decide) ?_) (fun z => absurd ge z)
          unfold wpY_fetch
          unfold wpY_ask
          refine wr_ynodT hY N4 ⟨n, hn, rfl⟩ (br_t rfl (wr_yhanT ⟨h, hh, rfl⟩ (br_t rfl (wr_yfieT g3 (br_t rfl ?_) _)) _))
          rw [wr_hp]
          exact ⟨i6, nm_r (e' := G (n * 6 + h)) (by rw [e6]; exact eh) (br_t ge ⟨rfl, IR⟩)⟩
        · refine wr_ckX hX hn N4 ⟨n, hn, rfl⟩ hh (fun z => absurd z ge) (fun _ => br_t (by decide) ?_)
          refine wr_spX (m := 1) (c := 1) hX (by omega) (by omega) (by omega) (fun z => br_f (by decide) ?_) (fun z1 z2 => br_f (by decide) ?_) (fun z1 z2 => br_t (by decide) ?_)
          · unfold wpY_fetch
            unfold wpY_ask
            refine wr_ynodT hY N4 ⟨n, hn, rfl⟩ (br_t rfl (wr_yhanT ⟨h, hh, rfl⟩ (br_t rfl (wr_yfieT g3 (br_t rfl ?_) _)) _))
            rw [wr_hp]
            refine ⟨i6, nm_r (e' := G (n * 6 + h)) (by rw [e6]; exact eh) (br_f ge ?_)⟩
            exact wr_ylim (m := 1) (c := 1) hY O12 gO rn (by omega) (by omega) (by omega) (fun _ => br_f (by decide) ⟨rfl, IR⟩) (fun y1 y2 => by omega) (fun y1 y2 => by omega)
          · unfold wpY_fetch
            unfold wpY_ask
            refine wr_ynodT hY N4 ⟨n, hn, rfl⟩ (br_t rfl (wr_yhanT ⟨h, hh, rfl⟩ (br_t rfl (wr_yfieT g3 (br_t rfl ?_) _)) _))
            rw [wr_hp]
            refine ⟨i6, nm_r (e' := G (n * 6 + h)) (by rw [e6]; exact eh) (br_f ge ?_)⟩
            exact wr_ylim (m := 1) (c := 1) hY O12 gO rn (by omega) (by omega) (by omega) (fun y1 => by omega) (fun _ _ => br_f (by decide) ⟨rfl, IR⟩) (fun y1 y2 => by omega)
          · obtain ⟨o, o1, o2, o3⟩ := hI.2.1 (n * 6 + h) (by omega) ge
            obtain ⟨s, s1, s2, s3⟩ := wr_slot hI (Or.inl z1)
            have gt : G (48 + s) = -1 := (hI.2.2.2.1 s s1).1.mp s2
            have gc : G (96 + s) = -1 := wr_noc hI s1 (by rw [s2]; decide)
            have i2 := wr_ipost hI (k := 5) (c := -1) (n := nI n) (f := v3) s1 s2 (by decide) o1 o3 (fun y => absurd rfl y) ⟨fun y => absurd y (by decide), fun y => absurd rfl y⟩ (by rw [wr_b0 rfl]; omega) (fun _ => ⟨n, hn, rfl⟩) (fun _ => g3) (fun y => absurd y (by decide))
            rw [← o2] at i2
            refine wr_rpost (n' := nI n) (f' := v3) (a' := 0) hX s1 s2 s3 (by decide) (fun _ => rfl) (fun _ => rfl) (fun y => absurd y (by decide)) (wr_all ?_)
            intro d1 d2 d3 d4 d5 d6 d7 d8 d9 d10 d11 d12 d13 d14 d15 d16 d17 d18 d19 d20 d21 h2
            refine wr_send h2 s1 (by omega) hh gt gc ge z2 (wr_all ?_)
            intro j1 j2 j3 j4 j5 j6 j7 j8 j9 j10 j11 j12 j13 j14 j15 j16 j17 j18 j19 j20 j21 h3
            unfold wpY_fetch
            unfold wpY_ask
            refine wr_ynodT hY N4 ⟨n, hn, rfl⟩ (br_t rfl (wr_yhanT ⟨h, hh, rfl⟩ (br_t rfl (wr_yfieT g3 (br_t rfl ?_) _)) _))
            rw [wr_hp]
            refine ⟨i6, nm_r (e' := G (n * 6 + h)) (by rw [e6]; exact eh) (br_f ge ?_)⟩
            refine wr_ylim (m := 1) (c := 1) hY O12 gO rn (by omega) (by omega) (by omega) (fun y1 => by omega) (fun y1 y2 => by omega) (fun _ _ => br_t rfl ⟨in4, in4, nm_r (wr_sub1 (by omega) z2) ?_⟩)
            refine wr_yplace (wr_yin hG) s1 s2 s3 (wr_yall ?_)
            intro f1 f2 f3 f4 f5 f6 f7 f8 f9 f10 f11 f12 f13 h4
            exact ⟨rfl, N, O, _, _, _, _, _, hm, vl, ds, _, i2, wr_4b hr (by omega), h3, h4⟩
      · unfold wpX_fetch
        unfold wpX_askField
        refine wr_nodeT hX g1 (br_f (by decide) (wr_handT g2 (br_f (by decide) (wr_fielF g3 (br_t rfl ?_) _)) _))
        unfold wpY_fetch
        unfold wpY_ask
        exact wr_ynodT hY N4 g1 (br_t rfl (wr_yhanT g2 (br_t rfl (wr_yfieF g3 (br_f (by decide) ⟨rfl, IR⟩) _)) _))
    · unfold wpX_fetch
      unfold wpX_askField
      refine wr_nodeT hX g1 (br_f (by decide) (wr_handF g2 (br_t rfl ?_) _))
      unfold wpY_fetch
      unfold wpY_ask
      exact wr_ynodT hY N4 g1 (br_t rfl (wr_yhanF g2 (br_f (by decide) ⟨rfl, IR⟩) _))
  · unfold wpX_fetch
    unfold wpX_askField
    refine wr_nodeF hX g1 (br_t rfl ?_)
    unfold wpY_fetch
    unfold wpY_ask
    exact wr_ynodF hY N4 g1 (br_f (by decide) ⟨rfl, IR⟩)
end
section
/-! store, migrate -/
theorem wr_rm2 {rm : Nat → Nat} {n : Nat} : wr_un (wr_un rm n (rm n - 1)) n (wr_un rm n (rm n - 1) n - 1) = wr_un rm n (rm n - 2) := by
  rw [wr_us, wr_uu, Nat.sub_sub]
theorem wr_4uu {rm : Nat → Nat} {n : Nat} (hn : n < 4) (h : 2 ≤ rm n) : wr_4 (wr_un rm n (rm n - 2)) = wr_4 rm - 1 - 1 ∧ 1 ≤ wr_4 rm ∧ 1 ≤ wr_4 rm - 1 := by
  obtain ⟨a1, a2⟩ := wr_4u (rm := rm) hn (by omega)
  obtain ⟨b1, b2⟩ := wr_4u (rm := wr_un rm n (rm n - 1)) hn (by rw [wr_us]; omega)
  rw [wr_rm2, a1] at b1
  rw [a1] at b2
  exact ⟨b1, a2, b2⟩
section
variable {N O b : Nat} {G kd nd fd am hm vl ds : Nat → Int32} {rm : Nat → Nat}
theorem wr_liveT {post : Int32 → Prop} {u : SX} {o : Nat} (hu : wr_RX N O G kd nd fd am hm vl ds rm b u) (ho : o < O) (hl : hm o ≠ -1) (k : post 1) : wpX_isLive post u (nI o) := by
  revert hu
  refine wr_all (P := fun u => wr_RX N O G kd nd fd am hm vl ds rm b u → wpX_isLive post u (nI o)) ?_ u
  intro c1 c2 c3 c4 c5 c6 c7 c8 c9 c10 c11 c12 c13 c14 c15 c16 c17 c18 c19 c20 c21 hu
  obtain ⟨_, q2, _, _, _, _, _, _, hH, _, _, q12, _⟩ := wr_rd hu
  unfold wpX_isLive
  refine br_f (nI_pos (by omega)) (br_f (by rw [q2]; exact nI_ge ho (by omega)) ⟨vp_in_nI (by omega) (by omega), br_f ?_ k⟩)
  rw [nI_clamp (by omega)]
  exact fun z => hl ((hH o (by omega)).1.mp z)
theorem wr_liveF {post : Int32 → Prop} {u : SX} {x : Int32} (hu : wr_RX N O G kd nd fd am hm vl ds rm b u) (hl : ¬ ∃ o, o < O ∧ x = nI o ∧ hm o ≠ -1) (k : post 0) : wpX_isLive post u x := by
  revert hu
  refine wr_all (P := fun u => wr_RX N O G kd nd fd am hm vl ds rm b u → wpX_isLive post u x) ?_ u
  intro c1 c2 c3 c4 c5 c6 c7 c8 c9 c10 c11 c12 c13 c14 c15 c16 c17 c18 c19 c20 c21 hu
  obtain ⟨_, q2, _, _, _, _, _, _, hH, _, _, q12, _⟩ := wr_rd hu
  unfold wpX_isLive
  by_cases g : wr_gd O x
  · obtain ⟨o, ho, rfl⟩ := g
    refine br_f (nI_pos (by omega)) (br_f (by rw [q2]; exact nI_ge ho (by omega)) ⟨vp_in_nI (by omega) (by omega), br_t ?_ k⟩)
    rw [nI_clamp (by omega)]
    refine (hH o (by omega)).1.mpr ?_
    by_cases e : hm o = -1
    · exact e
    · exact absurd ⟨o, ho, rfl, e⟩ hl
  · rcases wr_ngd (by omega) g with a | ⟨a, c⟩
    · exact br_t a k
    · exact br_f a (br_t (by rw [q2]; exact c) k)
theorem wr_rhome {post : Int32 → Prop} {u : SX} {o : Nat} (hu : wr_RX N O G kd nd fd am hm vl ds rm b u) (ho : o < O) (hl : hm o ≠ -1) (h5 : hm o = -10 ∨ hm o = ds o) (k : post (hm o)) : wpX_homeOf post u (nI o) := by
  revert hu
  refine wr_all (P := fun u => wr_RX N O G kd nd fd am hm vl ds rm b u → wpX_homeOf post u (nI o)) ?_ u
  intro c1 c2 c3 c4 c5 c6 c7 c8 c9 c10 c11 c12 c13 c14 c15 c16 c17 c18 c19 c20 c21 hu
  obtain ⟨_, q2, _, _, _, _, _, _, hH, hA, _, q12, _⟩ := wr_rd hu
  have al : c14 o ≠ -1 := fun z => hl ((hH o (by omega)).1.mp z)
  obtain ⟨a, a1, a2⟩ := hA o (by omega) al
  have e1 : (nI o).toNatClampNeg = o := nI_clamp (by omega)
  have i1 : vp_in (nI o) 12 := vp_in_nI (by omega) (by omega)
  unfold wpX_homeOf
  refine wr_liveT hu ho hl (br_f (by decide) ⟨i1, ?_⟩)
  rw [e1]
  have hit := (hH o (by omega)).2.2 hl
  by_cases e : c16 o = 0
  · refine br_t e ⟨i1, by rw [a2]; exact vp_in_nI a1 (by omega), ?_⟩
    rw [((hH o (by omega)).2.1 al).1]
    rcases h5 with h5 | h5
    · exact absurd h5 (hit.mp e)
    · rw [h5] at k; exact k
  · refine br_f e ?_
    rcases h5 with h5 | h5
    · rw [h5] at k; exact k
    · by_cases y : hm o = -10
      · rw [y] at k; exact k
      · exact absurd (hit.mpr y) e
end
theorem i_vc_store {k : Nat} {u : SX} {v : SY} (I : i_Rel k u v) (hk : k + 5 ≤ 2564) (v1 : Int32) (v2 : Int32) (v3 : Int32) (v4 : Int32) : wpX_store (fun r u' => wpY_store (fun r' v' => r' = r ∧ i_Rel (k + 5) u' v') v v1 v2 v3 v4) u v1 v2 v3 v4 := by
  obtain ⟨N, O, G, kd, nd, fd, am, hm, vl, ds, rm, hI, hr, hX0, hY0⟩ := I
  revert hX0
  refine wr_all (P := fun u => wr_RX N O (wr_hd G (-1) (-1)) kd nd fd am hm vl ds rm (wr_4 rm) u → wpX_store (fun r u' => wpY_store (fun r' v' => r' = r ∧ i_Rel (k + 5) u' v') v v1 v2 v3 v4) u v1 v2 v3 v4) ?_ u
  intro c1 c2 c3 c4 c5 c6 c7 c8 c9 c10 c11 c12 c13 c14 c15 c16 c17 c18 c19 c20 c21 hX
  refine wr_yk (P := fun v => wpX_store (fun r u' => wpY_store (fun r' v' => r' = r ∧ i_Rel (k + 5) u' v') v v1 v2 v3 v4) (c1, c2, c3, c4, c5, c6, c7, c8, c9, c10, c11, c12, c13, c14, c15, c16, c17, c18, c19, c20, c21) v1 v2 v3 v4) ?_ v hY0
  intro he fi tg ca hG
  have hY : wr_RY N O G kd nd fd am hm vl rm (nI N, nI O, he, fi, hm, vl, (fun i => nI (rm i)), kd, tg, nd, fd, ca, am) := wr_yin hG
  have IR : i_Rel (k + 5) (c1, c2, c3, c4, c5, c6, c7, c8, c9, c10, c11, c12, c13, c14, c15, c16, c17, c18, c19, c20, c21) (nI N, nI O, he, fi, hm, vl, (fun i => nI (rm i)), kd, tg, nd, fd, ca, am) := ⟨N, O, G, kd, nd, fd, am, hm, vl, ds, rm, hI, hr, hX, hY⟩
  have N4 := hI.1.2.1
  have O12 := hI.1.2.2.2.1
  have gO : ∀ p, p < 144 → G p ≠ -1 → ∃ o, o < O ∧ G p = nI o := fun p hp z => by
    obtain ⟨o, o1, o2, _⟩ := hI.2.1 p hp z
    exact ⟨o, o1, o2⟩
  by_cases g1 : wr_gd N v1
  · by_cases g2 : wr_gd 6 v2
    · by_cases g4 : wr_gd 6 v4
      · by_cases g3 : wr_gd 2 v3
        · obtain ⟨n, hn, rfl⟩ := g1
          obtain ⟨h, hh, rfl⟩ := g2
          obtain ⟨l, hl, rfl⟩ := g4
          have e6 : (nI (n * 6 + h)).toNatClampNeg = n * 6 + h := nI_clamp (by omega)
          have i6 : vp_in (nI (n * 6 + h)) 24 := vp_in_nI (by omega) (by omega)
          have eh : he (n * 6 + h) = G (n * 6 + h) := (hG.1 _ (by omega)).1
          have e7 : (nI (n * 6 + l)).toNatClampNeg = n * 6 + l := nI_clamp (by omega)
          have i7 : vp_in (nI (n * 6 + l)) 24 := vp_in_nI (by omega) (by omega)
          have el : he (n * 6 + l) = G (n * 6 + l) := (hG.1 _ (by omega)).1
          have rn := hr n (by omega)
          have in4 : vp_in (nI n) 4 := vp_in_nI (by omega) (by omega)
          have xh : wr_hd G (-1) (-1) (n * 6 + h) = G (n * 6 + h) := wr_hdn (by omega)
          have xl : wr_hd G (-1) (-1) (n * 6 + l) = G (n * 6 + l) := wr_hdn (by omega)
          unfold wpX_store
          refine wr_nodeT hX ⟨n, hn, rfl⟩ (br_f (by decide) (wr_handT ⟨h, hh, rfl⟩ (br_f (by decide) (wr_handT ⟨l, hl, rfl⟩ (br_f (by decide) (wr_fielT g3 (br_f (by decide) ?_) _)) _)) _))
          unfold wpX_handlePlace
          show vp_in (nI n * 6 + nI h) 398 ∧ _
          rw [wr_hp, wr_hp]
          refine ⟨vp_in_nI (by omega) (by omega), wr_rw hX (by omega) (fun ge => ?_) (fun ge => ⟨vp_in_nI (by omega) (by omega), wr_rw hX (by omega) (fun gl => ?_) (fun gl => ?_)⟩)⟩
          · rw [xh] at ge
            unfold wpY_store
            refine wr_ynodT hY N4 ⟨n, hn, rfl⟩ (br_t rfl (wr_yhanT ⟨h, hh, rfl⟩ (br_t rfl (wr_yhanT ⟨l, hl, rfl⟩ (br_t rfl (wr_yfieT g3 (br_t rfl ?_) _)) _)) _))
            rw [wr_hp, wr_hp]
            exact ⟨i6, nm_r (e' := G (n * 6 + h)) (by rw [e6]; exact eh) ⟨i7, nm_r (e' := G (n * 6 + l)) (by rw [e7]; exact el) (br_t ge ⟨rfl, IR⟩)⟩⟩
          · rw [xh] at ge
            rw [xl] at gl
            unfold wpY_store
            refine wr_ynodT hY N4 ⟨n, hn, rfl⟩ (br_t rfl (wr_yhanT ⟨h, hh, rfl⟩ (br_t rfl (wr_yhanT ⟨l, hl, rfl⟩ (br_t rfl (wr_yfieT g3 (br_t rfl ?_) _)) _)) _))
            rw [wr_hp, wr_hp]
            exact ⟨i6, nm_r (e' := G (n * 6 + h)) (by rw [e6]; exact eh) ⟨i7, nm_r (e' := G (n * 6 + l)) (by rw [e7]; exact el) (br_f ge (br_t gl ⟨rfl, IR⟩))⟩⟩
          · rw [xh] at ge
            rw [xl] at gl
            refine wr_spX (m := 2) (c := 2) hX (by omega) (by omega) (by omega) (fun z => br_f (by decide) ?_) (fun z1 z2 => br_f (by decide) ?_) (fun z1 z2 => br_t (by decide) ?_)
            · unfold wpY_store
              refine wr_ynodT hY N4 ⟨n, hn, rfl⟩ (br_t rfl (wr_yhanT ⟨h, hh, rfl⟩ (br_t rfl (wr_yhanT ⟨l, hl, rfl⟩ (br_t rfl (wr_yfieT g3 (br_t rfl ?_) _)) _)) _))
              rw [wr_hp, wr_hp]
              refine ⟨i6, nm_r (e' := G (n * 6 + h)) (by rw [e6]; exact eh) ⟨i7, nm_r (e' := G (n * 6 + l)) (by rw [e7]; exact el) (br_f ge (br_f gl ?_))⟩⟩
              exact wr_ylim (m := 2) (c := 2) hY O12 gO rn (by omega) (by omega) (by omega) (fun _ => br_f (by decide) ⟨rfl, IR⟩) (fun y1 y2 => by omega) (fun y1 y2 => by omega)
            · unfold wpY_store
              refine wr_ynodT hY N4 ⟨n, hn, rfl⟩ (br_t rfl (wr_yhanT ⟨h, hh, rfl⟩ (br_t rfl (wr_yhanT ⟨l, hl, rfl⟩ (br_t rfl (wr_yfieT g3 (br_t rfl ?_) _)) _)) _))
              rw [wr_hp, wr_hp]
              refine ⟨i6, nm_r (e' := G (n * 6 + h)) (by rw [e6]; exact eh) ⟨i7, nm_r (e' := G (n * 6 + l)) (by rw [e7]; exact el) (br_f ge (br_f gl ?_))⟩⟩
              exact wr_ylim (m := 2) (c := 2) hY O12 gO rn (by omega) (by omega) (by omega) (fun y1 => by omega) (fun _ _ => br_f (by decide) ⟨rfl, IR⟩) (fun y1 y2 => by omega)
            · obtain ⟨o, o1, o2, o3⟩ := hI.2.1 (n * 6 + h) (by omega) ge
              obtain ⟨q, q1, q2, q3⟩ := hI.2.1 (n * 6 + l) (by omega) gl
              obtain ⟨s, s1, s2, s3⟩ := wr_slot hI (Or.inl (by omega))
              have gt : G (48 + s) = -1 := (hI.2.2.2.1 s s1).1.mp s2
              have gc : G (96 + s) = -1 := wr_noc hI s1 (by rw [s2]; decide)
              have i2 := wr_ipost hI (k := 3) (c := G (n * 6 + l)) (n := -1) (f := v3) s1 s2 (by decide) o1 o3 (fun _ => ⟨q, q1, q2, q3⟩) ⟨fun _ => gl, fun _ => rfl⟩ (by rw [wr_b1 gl]; omega) (fun y => by rcases y with y | y | y <;> exact absurd y (by decide)) (fun _ => g3) (fun y => absurd y (by decide))
              rw [← o2] at i2
              obtain ⟨b1, b2, b3⟩ := wr_4uu (rm := rm) (show n < 4 by omega) z2
              refine wr_rpost (n' := -1) (f' := v3) (a' := 0) hX s1 s2 s3 (by decide) (fun y => by rcases y with y | y | y <;> exact absurd y (by decide)) (fun _ => rfl) (fun y => absurd y (by decide)) (wr_all ?_)
              intro d1 d2 d3 d4 d5 d6 d7 d8 d9 d10 d11 d12 d13 d14 d15 d16 d17 d18 d19 d20 d21 h2
              refine wr_raim h2 s1 (by omega) hh gt ge (by omega) b2 (wr_all ?_)
              intro j1 j2 j3 j4 j5 j6 j7 j8 j9 j10 j11 j12 j13 j14 j15 j16 j17 j18 j19 j20 j21 h3
              unfold wpX_carriedPlace
              show wpX_copyLink _ _ (nI (n * 6 + l)) (96 + nI s) (nI n)
              rw [wr_cp]
              refine wr_rcopy h3 (by omega) (by omega) (by omega) (by rw [wr_hdn (by omega), pk_un (by omega)]; exact gc) (by rw [wr_hdn (by omega), pk_un (by omega)]; exact gl) (by omega) (by rw [wr_us]; omega) b3 (wr_all ?_)
              intro w1 w2 w3 w4 w5 w6 w7 w8 w9 w10 w11 w12 w13 w14 w15 w16 w17 w18 w19 w20 w21 h4
              rw [wr_hdn (by omega), pk_un (show n * 6 + l ≠ 48 + s by omega), wr_hdu (by omega), wr_rm2, ← b1] at h4
              unfold wpY_store
              refine wr_ynodT hY N4 ⟨n, hn, rfl⟩ (br_t rfl (wr_yhanT ⟨h, hh, rfl⟩ (br_t rfl (wr_yhanT ⟨l, hl, rfl⟩ (br_t rfl (wr_yfieT g3 (br_t rfl ?_) _)) _)) _))
              rw [wr_hp, wr_hp]
              refine ⟨i6, nm_r (e' := G (n * 6 + h)) (by rw [e6]; exact eh) ⟨i7, nm_r (e' := G (n * 6 + l)) (by rw [e7]; exact el) (br_f ge (br_f gl ?_))⟩⟩
              refine wr_ylim (m := 2) (c := 2) hY O12 gO rn (by omega) (by omega) (by omega) (fun y1 => by omega) (fun y1 y2 => by omega) (fun _ _ => br_t rfl ⟨in4, in4, nm_r (wr_sub2 (by omega) z2) ?_⟩)
              refine wr_yplace (wr_yin hG) s1 s2 s3 (wr_yall ?_)
              intro f1 f2 f3 f4 f5 f6 f7 f8 f9 f10 f11 f12 f13 h5
              exact ⟨rfl, N, O, _, _, _, _, _, hm, vl, ds, _, i2, wr_4b hr (by omega), h4, h5⟩
        · unfold wpX_store
          refine wr_nodeT hX g1 (br_f (by decide) (wr_handT g2 (br_f (by decide) (wr_handT g4 (br_f (by decide) (wr_fielF g3 (br_t rfl ?_) _)) _)) _))
          unfold wpY_store
          exact wr_ynodT hY N4 g1 (br_t rfl (wr_yhanT g2 (br_t rfl (wr_yhanT g4 (br_t rfl (wr_yfieF g3 (br_f (by decide) ⟨rfl, IR⟩) _)) _)) _))
      · unfold wpX_store
        refine wr_nodeT hX g1 (br_f (by decide) (wr_handT g2 (br_f (by decide) (wr_handF g4 (br_t rfl ?_) _)) _))
        unfold wpY_store
        exact wr_ynodT hY N4 g1 (br_t rfl (wr_yhanT g2 (br_t rfl (wr_yhanF g4 (br_f (by decide) ⟨rfl, IR⟩) _)) _))
    · unfold wpX_store
      refine wr_nodeT hX g1 (br_f (by decide) (wr_handF g2 (br_t rfl ?_) _))
      unfold wpY_store
      exact wr_ynodT hY N4 g1 (br_t rfl (wr_yhanF g2 (br_f (by decide) ⟨rfl, IR⟩) _))
  · unfold wpX_store
    refine wr_nodeF hX g1 (br_t rfl ?_)
    unfold wpY_store
    exact wr_ynodF hY N4 g1 (br_f (by decide) ⟨rfl, IR⟩)
theorem i_vc_migrate {k : Nat} {u : SX} {v : SY} (I : i_Rel k u v) (hk : k + 5 ≤ 2564) (v1 : Int32) (v2 : Int32) (v3 : Int32) : wpX_migrate (fun r u' => wpY_migrate (fun r' v' => r' = r ∧ i_Rel (k + 5) u' v') v v1 v2 v3) u v1 v2 v3 := by
  obtain ⟨N, O, G, kd, nd, fd, am, hm, vl, ds, rm, hI, hr, hX0, hY0⟩ := I
  revert hX0
  refine wr_all (P := fun u => wr_RX N O (wr_hd G (-1) (-1)) kd nd fd am hm vl ds rm (wr_4 rm) u → wpX_migrate (fun r u' => wpY_migrate (fun r' v' => r' = r ∧ i_Rel (k + 5) u' v') v v1 v2 v3) u v1 v2 v3) ?_ u
  intro c1 c2 c3 c4 c5 c6 c7 c8 c9 c10 c11 c12 c13 c14 c15 c16 c17 c18 c19 c20 c21 hX
  refine wr_yk (P := fun v => wpX_migrate (fun r u' => wpY_migrate (fun r' v' => r' = r ∧ i_Rel (k + 5) u' v') v v1 v2 v3) (c1, c2, c3, c4, c5, c6, c7, c8, c9, c10, c11, c12, c13, c14, c15, c16, c17, c18, c19, c20, c21) v1 v2 v3) ?_ v hY0
  intro he fi tg ca hG
  have hY : wr_RY N O G kd nd fd am hm vl rm (nI N, nI O, he, fi, hm, vl, (fun i => nI (rm i)), kd, tg, nd, fd, ca, am) := wr_yin hG
  have IR : i_Rel (k + 5) (c1, c2, c3, c4, c5, c6, c7, c8, c9, c10, c11, c12, c13, c14, c15, c16, c17, c18, c19, c20, c21) (nI N, nI O, he, fi, hm, vl, (fun i => nI (rm i)), kd, tg, nd, fd, ca, am) := ⟨N, O, G, kd, nd, fd, am, hm, vl, ds, rm, hI, hr, hX, hY⟩
  have N4 := hI.1.2.1
  have O12 := hI.1.2.2.2.1
  have gO : ∀ p, p < 144 → G p ≠ -1 → ∃ o, o < O ∧ G p = nI o := fun p hp z => by
    obtain ⟨o, o1, o2, _⟩ := hI.2.1 p hp z
    exact ⟨o, o1, o2⟩
  by_cases g1 : wr_gd N v1
  · by_cases g3 : wr_gd N v3
    · by_cases g2 : wr_gd 6 v2
      · obtain ⟨n, hn, rfl⟩ := g1
        obtain ⟨h, hh, rfl⟩ := g2
        have e6 : (nI (n * 6 + h)).toNatClampNeg = n * 6 + h := nI_clamp (by omega)
        have i6 : vp_in (nI (n * 6 + h)) 24 := vp_in_nI (by omega) (by omega)
        have eh : he (n * 6 + h) = G (n * 6 + h) := (hG.1 _ (by omega)).1
        have rn := hr n (by omega)
        have in4 : vp_in (nI n) 4 := vp_in_nI (by omega) (by omega)
        have en : (nI n).toNatClampNeg = n := nI_clamp (by omega)
        by_cases ge : G (n * 6 + h) = -1
        · unfold wpX_migrate
          refine wr_ckX hX hn N4 g3 hh (fun _ => br_f (by decide) ?_) (fun z => absurd ge z)
          unfold wpY_migrate
          refine wr_ynodT hY N4 ⟨n, hn, rfl⟩ (br_t rfl (wr_ynodT hY N4 g3 (br_t rfl (wr_yhanT ⟨h, hh, rfl⟩ (br_t rfl ?_) _))))
          rw [wr_hp]
          exact ⟨i6, nm_r (e' := G (n * 6 + h)) (by rw [e6]; exact eh) (br_t ge ⟨rfl, IR⟩)⟩
        · obtain ⟨o, o1, o2, o3⟩ := hI.2.1 (n * 6 + h) (by omega) ge
          have io : vp_in (nI o) 12 := vp_in_nI (by omega) (by omega)
          have eo : (nI o).toNatClampNeg = o := nI_clamp (by omega)
          have eho : he (nI (n * 6 + h)).toNatClampNeg = nI o := by rw [e6, eh]; exact o2
          have no : nI o ≠ -1 := wr_nm (by omega)
          unfold wpX_migrate
          refine wr_ckX hX hn N4 g3 hh (fun z => absurd z ge) (fun _ => br_t (by decide) ?_)
          by_cases sm : v3 = nI n
          · refine br_t sm ?_
            unfold wpY_migrate
            refine wr_ynodT hY N4 ⟨n, hn, rfl⟩ (br_t rfl (wr_ynodT hY N4 g3 (br_t rfl (wr_yhanT ⟨h, hh, rfl⟩ (br_t rfl ?_) _))))
            rw [wr_hp]
            exact ⟨i6, nm_r (e' := nI o) eho (br_f no (br_t sm ⟨rfl, IR⟩))⟩
          · refine br_f sm ?_
            unfold wpX_handlePlace
            rw [wr_hp]
            refine wr_robj hX (by omega) ?_
            rw [wr_hdn (by omega), o2]
            obtain ⟨h5a, h5b⟩ := hI.2.2.2.2.2.1 o (by omega) o3
            refine wr_rhome hX o1 o3 h5b ?_
            by_cases aw : hm o = -10
            · refine br_t aw ?_
              unfold wpY_migrate
              refine wr_ynodT hY N4 ⟨n, hn, rfl⟩ (br_t rfl (wr_ynodT hY N4 g3 (br_t rfl (wr_yhanT ⟨h, hh, rfl⟩ (br_t rfl ?_) _))))
              rw [wr_hp]
              exact ⟨i6, nm_r (e' := nI o) eho (br_f no (br_f sm ⟨io, br_t (by rw [eo]; exact aw) ⟨rfl, IR⟩⟩))⟩
            · refine br_f aw ?_
              by_cases ho : hm o = nI n
              · refine br_t ho ?_
                refine wr_spX (m := 1) (c := 2) hX (by omega) (by omega) (by omega) (fun z => br_f (by decide) ?_) (fun z1 z2 => br_f (by decide) ?_) (fun z1 z2 => br_t (by decide) ?_)
                · unfold wpY_migrate
                  refine wr_ynodT hY N4 ⟨n, hn, rfl⟩ (br_t rfl (wr_ynodT hY N4 g3 (br_t rfl (wr_yhanT ⟨h, hh, rfl⟩ (br_t rfl ?_) _))))
                  rw [wr_hp]
                  refine ⟨i6, nm_r (e' := nI o) eho (br_f no (br_f sm ⟨io, br_f (by rw [eo]; exact aw) ⟨io, br_t (by rw [eo]; exact ho) ?_⟩⟩))⟩
                  exact wr_ylim (m := 1) (c := 2) hY O12 gO rn (by omega) (by omega) (by omega) (fun _ => br_f (by decide) ⟨rfl, IR⟩) (fun y1 y2 => by omega) (fun y1 y2 => by omega)
                · unfold wpY_migrate
                  refine wr_ynodT hY N4 ⟨n, hn, rfl⟩ (br_t rfl (wr_ynodT hY N4 g3 (br_t rfl (wr_yhanT ⟨h, hh, rfl⟩ (br_t rfl ?_) _))))
                  rw [wr_hp]
                  refine ⟨i6, nm_r (e' := nI o) eho (br_f no (br_f sm ⟨io, br_f (by rw [eo]; exact aw) ⟨io, br_t (by rw [eo]; exact ho) ?_⟩⟩))⟩
                  exact wr_ylim (m := 1) (c := 2) hY O12 gO rn (by omega) (by omega) (by omega) (fun y1 => by omega) (fun _ _ => br_f (by decide) ⟨rfl, IR⟩) (fun y1 y2 => by omega)
                · obtain ⟨m, hm3, rfl⟩ := g3
                  obtain ⟨s, s1, s2, s3⟩ := wr_slot hI (Or.inl z1)
                  have gt : G (48 + s) = -1 := (hI.2.2.2.1 s s1).1.mp s2
                  have gc : G (96 + s) = -1 := wr_noc hI s1 (by rw [s2]; decide)
                  obtain ⟨i1, nm⟩ := wr_imig hI o1 o3 aw hm3
                  have i2 := wr_ipost i1 (k := 7) (c := -1) (n := nI m) (f := -1) s1 s2 (by decide) o1 (by rw [pk_us]; decide) (fun y => absurd rfl y) ⟨fun y => absurd y (by decide), fun y => absurd rfl y⟩ (by rw [wr_b0 rfl]; omega) (fun _ => ⟨m, hm3, rfl⟩) (fun y => by rcases y with y | y | y <;> exact absurd y (by decide)) (fun _ => ⟨pk_us, pk_us.symm, nm⟩)
                  obtain ⟨b1, b2, b3⟩ := wr_4uu (rm := rm) (show n < 4 by omega) z2
                  refine wr_rpost (n' := nI m) (f' := -1) (a' := 0) hX s1 s2 s3 (by decide) (fun _ => rfl) (fun y => by rcases y with y | y | y <;> exact absurd y (by decide)) (fun y => absurd y (by decide)) (wr_all ?_)
                  intro d1 d2 d3 d4 d5 d6 d7 d8 d9 d10 d11 d12 d13 d14 d15 d16 d17 d18 d19 d20 d21 h2
                  refine wr_raim h2 s1 (by omega) hh gt ge (by omega) b2 (wr_all ?_)
                  intro j1 j2 j3 j4 j5 j6 j7 j8 j9 j10 j11 j12 j13 j14 j15 j16 j17 j18 j19 j20 j21 h3
                  refine wr_rdep h3 (by omega) o3 b3 (wr_all ?_)
                  intro w1 w2 w3 w4 w5 w6 w7 w8 w9 w10 w11 w12 w13 w14 w15 w16 w17 w18 w19 w20 w21 h4
                  obtain ⟨_, _, _, _, _, _, hw21, _⟩ := wr_rd h4
                  refine ⟨in4, in4, nm_r (e' := fun i => nI (wr_un (wr_un rm n (rm n - 1)) n (wr_un rm n (rm n - 1) n - 1) i)) (by rw [hw21]; exact wr_sub1 (by omega) (by rw [wr_us]; omega)) ?_⟩
                  have h5 := wr_wrm (n := n) (x := wr_un rm n (rm n - 1) n - 1) h4 (by rw [wr_us]; omega)
                  have pe : upd (upd G (48 + s) (nI o)) (96 + s) (-1) = upd G (48 + s) (nI o) := wr_pid (by rw [pk_un (by omega)]; exact gc)
                  rw [wr_rm2, ← b1, o2, ← pe] at h5
                  rw [wr_rm2]
                  unfold wpY_migrate
                  refine wr_ynodT hY N4 ⟨n, hn, rfl⟩ (br_t rfl (wr_ynodT hY N4 ⟨m, hm3, rfl⟩ (br_t rfl (wr_yhanT ⟨h, hh, rfl⟩ (br_t rfl ?_) _))))
                  rw [wr_hp]
                  refine ⟨i6, nm_r (e' := nI o) eho (br_f no (br_f sm ⟨io, br_f (by rw [eo]; exact aw) ⟨io, br_t (by rw [eo]; exact ho) ?_⟩⟩))⟩
                  refine wr_ylim (m := 1) (c := 2) hY O12 gO rn (by omega) (by omega) (by omega) (fun y1 => by omega) (fun y1 y2 => by omega) (fun _ _ => br_t rfl ⟨io, nm_r (e' := upd hm o (-10)) (by rw [eo]) ⟨in4, in4, nm_r (wr_sub2 (by omega) z2) ?_⟩⟩)
                  refine wr_yplace (wr_yin hG) s1 s2 s3 (wr_yall ?_)
                  intro f1 f2 f3 f4 f5 f6 f7 f8 f9 f10 f11 f12 f13 h6
                  exact ⟨rfl, N, O, _, _, _, _, _, _, vl, _, _, i2, wr_4b hr (by omega), h5, h6⟩
              · refine br_f ho ?_
                unfold wpY_migrate
                refine wr_ynodT hY N4 ⟨n, hn, rfl⟩ (br_t rfl (wr_ynodT hY N4 g3 (br_t rfl (wr_yhanT ⟨h, hh, rfl⟩ (br_t rfl ?_) _))))
                rw [wr_hp]
                exact ⟨i6, nm_r (e' := nI o) eho (br_f no (br_f sm ⟨io, br_f (by rw [eo]; exact aw) ⟨io, br_f (by rw [eo]; exact ho) ⟨rfl, IR⟩⟩⟩))⟩
      · unfold wpX_migrate
        refine wr_ckH hX g1 g3 g2 (br_f (by decide) ?_)
        unfold wpY_migrate
        exact wr_ynodT hY N4 g1 (br_t rfl (wr_ynodT hY N4 g3 (br_t rfl (wr_yhanF g2 (br_f (by decide) ⟨rfl, IR⟩) _))))
    · unfold wpX_migrate
      refine wr_ckN1 hX g1 g3 (br_f (by decide) ?_)
      unfold wpY_migrate
      exact wr_ynodT hY N4 g1 (br_t rfl (wr_ynodF hY N4 g3 (br_f (by decide) ⟨rfl, IR⟩)))
  · unfold wpX_migrate
    refine wr_ckN0 hX g1 (br_f (by decide) ?_)
    unfold wpY_migrate
    exact wr_ynodF hY N4 g1 (br_f (by decide) ⟨rfl, IR⟩)
end
section
/-! create -/
section
variable {N O b : Nat} {G kd nd fd am hm vl ds : Nat → Int32} {rm : Nat → Nat}
theorem wr_fnL {post : Int32 → Prop} {c1 c2 c3 c4 c5 c6 c7 c8 c9 c10 c11 c12 c13 c14 c15 c16 c17 c18 c19 c20 c21} (hu : wr_RX N O G kd nd fd am hm vl ds rm b (c1, c2, c3, c4, c5, c6, c7, c8, c9, c10, c11, c12, c13, c14, c15, c16, c17, c18, c19, c20, c21)) {r : Nat} (hr : r ≤ O) (hb : ∀ j, j < r → hm j ≠ -1) (h0 : r < O → hm r = -1) (k : post (if r < O then nI r else -1)) : ∀ d i, i + d = O → i ≤ r → wX_freeNumber_2 post c1 c2 c3 c4 c5 c6 c7 c8 c9 c10 c11 c12 c13 c14 c15 c16 c17 c18 c19 c20 c21 (d + 1) (nI i) := by
  obtain ⟨_, q2, _, _, _, _, _, _, hH, _, _, q12, _⟩ := wr_rd hu
  intro d
  induction d with
  | zero =>
    intro i hi hle
    have e : r = O := by omega
    rw [e, if_neg (by omega)] at k
    have ei : i = O := by omega
    rw [ei, q2]
    exact br_t (Int32.le_refl _) k
  | succ d ih =>
    intro i hi hle
    refine br_f (by rw [q2]; exact nI_ge (by omega) (by omega)) ⟨vp_in_nI (by omega) (by omega), ?_⟩
    rw [nI_clamp (show i < 2 ^ 31 by omega)]
    have hi1 := (hH i (by omega)).1
    by_cases z : c14 i = -1
    · refine br_t z ?_
      have e : i = r := by
        by_cases e : i = r
        · exact e
        · exact absurd (hi1.mp z) (hb i (by omega))
      rw [e]
      rw [if_pos (by omega)] at k
      exact k
    · refine br_f z (nm_r (nI_1 i) (ih (i + 1) (by omega) ?_))
      by_cases e : i = r
      · rw [e] at z hi1; exact absurd (hi1.mpr (h0 (by omega))) z
      · omega
theorem wr_fn {post : Int32 → Prop} {u : SX} (hu : wr_RX N O G kd nd fd am hm vl ds rm b u) {r : Nat} (hr : r ≤ O) (hb : ∀ j, j < r → hm j ≠ -1) (h0 : r < O → hm r = -1) (k : post (if r < O then nI r else -1)) : wpX_freeNumber post u := by
  revert hu
  refine wr_all (P := fun u => wr_RX N O G kd nd fd am hm vl ds rm b u → wpX_freeNumber post u) ?_ u
  intro c1 c2 c3 c4 c5 c6 c7 c8 c9 c10 c11 c12 c13 c14 c15 c16 c17 c18 c19 c20 c21 hu
  unfold wpX_freeNumber
  exact ⟨O + 1, wr_fnL hu hr hb h0 k O 0 (by omega) (by omega)⟩
theorem wr_rcreate {post : Int32 → SX → Prop} {u : SX} {n h o : Nat} (hu : wr_RX N O G kd nd fd am hm vl ds rm b u) (hn : n < N) (hh : h < 6) (h0 : G (n * 6 + h) = -1) (hb : ∀ j, j < h → G (n * 6 + j) ≠ -1) (ho : o < O) (ho0 : hm o = -1) (hob : ∀ j, j < o → hm j ≠ -1) (ht : wr_N (-1) G 146 + 1 ≤ 48)
    (k : ∀ u', wr_RX N O (upd G (n * 6 + h) (nI o)) kd nd fd am (upd hm o (nI n)) (upd vl o 0) (upd ds o (nI n)) rm b u' → post (nI h) u') : wpX_create post u (nI n) := by
  refine wr_el (P := fun u => wpX_create post u (nI n)) hu ?_
  intro W sp lv mf tl lc lw cw co cn sc an vs it mn mg ma ob rk hF
  have hR : wr_RX N O G kd nd fd am hm vl ds rm b (nI N, nI O, nI W, nI sp, nI lv, nI mf, nI tl, (fun i => nI (lc i)), (fun i => nI (lw i)), (fun i => nI (cw i)), co, cn, (fun i => nI (sc i)), an, vs, it, kd, mn, mg, ma, (fun i => nI (rm i))) := wr_in ob rk hF
  obtain ⟨⟨g1, g2, g3, g4, g5⟩, hL, hG, hH, hM⟩ := hF
  have hl0 := hL.1
  have lvb : lv < O := by rw [g5]; exact wr_N_lt ho ho0
  obtain ⟨s, rfl⟩ : ∃ s, sp = s + 1 := ⟨sp - 1, by omega⟩
  obtain ⟨f1, f2, f3, f4, f5⟩ := wr_fresh hL rfl
  have s252 : s < 252 := by have := hL.2.2.2.2.2.2.2.2.2.2; omega
  have e1 : (nI o).toNatClampNeg = o := nI_clamp (by omega)
  have i1 : vp_in (nI o) 12 := vp_in_nI (by omega) (by omega)
  have e6 : (nI (n * 6 + h)).toNatClampNeg = n * 6 + h := nI_clamp (by omega)
  have i6 : vp_in (nI (n * 6 + h)) 398 := vp_in_nI (by omega) (by omega)
  have ao : an o = -1 := (hH o (by omega)).1.mpr ho0
  have lp : lw (n * 6 + h) = 0 := by
    by_cases e : 0 < lw (n * 6 + h)
    · exact absurd h0 ((wr_gln hL hG (by omega)).mpr e)
    · omega
  have hL2 := wr_create hL (c := sc s) rfl (p := n * 6 + h) (by omega) lp ho ao
  have tl1 : nI tl + 1 ≤ 48 := by rw [nI_1]; exact nI_le (b := 48) (by omega) (by decide)
  unfold wpX_create
  refine wr_nodeT hR ⟨n, hn, rfl⟩ (br_f (by decide) (wr_ehS (h := h) hR (by omega) hh h0 hb (br_t (nI_pos' (by omega)) (wr_fn hR (r := o) (by omega) hob (fun _ => ho0) ?_))))
  rw [if_pos ho]
  refine br_t (nI_pos' (by omega)) (br_t tl1 (wr_xtake s252 rfl f1 ?_))
  unfold wpX_handlePlace
  show vp_in (nI o) 12 ∧ _
  rw [wr_hp]
  refine ⟨i1, nm_r (e' := upd an o (nI (sc s))) (by rw [e1]) ⟨i1, nm_r (e' := upd vs o 0) (by rw [e1]) ⟨i1, nm_r (e' := upd it o 0) (by rw [e1, wr_bo0]) (nm_r (nI_1 lv) ⟨i6, nm_r (e' := fun i => nI (wr_un lc (n * 6 + h) (sc s) i)) (by rw [e6, wr_nu]) ⟨i6, nm_r (e' := fun i => nI (wr_un lw (n * 6 + h) W i)) (by rw [e6, wr_nu]) (nm_r (nI_1 tl) (k _ ?_))⟩⟩)⟩⟩⟩
  refine wr_in (upd ob (sc s) (nI o)) (wr_un rk (sc s) 0) ⟨⟨g1, g2, ?_, g4, ?_⟩, hL2, ?_, ?_, hM⟩
  · have q := wr_N_upd (y := -1) (x := nI o) (f := G) (n := 146) (q := n * 6 + h) (by omega)
    rw [h0, wr_b0 rfl, wr_b1 (wr_nm (by omega))] at q
    omega
  · have q := wr_N_upd (y := -1) (x := nI n) (f := hm) (n := O) ho
    rw [ho0, wr_b0 rfl, wr_b1 (wr_nm (by omega))] at q
    omega
  · intro r hr
    by_cases e3 : r = n * 6 + h
    · rw [e3, wr_us, wr_us, pk_us, pk_us, if_neg (by omega)]
    · rw [wr_ue e3, wr_ue e3, pk_un e3]
      by_cases e4 : lw r = 0
      · rw [if_pos e4]; exact wr_glz hG hr e4
      · rw [if_neg e4, pk_un (f3 r (by omega) (by omega))]
        exact wr_gl1 hG hr (by omega)
  · intro r hr
    obtain ⟨x1, x2, x3⟩ := hH r hr
    by_cases e : r = o
    · rw [e, pk_us, pk_us, pk_us, pk_us, pk_us, pk_us, nI_clamp (by omega), pk_us]
      exact ⟨⟨fun z => absurd z (wr_nm (by omega)), fun z => absurd z (wr_nm (by omega))⟩, fun _ => ⟨rfl, rfl⟩, fun _ => ⟨fun _ => wr_nm10 (by omega), fun _ => rfl⟩⟩
    · rw [pk_un e, pk_un e, pk_un e, pk_un e, pk_un e, pk_un e]
      refine ⟨x1, fun z => ?_, x3⟩
      obtain ⟨v1, a', v2, v3, v4, v5⟩ := hL.2.2.2.2.2.2.1 r hr z
      have na : (an r).toNatClampNeg ≠ sc s := by
        rw [v3, nI_clamp (by omega)]
        intro y; rw [y] at v4; omega
      rw [pk_un na]
      exact x2 z
end
section
variable {N O : Nat} {G kd nd fd am hm vl : Nat → Int32} {rm : Nat → Nat} {he fi tg ca : Nat → Int32}
theorem wr_yc35 {post : Int32 → SY → Prop} {x1 x2 : Int32} (hO : O ≤ 12) : ∀ d f x3, d ≤ O →
    (∀ r : Int32, (∃ o, o < d ∧ r = nI o ∧ hm o = -1 ∧ ∀ j, j < o → hm j ≠ -1) ∨ (r = x3 ∧ ∀ j, j < d → hm j ≠ -1) → ∀ g, wY_create_35 post x1 x2 (nI N) (nI O) he fi hm vl (fun i => nI (rm i)) kd tg nd fd ca am (g + 1) r (-1)) → wY_create_35 post x1 x2 (nI N) (nI O) he fi hm vl (fun i => nI (rm i)) kd tg nd fd ca am (d + f + 1) x3 (nI d - 1) := by
  intro d
  induction d with
  | zero =>
    intro f x3 hd k
    have e : nI 0 - 1 = -1 := by decide
    rw [e, Nat.zero_add]
    exact k x3 (Or.inr ⟨rfl, fun j hj => by omega⟩) f
  | succ d ih =>
    intro f x3 hd k
    rw [nI_pred, show d + 1 + f + 1 = (d + f + 1) + 1 by omega]
    have e1 : (nI d).toNatClampNeg = d := nI_clamp (by omega)
    have e2 : nI d + (-1) = nI d - 1 := by rw [Int32.sub_eq_add_neg]
    refine br_f (nI_pos (by omega)) ⟨vp_in_nI (by omega) (by omega), ?_⟩
    rw [e1]
    by_cases z : hm d = -1
    · refine br_t z (nm_r e2 (ih f (nI d) (by omega) (fun r hr g => k r ?_ g)))
      rcases hr with ⟨o, o1, o2, o3, o4⟩ | ⟨r1, r2⟩
      · exact Or.inl ⟨o, by omega, o2, o3, o4⟩
      · exact Or.inl ⟨d, by omega, r1, z, r2⟩
    · refine br_f z (nm_r e2 (ih f x3 (by omega) (fun r hr g => k r ?_ g)))
      rcases hr with ⟨o, o1, o2, o3, o4⟩ | ⟨r1, r2⟩
      · exact Or.inl ⟨o, by omega, o2, o3, o4⟩
      · refine Or.inr ⟨r1, fun j hj => ?_⟩
        by_cases e : j = d
        · rw [e]; exact z
        · exact r2 j (by omega)
end
theorem i_vc_create {k : Nat} {u : SX} {v : SY} (I : i_Rel k u v) (hk : k + 5 ≤ 2564) (v1 : Int32) : wpX_create (fun r u' => wpY_create (fun r' v' => r' = r ∧ i_Rel (k + 5) u' v') v v1) u v1 := by
  obtain ⟨N, O, G, kd, nd, fd, am, hm, vl, ds, rm, hI, hr, hX0, hY0⟩ := I
  revert hX0
  refine wr_all (P := fun u => wr_RX N O (wr_hd G (-1) (-1)) kd nd fd am hm vl ds rm (wr_4 rm) u → wpX_create (fun r u' => wpY_create (fun r' v' => r' = r ∧ i_Rel (k + 5) u' v') v v1) u v1) ?_ u
  intro c1 c2 c3 c4 c5 c6 c7 c8 c9 c10 c11 c12 c13 c14 c15 c16 c17 c18 c19 c20 c21 hX
  refine wr_yk (P := fun v => wpX_create (fun r u' => wpY_create (fun r' v' => r' = r ∧ i_Rel (k + 5) u' v') v v1) (c1, c2, c3, c4, c5, c6, c7, c8, c9, c10, c11, c12, c13, c14, c15, c16, c17, c18, c19, c20, c21) v1) ?_ v hY0
  intro he fi tg ca hG
  have hY : wr_RY N O G kd nd fd am hm vl rm (nI N, nI O, he, fi, hm, vl, (fun i => nI (rm i)), kd, tg, nd, fd, ca, am) := wr_yin hG
  have IR : i_Rel (k + 5) (c1, c2, c3, c4, c5, c6, c7, c8, c9, c10, c11, c12, c13, c14, c15, c16, c17, c18, c19, c20, c21) (nI N, nI O, he, fi, hm, vl, (fun i => nI (rm i)), kd, tg, nd, fd, ca, am) := ⟨N, O, G, kd, nd, fd, am, hm, vl, ds, rm, hI, hr, hX, hY⟩
  have N4 := hI.1.2.1
  have O12 := hI.1.2.2.2.1
  have gO : ∀ p, p < 144 → G p ≠ -1 → ∃ o, o < O ∧ G p = nI o := fun p hp z => by
    obtain ⟨o, o1, o2, _⟩ := hI.2.1 p hp z
    exact ⟨o, o1, o2⟩
  have eN : wr_N (-1) (wr_hd G (-1) (-1)) 146 = wr_N (-1) G 144 := by rw [wr_hdN, wr_b0 rfl]; rfl
  have t144 := wr_N_le (-1) G 144
  by_cases g1 : wr_gd N v1
  · obtain ⟨n, hn, rfl⟩ := g1
    have rn := hr n (by omega)
    obtain ⟨_, _, _, _, q7, _⟩ := wr_rd hX
    rw [eN] at q7
    rcases wr_least (fun j => G (n * 6 + j) = -1) 6 with hb | ⟨l, l1, l2, l3⟩
    · unfold wpX_create
      refine wr_nodeT hX ⟨n, hn, rfl⟩ (br_f (by decide) (wr_ehN hX (by omega) (fun j hj => by rw [wr_hdn (by omega)]; exact hb j hj) (br_f (by decide) ?_)))
      unfold wpY_create
      exact wr_ynodT hY N4 ⟨n, hn, rfl⟩ (br_t rfl (wr_yehN hY (by omega) hb (br_t rfl ⟨rfl, IR⟩)))
    · rcases wr_least (fun j => hm j = -1) O with ob | ⟨o, o1, o2, o3⟩
      · unfold wpX_create
        refine wr_nodeT hX ⟨n, hn, rfl⟩ (br_f (by decide) (wr_ehS (h := l) hX (by omega) l1 (by rw [wr_hdn (by omega)]; exact l2) (fun j hj => by rw [wr_hdn (by omega)]; exact l3 j hj) (br_t (nI_pos' (by omega)) (wr_fn hX (r := O) (by omega) ob (fun z => by omega) ?_))))
        rw [if_neg (by omega)]
        refine br_f (by decide) ?_
        unfold wpY_create
        refine wr_ynodT hY N4 ⟨n, hn, rfl⟩ (br_t rfl (wr_yehS hY (by omega) l1 l2 l3 (br_f (wr_nm (by omega)) (nm_e ⟨O + 0 + 1, wr_yc35 O12 O 0 (-1) (by omega) ?_⟩))))
        intro r hr2 g
        rcases hr2 with ⟨o, o1, o2, o3, o4⟩ | ⟨r1, r2⟩
        · exact absurd o3 (ob o o1)
        · exact br_t (by decide) (br_t r1 ⟨rfl, IR⟩)
      · have no : nI o ≠ -1 := wr_nm (by omega)
        by_cases cr : wr_N (-1) G 144 + 1 ≤ 48
        · have f0 : ∀ f, f < 2 → G (24 + o * 2 + f) = -1 := hI.2.2.1 o (by omega) (by omega) o2
          have i1 := wr_inew hI (o := o) (n := n) o1 o2 hn
          have i2 := wr_iset i1 (p := n * 6 + l) (o := o) (by omega) l2 o1 (by rw [pk_us]; exact wr_nm (by omega)) cr (fun q _ f _ e => by omega)
          refine wr_rcreate hX hn l1 (by rw [wr_hdn (by omega)]; exact l2) (fun j hj => by rw [wr_hdn (by omega)]; exact l3 j hj) o1 o2 o3 (by rw [eN]; exact cr) (wr_all ?_)
          intro d1 d2 d3 d4 d5 d6 d7 d8 d9 d10 d11 d12 d13 d14 d15 d16 d17 d18 d19 d20 d21 h2
          rw [wr_hdu (by omega)] at h2
          have eo : (nI o).toNatClampNeg = o := nI_clamp (by omega)
          have io : vp_in (nI o) 12 := vp_in_nI (by omega) (by omega)
          have e7 : (nI (n * 6 + l)).toNatClampNeg = n * 6 + l := nI_clamp (by omega)
          have ea : (nI (o * 2 + 0)).toNatClampNeg = o * 2 + 0 := nI_clamp (by omega)
          have eb : (nI (o * 2 + 1)).toNatClampNeg = o * 2 + 1 := nI_clamp (by omega)
          have pa : upd G (24 + (o * 2 + 0)) (-1) = G := wr_pid (by rw [← Nat.add_assoc]; exact f0 0 (by omega))
          have pb : upd G (24 + (o * 2 + 1)) (-1) = G := wr_pid (by rw [← Nat.add_assoc]; exact f0 1 (by omega))
          have y1 := wr_YGf (j := o * 2 + 0) (x := -1) hG (by omega)
          rw [pa] at y1
          have y2 := wr_YGf (j := o * 2 + 1) (x := -1) y1 (by omega)
          rw [pb] at y2
          have y3 := wr_YGh (j := n * 6 + l) (x := nI o) y2 (by omega)
          unfold wpY_create
          refine wr_ynodT hY N4 ⟨n, hn, rfl⟩ (br_t rfl (wr_yehS hY (by omega) l1 l2 l3 (br_f (wr_nm (by omega)) (nm_e ⟨O + 0 + 1, wr_yc35 O12 O 0 (-1) (by omega) ?_⟩))))
          intro r hr2 g
          have er : r = nI o := by
            rcases hr2 with ⟨q, q1, q2, q3, q4⟩ | ⟨r1, r2⟩
            · by_cases lt : q < o
              · exact absurd q3 (o3 q lt)
              · by_cases lt2 : o < q
                · exact absurd o2 (q4 o lt2)
                · rw [q2, show q = o by omega]
            · exact absurd o2 (r2 o o1)
          rw [er]
          refine br_t (by decide) (br_f no (wr_ylim (m := 1) (c := 0) hY O12 gO rn (by omega) (by omega) (by omega) (fun y1 => by omega) (fun y1 y2 => by omega) (fun _ _ => br_t rfl ⟨io, nm_r (e' := upd hm o (nI n)) (by rw [eo]) ⟨io, nm_r (e' := upd vl o 0) (by rw [eo]) ⟨3, ?_⟩⟩⟩)))
          refine br_f (by decide) ?_
          show vp_in (nI o * 2 + nI 0) 24 ∧ _
          rw [wr_fp2]
          refine ⟨vp_in_nI (by omega) (by omega), nm_r (e' := upd fi (o * 2 + 0) (-1)) ?_ (nm_r (e' := 1) (by decide) (br_f (by decide) ?_))⟩
          · show upd fi (nI o * 2 + nI 0).toNatClampNeg (-1) = _
            rw [wr_fp2, ea]
          show vp_in (nI o * 2 + nI 1) 24 ∧ _
          rw [wr_fp2]
          refine ⟨vp_in_nI (by omega) (by omega), nm_r (e' := upd (upd fi (o * 2 + 0) (-1)) (o * 2 + 1) (-1)) ?_ (nm_r (e' := 2) (by decide) (br_t (by decide) ?_))⟩
          · show upd _ (nI o * 2 + nI 1).toNatClampNeg (-1) = _
            rw [wr_fp2, eb]
          rw [wr_hp]
          refine ⟨vp_in_nI (by omega) (by omega), nm_r (e' := upd he (n * 6 + l) (nI o)) (by rw [e7]) ?_⟩
          exact ⟨rfl, N, O, _, kd, nd, fd, am, _, _, _, rm, i2, hr, h2, wr_yin y3⟩
        · unfold wpX_create
          refine wr_nodeT hX ⟨n, hn, rfl⟩ (br_f (by decide) (wr_ehS (h := l) hX (by omega) l1 (by rw [wr_hdn (by omega)]; exact l2) (fun j hj => by rw [wr_hdn (by omega)]; exact l3 j hj) (br_t (nI_pos' (by omega)) (wr_fn hX (r := o) (by omega) o3 (fun z => o2) ?_))))
          rw [if_pos o1]
          refine br_t (nI_pos' (by omega)) (br_f ?_ ?_)
          · rw [q7, nI_1]
            exact nI_ge (a := 48) (by omega) (by omega)
          unfold wpY_create
          refine wr_ynodT hY N4 ⟨n, hn, rfl⟩ (br_t rfl (wr_yehS hY (by omega) l1 l2 l3 (br_f (wr_nm (by omega)) (nm_e ⟨O + 0 + 1, wr_yc35 O12 O 0 (-1) (by omega) ?_⟩))))
          intro r hr2 g
          have nr : r ≠ -1 := by
            rcases hr2 with ⟨q, q1, q2, q3, q4⟩ | ⟨r1, r2⟩
            · rw [q2]; exact wr_nm (by omega)
            · exact absurd o2 (r2 o o1)
          exact br_t (by decide) (br_f nr (wr_ylim (m := 1) (c := 0) hY O12 gO rn (by omega) (by omega) (by omega) (fun _ => br_f (by decide) ⟨rfl, IR⟩) (fun y1 y2 => by omega) (fun y1 y2 => by omega)))
  · unfold wpX_create
    refine wr_nodeF hX g1 (br_t rfl ?_)
    unfold wpY_create
    exact wr_ynodF hY N4 g1 (br_f (by decide) ⟨rfl, IR⟩)
end
section
/-! the getters -/
theorem wr_ib {c : Prop} [Decidable c] {A B : Prop} {P : Int32 → Prop} {a b : Int32} (h : P (if c then a else b)) (f : c → P a → A) (g : ¬ c → P b → B) : (c → A) ∧ (¬ c → B) :=
  ⟨fun hc => f hc (by rw [if_pos hc] at h; exact h), fun hc => g hc (by rw [if_neg hc] at h; exact h)⟩
def wr_v3 (p k am : Int32) : Int32 := if p = 5 then (if k = 6 then am else -1) else -1
def wr_v2 (p k ca am : Int32) : Int32 := if p = 4 then (if k = 3 then ca else wr_v3 p k am) else wr_v3 p k am
def wr_v1 (p k fd ca am : Int32) : Int32 := if p = 3 then (if k = 3 then fd else if k = 4 then fd else if k = 5 then fd else wr_v2 p k ca am) else wr_v2 p k ca am
def wr_v0 (p k tg nd fd ca am : Int32) : Int32 := if p = 0 then k else if p = 1 then tg else if p = 2 then (if k = 2 then nd else if k = 7 then nd else if k = 5 then nd else wr_v1 p k fd ca am) else wr_v1 p k fd ca am
section
variable {N O b : Nat} {G kd nd fd am hm vl ds : Nat → Int32} {rm : Nat → Nat}
theorem wr_xmsg {post : Int32 → Prop} {s : Nat} {p : Int32} {c1 c2 c3 c4 c5 c6 c7 c8 c9 c10 c11 c12 c13 c14 c15 c16 c17 c18 c19 c20 c21} (hu : wr_RX N O (wr_hd G (-1) (-1)) kd nd fd am hm vl ds rm b (c1, c2, c3, c4, c5, c6, c7, c8, c9, c10, c11, c12, c13, c14, c15, c16, c17, c18, c19, c20, c21)) (hs : s < 48) (k0 : kd s ≠ 0) (k : post (wr_v0 p (kd s) (G (48 + s)) (nd s) (fd s) (G (96 + s)) (am s))) : wpX_message post (c1, c2, c3, c4, c5, c6, c7, c8, c9, c10, c11, c12, c13, c14, c15, c16, c17, c18, c19, c20, c21) (nI s) p := by
  have i1 : vp_in (nI s) 48 := vp_in_nI hs (by omega)
  have e1 : (nI s).toNatClampNeg = s := nI_clamp (by omega)
  obtain ⟨_, _, _, _, _, hk, _, hM, _⟩ := wr_rd hu
  obtain ⟨m1, m2, m3⟩ := hM s hs
  have t3 : post (wr_v3 p (kd s) (am s)) → wX_message_132 post (nI s) p (kd s) c1 c2 c3 c4 c5 c6 c7 c8 c9 c10 c11 c12 c13 c14 c15 c16 c17 c18 c19 c20 c21 := fun k => by
    unfold wX_message_132
    refine wr_ib (P := post) k (fun _ k => wr_ib (P := post) k (fun h6 k => ⟨i1, ?_⟩) (fun _ k => k)) (fun _ k => k)
    rw [e1, m3 h6]; exact k
  have t2 : post (wr_v2 p (kd s) (G (96 + s)) (am s)) → wX_message_108 post (nI s) p (kd s) c1 c2 c3 c4 c5 c6 c7 c8 c9 c10 c11 c12 c13 c14 c15 c16 c17 c18 c19 c20 c21 := fun k => by
    unfold wX_message_108
    refine wr_ib (P := post) k (fun _ k => wr_ib (P := post) k (fun _ k => ?_) (fun _ k => t3 k)) (fun _ k => t3 k)
    unfold wpX_carriedPlace
    show wpX_objectAt _ _ (96 + nI s)
    rw [wr_cp]
    refine wr_robj hu (by omega) ?_
    rw [wr_hdn (by omega)]; exact k
  have t1 : post (wr_v1 p (kd s) (fd s) (G (96 + s)) (am s)) → wX_message_81 post (nI s) p (kd s) c1 c2 c3 c4 c5 c6 c7 c8 c9 c10 c11 c12 c13 c14 c15 c16 c17 c18 c19 c20 c21 := fun k => by
    unfold wX_message_81
    refine wr_ib (P := post) k (fun _ k => wr_ib (P := post) k (fun h3 k => ⟨i1, ?_⟩) (fun _ k => wr_ib (P := post) k (fun h4 k => ⟨i1, ?_⟩) (fun _ k => wr_ib (P := post) k (fun h5 k => ⟨i1, ?_⟩) (fun _ k => t2 k)))) (fun _ k => t2 k)
    · rw [e1, m2 (Or.inl h3)]; exact k
    · rw [e1, m2 (Or.inr (Or.inl h4))]; exact k
    · rw [e1, m2 (Or.inr (Or.inr h5))]; exact k
  unfold wpX_message
  refine br_f (nI_pos (by omega)) (br_f (nI_ge (b := 48) hs (by decide)) ⟨i1, br_f (by rw [e1, hk]; exact k0) ⟨i1, nm_r (e' := kd s) (by rw [e1, hk]) ?_⟩⟩)
  refine wr_ib (P := post) k (fun _ k => k) (fun _ k => wr_ib (P := post) k (fun _ k => ?_) (fun _ k => wr_ib (P := post) k (fun _ k => wr_ib (P := post) k (fun h2 k => ⟨i1, ?_⟩) (fun _ k => wr_ib (P := post) k (fun h7 k => ⟨i1, ?_⟩) (fun _ k => wr_ib (P := post) k (fun h5 k => ⟨i1, ?_⟩) (fun _ k => t1 k)))) (fun _ k => t1 k)))
  · unfold wpX_targetPlace
    show wpX_objectAt _ _ (48 + nI s)
    rw [wr_tp]
    refine wr_robj hu (by omega) ?_
    rw [wr_hdn (by omega)]; exact k
  · rw [e1, m1 (Or.inl h2)]; exact k
  · rw [e1, m1 (Or.inr (Or.inr h7))]; exact k
  · rw [e1, m1 (Or.inr (Or.inl h5))]; exact k
theorem wr_ymsg {post : Int32 → Prop} {s : Nat} {p : Int32} {he fi tg ca : Nat → Int32} (hG : wr_YG G he fi tg ca) (hs : s < 48) (k0 : kd s ≠ 0) (k : post (wr_v0 p (kd s) (G (48 + s)) (nd s) (fd s) (G (96 + s)) (am s))) : wpY_message post (nI N, nI O, he, fi, hm, vl, (fun i => nI (rm i)), kd, tg, nd, fd, ca, am) (nI s) p := by
  have i1 : vp_in (nI s) 48 := vp_in_nI hs (by omega)
  have e1 : (nI s).toNatClampNeg = s := nI_clamp (by omega)
  obtain ⟨m1, m2⟩ := hG.2 s hs
  have t3 : post (wr_v3 p (kd s) (am s)) → wY_message_115 post (nI s) p (kd s) (nI N) (nI O) he fi hm vl (fun i => nI (rm i)) kd tg nd fd ca am := fun k => by
    unfold wY_message_115
    refine wr_ib (P := post) k (fun _ k => wr_ib (P := post) k (fun h6 k => ⟨i1, ?_⟩) (fun _ k => k)) (fun _ k => k)
    rw [e1]; exact k
  have t2 : post (wr_v2 p (kd s) (G (96 + s)) (am s)) → wY_message_98 post (nI s) p (kd s) (nI N) (nI O) he fi hm vl (fun i => nI (rm i)) kd tg nd fd ca am := fun k => by
    unfold wY_message_98
    refine wr_ib (P := post) k (fun _ k => wr_ib (P := post) k (fun _ k => ⟨i1, ?_⟩) (fun _ k => t3 k)) (fun _ k => t3 k)
    rw [e1, m2]; exact k
  have t1 : post (wr_v1 p (kd s) (fd s) (G (96 + s)) (am s)) → wY_message_71 post (nI s) p (kd s) (nI N) (nI O) he fi hm vl (fun i => nI (rm i)) kd tg nd fd ca am := fun k => by
    unfold wY_message_71
    refine wr_ib (P := post) k (fun _ k => wr_ib (P := post) k (fun h3 k => ⟨i1, ?_⟩) (fun _ k => wr_ib (P := post) k (fun h4 k => ⟨i1, ?_⟩) (fun _ k => wr_ib (P := post) k (fun h5 k => ⟨i1, ?_⟩) (fun _ k => t2 k)))) (fun _ k => t2 k)
    · rw [e1]; exact k
    · rw [e1]; exact k
    · rw [e1]; exact k
  unfold wpY_message
  refine br_f (nI_pos (by omega)) (br_t (nI_lt (b := 48) hs (by decide)) ⟨i1, nm_r (e' := kd s) (by rw [e1]) (br_f k0 ?_)⟩)
  refine wr_ib (P := post) k (fun _ k => k) (fun _ k => wr_ib (P := post) k (fun _ k => ⟨i1, ?_⟩) (fun _ k => wr_ib (P := post) k (fun _ k => wr_ib (P := post) k (fun h2 k => ⟨i1, ?_⟩) (fun _ k => wr_ib (P := post) k (fun h7 k => ⟨i1, ?_⟩) (fun _ k => wr_ib (P := post) k (fun h5 k => ⟨i1, ?_⟩) (fun _ k => t1 k)))) (fun _ k => t1 k)))
  · rw [e1, m1]; exact k
  · rw [e1]; exact k
  · rw [e1]; exact k
  · rw [e1]; exact k
end
section
variable {N O : Nat} {G kd nd fd am hm vl : Nat → Int32} {rm : Nat → Nat} {he fi tg ca : Nat → Int32}
theorem wr_yfreeF {post : Int32 → Prop} {o : Nat} (O12 : O ≤ 12) (ho : o < O) (hl : hm o ≠ -1) (k : post 0) : wpY_isFree post (nI N, nI O, he, fi, hm, vl, (fun i => nI (rm i)), kd, tg, nd, fd, ca, am) (nI o) := by
  unfold wpY_isFree
  refine br_f (nI_pos (by omega)) (br_f (nI_ge ho (by omega)) ⟨vp_in_nI (by omega) (by omega), br_f ?_ k⟩)
  rw [nI_clamp (by omega)]
  exact hl
theorem wr_yfreeT {post : Int32 → Prop} {x : Int32} (O12 : O ≤ 12) (hl : ¬ ∃ o, o < O ∧ x = nI o ∧ hm o ≠ -1) (k : post 1) : wpY_isFree post (nI N, nI O, he, fi, hm, vl, (fun i => nI (rm i)), kd, tg, nd, fd, ca, am) x := by
  unfold wpY_isFree
  by_cases g : wr_gd O x
  · obtain ⟨o, ho, rfl⟩ := g
    refine br_f (nI_pos (by omega)) (br_f (nI_ge ho (by omega)) ⟨vp_in_nI (by omega) (by omega), br_t ?_ k⟩)
    rw [nI_clamp (by omega)]
    by_cases e : hm o = -1
    · exact e
    · exact absurd ⟨o, ho, rfl, e⟩ hl
  · rcases wr_ngd (by omega) g with a | ⟨a, c⟩
    · exact br_t a k
    · exact br_f a (br_t c k)
theorem wr_ylvL {post : Int32 → Prop} (O12 : O ≤ 12) (k : post (nI (wr_N (-1) hm O))) : ∀ d i, i + d = O → wY_liveCount_4 post (nI N) (nI O) he fi hm vl (fun i => nI (rm i)) kd tg nd fd ca am (d + 1) (nI (wr_N (-1) hm i)) (nI i) := by
  intro d
  induction d with
  | zero =>
    intro i hi
    have ei : i = O := by omega
    rw [ei]
    exact br_t (Int32.le_refl _) k
  | succ d ih =>
    intro i hi
    have st : wr_N (-1) hm (i + 1) = wr_N (-1) hm i + wr_b (-1) (hm i) := rfl
    have go := ih (i + 1) (by omega)
    rw [st] at go
    refine br_f (nI_ge (by omega) (by omega)) ⟨vp_in_nI (by omega) (by omega), ?_⟩
    rw [nI_clamp (show i < 2 ^ 31 by omega)]
    by_cases e : hm i = -1
    · rw [wr_b0 e] at go
      exact br_t e (nm_r (nI_1 i) go)
    · rw [wr_b1 e] at go
      exact br_f e (nm_r (nI_1 _) (nm_r (nI_1 i) go))
theorem wr_ymcL {post : Int32 → Prop} (k : post (nI (wr_N 0 kd 48))) : ∀ d i, i + d = 48 → wY_messageCount_4 post (nI N) (nI O) he fi hm vl (fun i => nI (rm i)) kd tg nd fd ca am (d + 1) (nI (wr_N 0 kd i)) (nI i) := by
  intro d
  induction d with
  | zero =>
    intro i hi
    have ei : i = 48 := by omega
    rw [ei]
    exact br_t (by decide) k
  | succ d ih =>
    intro i hi
    have st : wr_N 0 kd (i + 1) = wr_N 0 kd i + wr_b 0 (kd i) := rfl
    have go := ih (i + 1) (by omega)
    rw [st] at go
    refine br_f (nI_ge (b := 48) (by omega) (by decide)) ⟨vp_in_nI (by omega) (by omega), ?_⟩
    rw [nI_clamp (show i < 2 ^ 31 by omega)]
    by_cases e : kd i = 0
    · rw [wr_b0 e] at go
      exact br_t e (nm_r (nI_1 i) go)
    · rw [wr_b1 e] at go
      exact br_f e (nm_r (nI_1 _) (nm_r (nI_1 i) go))
end
theorem i_vc_message {k : Nat} {u : SX} {v : SY} (I : i_Rel k u v) (hk : k + 5 ≤ 2564) (v1 : Int32) (v2 : Int32) : wpX_message (fun r => wpY_message (fun r' => r' = r ∧ i_Rel (k + 5) u v) v v1 v2) u v1 v2 := by
  obtain ⟨N, O, G, kd, nd, fd, am, hm, vl, ds, rm, hI, hr, hX0, hY0⟩ := I
  revert hX0
  refine wr_all (P := fun u => wr_RX N O (wr_hd G (-1) (-1)) kd nd fd am hm vl ds rm (wr_4 rm) u → wpX_message (fun r => wpY_message (fun r' => r' = r ∧ i_Rel (k + 5) u v) v v1 v2) u v1 v2) ?_ u
  intro c1 c2 c3 c4 c5 c6 c7 c8 c9 c10 c11 c12 c13 c14 c15 c16 c17 c18 c19 c20 c21 hX
  refine wr_yk (P := fun v => wpX_message (fun r => wpY_message (fun r' => r' = r ∧ i_Rel (k + 5) (c1, c2, c3, c4, c5, c6, c7, c8, c9, c10, c11, c12, c13, c14, c15, c16, c17, c18, c19, c20, c21) v) v v1 v2) (c1, c2, c3, c4, c5, c6, c7, c8, c9, c10, c11, c12, c13, c14, c15, c16, c17, c18, c19, c20, c21) v1 v2) ?_ v hY0
  intro he fi tg ca hG
  have hY : wr_RY N O G kd nd fd am hm vl rm (nI N, nI O, he, fi, hm, vl, (fun i => nI (rm i)), kd, tg, nd, fd, ca, am) := wr_yin hG
  have IR : i_Rel (k + 5) (c1, c2, c3, c4, c5, c6, c7, c8, c9, c10, c11, c12, c13, c14, c15, c16, c17, c18, c19, c20, c21) (nI N, nI O, he, fi, hm, vl, (fun i => nI (rm i)), kd, tg, nd, fd, ca, am) := ⟨N, O, G, kd, nd, fd, am, hm, vl, ds, rm, hI, hr, hX, hY⟩
  have N4 := hI.1.2.1
  have O12 := hI.1.2.2.2.1
  have gO : ∀ p, p < 144 → G p ≠ -1 → ∃ o, o < O ∧ G p = nI o := fun p hp z => by
    obtain ⟨o, o1, o2, _⟩ := hI.2.1 p hp z
    exact ⟨o, o1, o2⟩
  by_cases g1 : wr_gd 48 v1
  · obtain ⟨s, hs, rfl⟩ := g1
    have i1 : vp_in (nI s) 48 := vp_in_nI hs (by omega)
    have e1 : (nI s).toNatClampNeg = s := nI_clamp (by omega)
    by_cases k0 : kd s = 0
    · obtain ⟨_, _, _, _, _, hk17, _⟩ := wr_rd hX
      unfold wpX_message
      refine br_f (nI_pos (by omega)) (br_f (nI_ge (b := 48) hs (by decide)) ⟨i1, br_t (by rw [e1, hk17]; exact k0) ?_⟩)
      unfold wpY_message
      exact br_f (nI_pos (by omega)) (br_t (nI_lt (b := 48) hs (by decide)) ⟨i1, nm_r (e' := kd s) (by rw [e1]) (br_t k0 ⟨rfl, IR⟩)⟩)
    · exact wr_xmsg hX hs k0 (wr_ymsg hG hs k0 ⟨rfl, IR⟩)
  · rcases wr_ngd (by omega) g1 with a | ⟨a, c⟩
    · unfold wpX_message
      refine br_t a ?_
      unfold wpY_message
      exact br_t a ⟨rfl, IR⟩
    · unfold wpX_message
      refine br_f a (br_t c ?_)
      unfold wpY_message
      exact br_f a (br_f (fun z => Int32.lt_irrefl (Int32.lt_of_lt_of_le z c)) ⟨rfl, IR⟩)
theorem i_vc_handleOf {k : Nat} {u : SX} {v : SY} (I : i_Rel k u v) (hk : k + 5 ≤ 2564) (v1 : Int32) (v2 : Int32) : wpX_handleOf (fun r => wpY_handleOf (fun r' => r' = r ∧ i_Rel (k + 5) u v) v v1 v2) u v1 v2 := by
  obtain ⟨N, O, G, kd, nd, fd, am, hm, vl, ds, rm, hI, hr, hX0, hY0⟩ := I
  revert hX0
  refine wr_all (P := fun u => wr_RX N O (wr_hd G (-1) (-1)) kd nd fd am hm vl ds rm (wr_4 rm) u → wpX_handleOf (fun r => wpY_handleOf (fun r' => r' = r ∧ i_Rel (k + 5) u v) v v1 v2) u v1 v2) ?_ u
  intro c1 c2 c3 c4 c5 c6 c7 c8 c9 c10 c11 c12 c13 c14 c15 c16 c17 c18 c19 c20 c21 hX
  refine wr_yk (P := fun v => wpX_handleOf (fun r => wpY_handleOf (fun r' => r' = r ∧ i_Rel (k + 5) (c1, c2, c3, c4, c5, c6, c7, c8, c9, c10, c11, c12, c13, c14, c15, c16, c17, c18, c19, c20, c21) v) v v1 v2) (c1, c2, c3, c4, c5, c6, c7, c8, c9, c10, c11, c12, c13, c14, c15, c16, c17, c18, c19, c20, c21) v1 v2) ?_ v hY0
  intro he fi tg ca hG
  have hY : wr_RY N O G kd nd fd am hm vl rm (nI N, nI O, he, fi, hm, vl, (fun i => nI (rm i)), kd, tg, nd, fd, ca, am) := wr_yin hG
  have IR : i_Rel (k + 5) (c1, c2, c3, c4, c5, c6, c7, c8, c9, c10, c11, c12, c13, c14, c15, c16, c17, c18, c19, c20, c21) (nI N, nI O, he, fi, hm, vl, (fun i => nI (rm i)), kd, tg, nd, fd, ca, am) := ⟨N, O, G, kd, nd, fd, am, hm, vl, ds, rm, hI, hr, hX, hY⟩
  have N4 := hI.1.2.1
  have O12 := hI.1.2.2.2.1
  have gO : ∀ p, p < 144 → G p ≠ -1 → ∃ o, o < O ∧ G p = nI o := fun p hp z => by
    obtain ⟨o, o1, o2, _⟩ := hI.2.1 p hp z
    exact ⟨o, o1, o2⟩
  by_cases g1 : wr_gd N v1
  · by_cases g2 : wr_gd 6 v2
    · obtain ⟨n, hn, rfl⟩ := g1
      obtain ⟨h, hh, rfl⟩ := g2
      unfold wpX_handleOf
      refine wr_nodeT hX ⟨n, hn, rfl⟩ (br_f (by decide) (wr_handT ⟨h, hh, rfl⟩ (br_f (by decide) ?_) _))
      unfold wpX_handlePlace
      show wpX_objectAt _ _ (nI n * 6 + nI h)
      rw [wr_hp]
      refine wr_robj hX (by omega) ?_
      rw [wr_hdn (by omega)]
      unfold wpY_handleOf
      refine wr_ynodT hY N4 ⟨n, hn, rfl⟩ (br_t rfl (wr_yhanT ⟨h, hh, rfl⟩ (br_t rfl ?_) _))
      rw [wr_hp]
      refine ⟨vp_in_nI (by omega) (by omega), ?_, IR⟩
      rw [nI_clamp (by omega)]
      exact (hG.1 _ (by omega)).1
    · unfold wpX_handleOf
      refine wr_nodeT hX g1 (br_f (by decide) (wr_handF g2 (br_t rfl ?_) _))
      unfold wpY_handleOf
      exact wr_ynodT hY N4 g1 (br_t rfl (wr_yhanF g2 (br_f (by decide) ⟨rfl, IR⟩) _))
  · unfold wpX_handleOf
    refine wr_nodeF hX g1 (br_t rfl ?_)
    unfold wpY_handleOf
    exact wr_ynodF hY N4 g1 (br_f (by decide) ⟨rfl, IR⟩)
theorem i_vc_homeOf {k : Nat} {u : SX} {v : SY} (I : i_Rel k u v) (hk : k + 5 ≤ 2564) (v1 : Int32) : wpX_homeOf (fun r => wpY_homeOf (fun r' => r' = r ∧ i_Rel (k + 5) u v) v v1) u v1 := by
  obtain ⟨N, O, G, kd, nd, fd, am, hm, vl, ds, rm, hI, hr, hX0, hY0⟩ := I
  revert hX0
  refine wr_all (P := fun u => wr_RX N O (wr_hd G (-1) (-1)) kd nd fd am hm vl ds rm (wr_4 rm) u → wpX_homeOf (fun r => wpY_homeOf (fun r' => r' = r ∧ i_Rel (k + 5) u v) v v1) u v1) ?_ u
  intro c1 c2 c3 c4 c5 c6 c7 c8 c9 c10 c11 c12 c13 c14 c15 c16 c17 c18 c19 c20 c21 hX
  refine wr_yk (P := fun v => wpX_homeOf (fun r => wpY_homeOf (fun r' => r' = r ∧ i_Rel (k + 5) (c1, c2, c3, c4, c5, c6, c7, c8, c9, c10, c11, c12, c13, c14, c15, c16, c17, c18, c19, c20, c21) v) v v1) (c1, c2, c3, c4, c5, c6, c7, c8, c9, c10, c11, c12, c13, c14, c15, c16, c17, c18, c19, c20, c21) v1) ?_ v hY0
  intro he fi tg ca hG
  have hY : wr_RY N O G kd nd fd am hm vl rm (nI N, nI O, he, fi, hm, vl, (fun i => nI (rm i)), kd, tg, nd, fd, ca, am) := wr_yin hG
  have IR : i_Rel (k + 5) (c1, c2, c3, c4, c5, c6, c7, c8, c9, c10, c11, c12, c13, c14, c15, c16, c17, c18, c19, c20, c21) (nI N, nI O, he, fi, hm, vl, (fun i => nI (rm i)), kd, tg, nd, fd, ca, am) := ⟨N, O, G, kd, nd, fd, am, hm, vl, ds, rm, hI, hr, hX, hY⟩
  have N4 := hI.1.2.1
  have O12 := hI.1.2.2.2.1
  have gO : ∀ p, p < 144 → G p ≠ -1 → ∃ o, o < O ∧ G p = nI o := fun p hp z => by
    obtain ⟨o, o1, o2, _⟩ := hI.2.1 p hp z
    exact ⟨o, o1, o2⟩
  by_cases g : ∃ o, o < O ∧ v1 = nI o ∧ hm o ≠ -1
  · obtain ⟨o, o1, rfl, o3⟩ := g
    refine wr_rhome hX o1 o3 (hI.2.2.2.2.2.1 o (by omega) o3).2 ?_
    unfold wpY_homeOf
    refine wr_yfreeF O12 o1 o3 (br_t rfl ⟨vp_in_nI (by omega) (by omega), ?_, IR⟩)
    rw [nI_clamp (by omega)]
  · unfold wpX_homeOf
    refine wr_liveF hX g (br_t rfl ?_)
    unfold wpY_homeOf
    exact wr_yfreeT O12 g (br_f (by decide) ⟨rfl, IR⟩)
theorem i_vc_valueOf {k : Nat} {u : SX} {v : SY} (I : i_Rel k u v) (hk : k + 5 ≤ 2564) (v1 : Int32) : wpX_valueOf (fun r => wpY_valueOf (fun r' => r' = r ∧ i_Rel (k + 5) u v) v v1) u v1 := by
  obtain ⟨N, O, G, kd, nd, fd, am, hm, vl, ds, rm, hI, hr, hX0, hY0⟩ := I
  revert hX0
  refine wr_all (P := fun u => wr_RX N O (wr_hd G (-1) (-1)) kd nd fd am hm vl ds rm (wr_4 rm) u → wpX_valueOf (fun r => wpY_valueOf (fun r' => r' = r ∧ i_Rel (k + 5) u v) v v1) u v1) ?_ u
  intro c1 c2 c3 c4 c5 c6 c7 c8 c9 c10 c11 c12 c13 c14 c15 c16 c17 c18 c19 c20 c21 hX
  refine wr_yk (P := fun v => wpX_valueOf (fun r => wpY_valueOf (fun r' => r' = r ∧ i_Rel (k + 5) (c1, c2, c3, c4, c5, c6, c7, c8, c9, c10, c11, c12, c13, c14, c15, c16, c17, c18, c19, c20, c21) v) v v1) (c1, c2, c3, c4, c5, c6, c7, c8, c9, c10, c11, c12, c13, c14, c15, c16, c17, c18, c19, c20, c21) v1) ?_ v hY0
  intro he fi tg ca hG
  have hY : wr_RY N O G kd nd fd am hm vl rm (nI N, nI O, he, fi, hm, vl, (fun i => nI (rm i)), kd, tg, nd, fd, ca, am) := wr_yin hG
  have IR : i_Rel (k + 5) (c1, c2, c3, c4, c5, c6, c7, c8, c9, c10, c11, c12, c13, c14, c15, c16, c17, c18, c19, c20, c21) (nI N, nI O, he, fi, hm, vl, (fun i => nI (rm i)), kd, tg, nd, fd, ca, am) := ⟨N, O, G, kd, nd, fd, am, hm, vl, ds, rm, hI, hr, hX, hY⟩
  have N4 := hI.1.2.1
  have O12 := hI.1.2.2.2.1
  have gO : ∀ p, p < 144 → G p ≠ -1 → ∃ o, o < O ∧ G p = nI o := fun p hp z => by
    obtain ⟨o, o1, o2, _⟩ := hI.2.1 p hp z
    exact ⟨o, o1, o2⟩
  by_cases g : ∃ o, o < O ∧ v1 = nI o ∧ hm o ≠ -1
  · obtain ⟨o, o1, rfl, o3⟩ := g
    obtain ⟨_, _, _, _, _, _, _, _, hH, _⟩ := wr_rd hX
    have e1 : (nI o).toNatClampNeg = o := nI_clamp (by omega)
    have ev : c15 o = vl o := ((hH o (by omega)).2.1 (fun z => o3 ((hH o (by omega)).1.mp z))).2
    unfold wpX_valueOf
    refine wr_liveT hX o1 o3 (br_f (by decide) ⟨vp_in_nI (by omega) (by omega), ?_⟩)
    unfold wpY_valueOf
    refine wr_yfreeF O12 o1 o3 (br_t rfl ⟨vp_in_nI (by omega) (by omega), ?_, IR⟩)
    rw [e1, ev]
  · unfold wpX_valueOf
    refine wr_liveF hX g (br_t rfl ?_)
    unfold wpY_valueOf
    exact wr_yfreeT O12 g (br_f (by decide) ⟨rfl, IR⟩)
theorem i_vc_fieldOf {k : Nat} {u : SX} {v : SY} (I : i_Rel k u v) (hk : k + 5 ≤ 2564) (v1 : Int32) (v2 : Int32) : wpX_fieldOf (fun r => wpY_fieldOf (fun r' => r' = r ∧ i_Rel (k + 5) u v) v v1 v2) u v1 v2 := by
  obtain ⟨N, O, G, kd, nd, fd, am, hm, vl, ds, rm, hI, hr, hX0, hY0⟩ := I
  revert hX0
  refine wr_all (P := fun u => wr_RX N O (wr_hd G (-1) (-1)) kd nd fd am hm vl ds rm (wr_4 rm) u → wpX_fieldOf (fun r => wpY_fieldOf (fun r' => r' = r ∧ i_Rel (k + 5) u v) v v1 v2) u v1 v2) ?_ u
  intro c1 c2 c3 c4 c5 c6 c7 c8 c9 c10 c11 c12 c13 c14 c15 c16 c17 c18 c19 c20 c21 hX
  refine wr_yk (P := fun v => wpX_fieldOf (fun r => wpY_fieldOf (fun r' => r' = r ∧ i_Rel (k + 5) (c1, c2, c3, c4, c5, c6, c7, c8, c9, c10, c11, c12, c13, c14, c15, c16, c17, c18, c19, c20, c21) v) v v1 v2) (c1, c2, c3, c4, c5, c6, c7, c8, c9, c10, c11, c12, c13, c14, c15, c16, c17, c18, c19, c20, c21) v1 v2) ?_ v hY0
  intro he fi tg ca hG
  have hY : wr_RY N O G kd nd fd am hm vl rm (nI N, nI O, he, fi, hm, vl, (fun i => nI (rm i)), kd, tg, nd, fd, ca, am) := wr_yin hG
  have IR : i_Rel (k + 5) (c1, c2, c3, c4, c5, c6, c7, c8, c9, c10, c11, c12, c13, c14, c15, c16, c17, c18, c19, c20, c21) (nI N, nI O, he, fi, hm, vl, (fun i => nI (rm i)), kd, tg, nd, fd, ca, am) := ⟨N, O, G, kd, nd, fd, am, hm, vl, ds, rm, hI, hr, hX, hY⟩
  have N4 := hI.1.2.1
  have O12 := hI.1.2.2.2.1
  have gO : ∀ p, p < 144 → G p ≠ -1 → ∃ o, o < O ∧ G p = nI o := fun p hp z => by
    obtain ⟨o, o1, o2, _⟩ := hI.2.1 p hp z
    exact ⟨o, o1, o2⟩
  by_cases g : ∃ o, o < O ∧ v1 = nI o ∧ hm o ≠ -1
  · obtain ⟨o, o1, rfl, o3⟩ := g
    by_cases g2 : wr_gd 2 v2
    · obtain ⟨f, hf, rfl⟩ := g2
      unfold wpX_fieldOf
      refine wr_liveT hX o1 o3 (br_f (by decide) (wr_fielT ⟨f, hf, rfl⟩ (br_f (by decide) ?_) _))
      unfold wpX_fieldPlace
      show wpX_objectAt _ _ (24 + nI o * 2 + nI f)
      rw [wr_fp]
      refine wr_robj hX (by omega) ?_
      rw [wr_hdn (by omega)]
      unfold wpY_fieldOf
      refine wr_yfreeF O12 o1 o3 (br_t rfl (wr_yfieT ⟨f, hf, rfl⟩ (br_t rfl ?_) _))
      rw [wr_fp2]
      refine ⟨vp_in_nI (by omega) (by omega), ?_, IR⟩
      rw [nI_clamp (by omega), (hG.1 (o * 2 + f) (by omega)).2, ← Nat.add_assoc]
    · unfold wpX_fieldOf
      refine wr_liveT hX o1 o3 (br_f (by decide) (wr_fielF g2 (br_t rfl ?_) _))
      unfold wpY_fieldOf
      exact wr_yfreeF O12 o1 o3 (br_t rfl (wr_yfieF g2 (br_f (by decide) ⟨rfl, IR⟩) _))
  · unfold wpX_fieldOf
    refine wr_liveF hX g (br_t rfl ?_)
    unfold wpY_fieldOf
    exact wr_yfreeT O12 g (br_f (by decide) ⟨rfl, IR⟩)
theorem i_vc_liveCount {k : Nat} {u : SX} {v : SY} (I : i_Rel k u v) (hk : k + 5 ≤ 2564) : wpX_liveCount (fun r => wpY_liveCount (fun r' => r' = r ∧ i_Rel (k + 5) u v) v) u := by
  obtain ⟨N, O, G, kd, nd, fd, am, hm, vl, ds, rm, hI, hr, hX0, hY0⟩ := I
  revert hX0
  refine wr_all (P := fun u => wr_RX N O (wr_hd G (-1) (-1)) kd nd fd am hm vl ds rm (wr_4 rm) u → wpX_liveCount (fun r => wpY_liveCount (fun r' => r' = r ∧ i_Rel (k + 5) u v) v) u) ?_ u
  intro c1 c2 c3 c4 c5 c6 c7 c8 c9 c10 c11 c12 c13 c14 c15 c16 c17 c18 c19 c20 c21 hX
  refine wr_yk (P := fun v => wpX_liveCount (fun r => wpY_liveCount (fun r' => r' = r ∧ i_Rel (k + 5) (c1, c2, c3, c4, c5, c6, c7, c8, c9, c10, c11, c12, c13, c14, c15, c16, c17, c18, c19, c20, c21) v) v) (c1, c2, c3, c4, c5, c6, c7, c8, c9, c10, c11, c12, c13, c14, c15, c16, c17, c18, c19, c20, c21)) ?_ v hY0
  intro he fi tg ca hG
  have hY : wr_RY N O G kd nd fd am hm vl rm (nI N, nI O, he, fi, hm, vl, (fun i => nI (rm i)), kd, tg, nd, fd, ca, am) := wr_yin hG
  have IR : i_Rel (k + 5) (c1, c2, c3, c4, c5, c6, c7, c8, c9, c10, c11, c12, c13, c14, c15, c16, c17, c18, c19, c20, c21) (nI N, nI O, he, fi, hm, vl, (fun i => nI (rm i)), kd, tg, nd, fd, ca, am) := ⟨N, O, G, kd, nd, fd, am, hm, vl, ds, rm, hI, hr, hX, hY⟩
  have N4 := hI.1.2.1
  have O12 := hI.1.2.2.2.1
  have gO : ∀ p, p < 144 → G p ≠ -1 → ∃ o, o < O ∧ G p = nI o := fun p hp z => by
    obtain ⟨o, o1, o2, _⟩ := hI.2.1 p hp z
    exact ⟨o, o1, o2⟩
  obtain ⟨_, _, q5, _⟩ := wr_rd hX
  unfold wpX_liveCount wpY_liveCount
  refine ⟨O + 1, wr_ylvL O12 ⟨q5.symm, IR⟩ O 0 (by omega)⟩
theorem i_vc_messageCount {k : Nat} {u : SX} {v : SY} (I : i_Rel k u v) (hk : k + 5 ≤ 2564) : wpX_messageCount (fun r => wpY_messageCount (fun r' => r' = r ∧ i_Rel (k + 5) u v) v) u := by
  obtain ⟨N, O, G, kd, nd, fd, am, hm, vl, ds, rm, hI, hr, hX0, hY0⟩ := I
  revert hX0
  refine wr_all (P := fun u => wr_RX N O (wr_hd G (-1) (-1)) kd nd fd am hm vl ds rm (wr_4 rm) u → wpX_messageCount (fun r => wpY_messageCount (fun r' => r' = r ∧ i_Rel (k + 5) u v) v) u) ?_ u
  intro c1 c2 c3 c4 c5 c6 c7 c8 c9 c10 c11 c12 c13 c14 c15 c16 c17 c18 c19 c20 c21 hX
  refine wr_yk (P := fun v => wpX_messageCount (fun r => wpY_messageCount (fun r' => r' = r ∧ i_Rel (k + 5) (c1, c2, c3, c4, c5, c6, c7, c8, c9, c10, c11, c12, c13, c14, c15, c16, c17, c18, c19, c20, c21) v) v) (c1, c2, c3, c4, c5, c6, c7, c8, c9, c10, c11, c12, c13, c14, c15, c16, c17, c18, c19, c20, c21)) ?_ v hY0
  intro he fi tg ca hG
  have hY : wr_RY N O G kd nd fd am hm vl rm (nI N, nI O, he, fi, hm, vl, (fun i => nI (rm i)), kd, tg, nd, fd, ca, am) := wr_yin hG
  have IR : i_Rel (k + 5) (c1, c2, c3, c4, c5, c6, c7, c8, c9, c10, c11, c12, c13, c14, c15, c16, c17, c18, c19, c20, c21) (nI N, nI O, he, fi, hm, vl, (fun i => nI (rm i)), kd, tg, nd, fd, ca, am) := ⟨N, O, G, kd, nd, fd, am, hm, vl, ds, rm, hI, hr, hX, hY⟩
  have N4 := hI.1.2.1
  have O12 := hI.1.2.2.2.1
  have gO : ∀ p, p < 144 → G p ≠ -1 → ∃ o, o < O ∧ G p = nI o := fun p hp z => by
    obtain ⟨o, o1, o2, _⟩ := hI.2.1 p hp z
    exact ⟨o, o1, o2⟩
  obtain ⟨_, _, _, q6, _⟩ := wr_rd hX
  unfold wpX_messageCount wpY_messageCount
  refine ⟨49, wr_ymcL ⟨q6.symm, IR⟩ 48 0 rfl⟩
theorem i_vc_load {k : Nat} {u : SX} {v : SY} (I : i_Rel k u v) (hk : k + 5 ≤ 2564) : wpX_load (fun r => wpY_load (fun r' => r' = r ∧ i_Rel (k + 5) u v) v) u := by
  obtain ⟨N, O, G, kd, nd, fd, am, hm, vl, ds, rm, hI, hr, hX0, hY0⟩ := I
  revert hX0
  refine wr_all (P := fun u => wr_RX N O (wr_hd G (-1) (-1)) kd nd fd am hm vl ds rm (wr_4 rm) u → wpX_load (fun r => wpY_load (fun r' => r' = r ∧ i_Rel (k + 5) u v) v) u) ?_ u
  intro c1 c2 c3 c4 c5 c6 c7 c8 c9 c10 c11 c12 c13 c14 c15 c16 c17 c18 c19 c20 c21 hX
  refine wr_yk (P := fun v => wpX_load (fun r => wpY_load (fun r' => r' = r ∧ i_Rel (k + 5) (c1, c2, c3, c4, c5, c6, c7, c8, c9, c10, c11, c12, c13, c14, c15, c16, c17, c18, c19, c20, c21) v) v) (c1, c2, c3, c4, c5, c6, c7, c8, c9, c10, c11, c12, c13, c14, c15, c16, c17, c18, c19, c20, c21)) ?_ v hY0
  intro he fi tg ca hG
  have hY : wr_RY N O G kd nd fd am hm vl rm (nI N, nI O, he, fi, hm, vl, (fun i => nI (rm i)), kd, tg, nd, fd, ca, am) := wr_yin hG
  have IR : i_Rel (k + 5) (c1, c2, c3, c4, c5, c6, c7, c8, c9, c10, c11, c12, c13, c14, c15, c16, c17, c18, c19, c20, c21) (nI N, nI O, he, fi, hm, vl, (fun i => nI (rm i)), kd, tg, nd, fd, ca, am) := ⟨N, O, G, kd, nd, fd, am, hm, vl, ds, rm, hI, hr, hX, hY⟩
  have N4 := hI.1.2.1
  have O12 := hI.1.2.2.2.1
  have gO : ∀ p, p < 144 → G p ≠ -1 → ∃ o, o < O ∧ G p = nI o := fun p hp z => by
    obtain ⟨o, o1, o2, _⟩ := hI.2.1 p hp z
    exact ⟨o, o1, o2⟩
  obtain ⟨_, _, _, _, q7, _⟩ := wr_rd hX
  have eN : wr_N (-1) (wr_hd G (-1) (-1)) 146 = wr_N (-1) G 144 := by rw [wr_hdN, wr_b0 rfl]; rfl
  rw [eN] at q7
  unfold wpX_load
  exact wr_yload hY O12 gO ⟨q7.symm, IR⟩
theorem i_vc_copiesLeft {k : Nat} {u : SX} {v : SY} (I : i_Rel k u v) (hk : k + 5 ≤ 2564) (v1 : Int32) : wpX_copiesLeft (fun r => wpY_copiesLeft (fun r' => r' = r ∧ i_Rel (k + 5) u v) v v1) u v1 := by
  obtain ⟨N, O, G, kd, nd, fd, am, hm, vl, ds, rm, hI, hr, hX0, hY0⟩ := I
  revert hX0
  refine wr_all (P := fun u => wr_RX N O (wr_hd G (-1) (-1)) kd nd fd am hm vl ds rm (wr_4 rm) u → wpX_copiesLeft (fun r => wpY_copiesLeft (fun r' => r' = r ∧ i_Rel (k + 5) u v) v v1) u v1) ?_ u
  intro c1 c2 c3 c4 c5 c6 c7 c8 c9 c10 c11 c12 c13 c14 c15 c16 c17 c18 c19 c20 c21 hX
  refine wr_yk (P := fun v => wpX_copiesLeft (fun r => wpY_copiesLeft (fun r' => r' = r ∧ i_Rel (k + 5) (c1, c2, c3, c4, c5, c6, c7, c8, c9, c10, c11, c12, c13, c14, c15, c16, c17, c18, c19, c20, c21) v) v v1) (c1, c2, c3, c4, c5, c6, c7, c8, c9, c10, c11, c12, c13, c14, c15, c16, c17, c18, c19, c20, c21) v1) ?_ v hY0
  intro he fi tg ca hG
  have hY : wr_RY N O G kd nd fd am hm vl rm (nI N, nI O, he, fi, hm, vl, (fun i => nI (rm i)), kd, tg, nd, fd, ca, am) := wr_yin hG
  have IR : i_Rel (k + 5) (c1, c2, c3, c4, c5, c6, c7, c8, c9, c10, c11, c12, c13, c14, c15, c16, c17, c18, c19, c20, c21) (nI N, nI O, he, fi, hm, vl, (fun i => nI (rm i)), kd, tg, nd, fd, ca, am) := ⟨N, O, G, kd, nd, fd, am, hm, vl, ds, rm, hI, hr, hX, hY⟩
  have N4 := hI.1.2.1
  have O12 := hI.1.2.2.2.1
  have gO : ∀ p, p < 144 → G p ≠ -1 → ∃ o, o < O ∧ G p = nI o := fun p hp z => by
    obtain ⟨o, o1, o2, _⟩ := hI.2.1 p hp z
    exact ⟨o, o1, o2⟩
  by_cases g1 : wr_gd N v1
  · obtain ⟨_, _, _, _, _, _, q21, _⟩ := wr_rd hX
    unfold wpX_copiesLeft
    obtain ⟨n, hn, rfl⟩ := g1
    refine wr_nodeT hX ⟨n, hn, rfl⟩ (br_f (by decide) ⟨vp_in_nI (by omega) (by omega), ?_⟩)
    unfold wpY_copiesLeft
    refine wr_ynodT hY N4 ⟨n, hn, rfl⟩ (br_t rfl ⟨vp_in_nI (by omega) (by omega), ?_, IR⟩)
    rw [q21]
  · unfold wpX_copiesLeft
    refine wr_nodeF hX g1 (br_t rfl ?_)
    unfold wpY_copiesLeft
    exact wr_ynodF hY N4 g1 (br_f (by decide) ⟨rfl, IR⟩)
end
section
/-! isSole -/
section
variable {N O b W sp lv mf tl : Nat} {G : Nat → Int32} {lc lw cw : Nat → Nat} {co cn : Nat → Int32} {sc : Nat → Nat} {an vs it kd mn mg ma ob : Nat → Int32} {rk rm : Nat → Nat}
theorem wr_xsole {post : Int32 → Prop} {o k : Nat} (h : wr_LI O W sp lv b 0 lc lw cw co sc an ob rk) (g : wr_GL G lc lw ob) (ho : o < 12) (hk : k < 146) (kT : (∀ p, p < 146 → p ≠ k → G p ≠ nI o) → post 1) (kF : (∃ p, p < 146 ∧ p ≠ k ∧ G p = nI o) → post 0) :
    ∀ (m t i f : Nat) (V : Nat → Prop), rk (lc t) ≤ m → m + i < 252 → m < f → wr_SV lc lw cw co ob rk o k t V → wX_isSole_39 post (nI N) (nI O) (nI W) (nI sp) (nI lv) (nI mf) (nI tl) (fun i => nI (lc i)) (fun i => nI (lw i)) (fun i => nI (cw i)) co cn (fun i => nI (sc i)) an vs it kd mn mg ma (fun i => nI (rm i)) f (nI t) (nI i) := by
  intro m
  induction m with
  | zero =>
    intro t i f V hm hi hf v
    obtain ⟨f, rfl⟩ : ∃ g, f = g + 1 := ⟨f - 1, by omega⟩
    have v4 := v.2.2.2.1
    have v5 := v.2.2.2.2.1
    obtain ⟨a1, a2⟩ := h.2.1 t v4 v5
    have et : (nI t).toNatClampNeg = t := nI_clamp (by omega)
    have jt : vp_in (nI t) 398 := vp_in_nI v4 (by omega)
    have ec : (nI (lc t)).toNatClampNeg = lc t := nI_clamp (by omega)
    have jc : vp_in (nI (lc t)) 252 := vp_in_nI a1 (by omega)
    have c64 := (h.2.2.1 (lc t) a1).2
    have w64 := wr_lw64 h v4
    refine br_f (nI_ge (b := 252) (by omega) (by decide)) ⟨jt, nm_r (e' := nI (lc t)) (by rw [et]) ⟨jt, jc, ?_⟩⟩
    rw [et, ec]
    refine pk_eq (lw t) (cw (lc t)) (fun e => ⟨jc, ?_⟩) (fun e => kF (wr_svF h g hk v e))
    by_cases e2 : co (lc t) = -1
    · have r := (h.2.2.2.2.1 (lc t) a1 a2 e2).1
      omega
    · exact br_f e2 (kT (wr_svT h g ho hk v e e2))
  | succ m ih =>
    intro t i f V hm hi hf v
    obtain ⟨f, rfl⟩ : ∃ g, f = g + 1 := ⟨f - 1, by omega⟩
    have v4 := v.2.2.2.1
    have v5 := v.2.2.2.2.1
    obtain ⟨a1, a2⟩ := h.2.1 t v4 v5
    have et : (nI t).toNatClampNeg = t := nI_clamp (by omega)
    have jt : vp_in (nI t) 398 := vp_in_nI v4 (by omega)
    have ec : (nI (lc t)).toNatClampNeg = lc t := nI_clamp (by omega)
    have jc : vp_in (nI (lc t)) 252 := vp_in_nI a1 (by omega)
    have c64 := (h.2.2.1 (lc t) a1).2
    have w64 := wr_lw64 h v4
    refine br_f (nI_ge (b := 252) (by omega) (by decide)) ⟨jt, nm_r (e' := nI (lc t)) (by rw [et]) ⟨jt, jc, ?_⟩⟩
    rw [et, ec]
    refine pk_eq (lw t) (cw (lc t)) (fun e => ⟨jc, ?_⟩) (fun e => kF (wr_svF h g hk v e))
    by_cases e2 : co (lc t) = -1
    · refine br_t e2 ?_
      obtain ⟨v', r⟩ := wr_sv1 h v e e2
      unfold wpX_innerPlace
      show ∀ x4, x4 = nI i + 1 → wX_isSole_39 post _ _ _ _ _ _ _ _ _ _ _ _ _ _ _ _ _ _ _ _ _ f (146 + nI (lc t)) x4
      rw [wr_ip]
      exact nm_r (nI_1 i) (ih (146 + lc t) (i + 1) f _ (by omega) (by omega) (by omega) v')
    · exact br_f e2 (kT (wr_svT h g ho hk v e e2))
end
section
variable {N O b : Nat} {G kd nd fd am hm vl ds : Nat → Int32} {rm : Nat → Nat}
theorem wr_rsole {post : Int32 → Prop} {u : SX} {n h o : Nat} (hu : wr_RX N O G kd nd fd am hm vl ds rm b u) (hn : n < N) (hh : h < 6) (ho : o < 12) (hg : G (n * 6 + h) = nI o) (kT : (∀ p, p < 146 → p ≠ n * 6 + h → G p ≠ nI o) → post 1) (kF : (∃ p, p < 146 ∧ p ≠ n * 6 + h ∧ G p = nI o) → post 0) : wpX_isSole post u (nI n) (nI h) := by
  refine wr_el (P := fun u => wpX_isSole post u (nI n) (nI h)) hu ?_
  intro W sp lv mf tl lc lw cw co cn sc an vs it mn mg ma ob rk hF
  have hR : wr_RX N O G kd nd fd am hm vl ds rm b (nI N, nI O, nI W, nI sp, nI lv, nI mf, nI tl, (fun i => nI (lc i)), (fun i => nI (lw i)), (fun i => nI (cw i)), co, cn, (fun i => nI (sc i)), an, vs, it, kd, mn, mg, ma, (fun i => nI (rm i))) := wr_in ob rk hF
  obtain ⟨⟨g1, g2, g3, g4, g5⟩, hL, hG, hH, hM⟩ := hF
  have hgn : G (n * 6 + h) ≠ -1 := by rw [hg]; exact wr_nm (by omega)
  have hl := (wr_gln hL hG (show n * 6 + h < 146 by omega)).mp hgn
  have hob : ob (lc (n * 6 + h)) = nI o := (wr_gl1 hG (by omega) hl).symm.trans hg
  obtain ⟨a1, a2⟩ := hL.2.1 (n * 6 + h) (by omega) hl
  have q := hL.2.2.2.2.2.2.2.1 (lc (n * 6 + h)) a1 a2
  unfold wpX_isSole
  refine wr_nodeT hR ⟨n, hn, rfl⟩ (br_f (by decide) (wr_handT ⟨h, hh, rfl⟩ (br_f (by decide) ?_) _))
  unfold wpX_handlePlace
  show vp_in (nI n * 6 + nI h) 398 ∧ _
  rw [wr_hp]
  refine ⟨vp_in_nI (by omega) (by omega), wr_rw hR (by omega) (fun z => absurd z hgn) (fun _ => ⟨252, ?_⟩)⟩
  exact wr_xsole hL hG ho (show n * 6 + h < 146 by omega) kT kF 251 (n * 6 + h) 0 252 _ (by omega) (by omega) (by omega) (wr_sv0 (by omega) hl hob)
end
theorem i_vc_isSole {k : Nat} {u : SX} {v : SY} (I : i_Rel k u v) (hk : k + 5 ≤ 2564) (v1 : Int32) (v2 : Int32) : wpX_isSole (fun r => wpY_isSole (fun r' => r' = r ∧ i_Rel (k + 5) u v) v v1 v2) u v1 v2 := by
  obtain ⟨N, O, G, kd, nd, fd, am, hm, vl, ds, rm, hI, hr, hX0, hY0⟩ := I
  revert hX0
  refine wr_all (P := fun u => wr_RX N O (wr_hd G (-1) (-1)) kd nd fd am hm vl ds rm (wr_4 rm) u → wpX_isSole (fun r => wpY_isSole (fun r' => r' = r ∧ i_Rel (k + 5) u v) v v1 v2) u v1 v2) ?_ u
  intro c1 c2 c3 c4 c5 c6 c7 c8 c9 c10 c11 c12 c13 c14 c15 c16 c17 c18 c19 c20 c21 hX
  refine wr_yk (P := fun v => wpX_isSole (fun r => wpY_isSole (fun r' => r' = r ∧ i_Rel (k + 5) (c1, c2, c3, c4, c5, c6, c7, c8, c9, c10, c11, c12, c13, c14, c15, c16, c17, c18, c19, c20, c21) v) v v1 v2) (c1, c2, c3, c4, c5, c6, c7, c8, c9, c10, c11, c12, c13, c14, c15, c16, c17, c18, c19, c20, c21) v1 v2) ?_ v hY0
  intro he fi tg ca hG
  have hY : wr_RY N O G kd nd fd am hm vl rm (nI N, nI O, he, fi, hm, vl, (fun i => nI (rm i)), kd, tg, nd, fd, ca, am) := wr_yin hG
  have IR : i_Rel (k + 5) (c1, c2, c3, c4, c5, c6, c7, c8, c9, c10, c11, c12, c13, c14, c15, c16, c17, c18, c19, c20, c21) (nI N, nI O, he, fi, hm, vl, (fun i => nI (rm i)), kd, tg, nd, fd, ca, am) := ⟨N, O, G, kd, nd, fd, am, hm, vl, ds, rm, hI, hr, hX, hY⟩
  have N4 := hI.1.2.1
  have O12 := hI.1.2.2.2.1
  have gO : ∀ p, p < 144 → G p ≠ -1 → ∃ o, o < O ∧ G p = nI o := fun p hp z => by
    obtain ⟨o, o1, o2, _⟩ := hI.2.1 p hp z
    exact ⟨o, o1, o2⟩
  by_cases g1 : wr_gd N v1
  · by_cases g2 : wr_gd 6 v2
    · obtain ⟨n, hn, rfl⟩ := g1
      obtain ⟨h, hh, rfl⟩ := g2
      have e6 : (nI (n * 6 + h)).toNatClampNeg = n * 6 + h := nI_clamp (by omega)
      have i6 : vp_in (nI (n * 6 + h)) 24 := vp_in_nI (by omega) (by omega)
      have eh : he (n * 6 + h) = G (n * 6 + h) := (hG.1 _ (by omega)).1
      by_cases ge : G (n * 6 + h) = -1
      · unfold wpX_isSole
        refine wr_nodeT hX ⟨n, hn, rfl⟩ (br_f (by decide) (wr_handT ⟨h, hh, rfl⟩ (br_f (by decide) ?_) _))
        unfold wpX_handlePlace
        show vp_in (nI n * 6 + nI h) 398 ∧ _
        rw [wr_hp]
        refine ⟨vp_in_nI (by omega) (by omega), wr_rw hX (by omega) (fun _ => ?_) (fun z => absurd (by rw [wr_hdn (by omega)]; exact ge) z)⟩
        unfold wpY_isSole wpY_handleOf
        refine wr_ynodT hY N4 ⟨n, hn, rfl⟩ (br_t rfl (wr_yhanT ⟨h, hh, rfl⟩ (br_t rfl ?_) _))
        rw [wr_hp]
        refine ⟨i6, br_t ?_ ⟨rfl, IR⟩⟩
        rw [e6, eh]; exact ge
      · obtain ⟨o, o1, o2, o3⟩ := hI.2.1 (n * 6 + h) (by omega) ge
        have E144 : wr_E (nI o) G 144 ≤ 144 := wr_S_bd (fun i => by
          show wr_q (G i) (nI o) ≤ 1
          by_cases z : G i = nI o
          · rw [wr_q1 z]; omega
          · rw [wr_q0 z]; omega) 144
        have no : nI o ≠ -1 := wr_nm (by omega)
        refine wr_rsole (o := o) hX hn hh (by omega) (by rw [wr_hdn (by omega)]; exact o2) (fun hT => ?_) (fun hF => ?_)
        · unfold wpY_isSole wpY_handleOf
          refine wr_ynodT hY N4 ⟨n, hn, rfl⟩ (br_t rfl (wr_yhanT ⟨h, hh, rfl⟩ (br_t rfl ?_) _))
          rw [wr_hp, e6, eh, o2]
          refine ⟨i6, br_f no (wr_ylinks hY ?_)⟩
          rw [wr_E_1 (p := n * 6 + h) (by omega) o2 (fun q hq hne => by
            have := hT q (by omega) hne
            rw [wr_hdn hq] at this
            exact this)]
          exact br_t (by decide) ⟨rfl, IR⟩
        · obtain ⟨p, p1, p2, p3⟩ := hF
          have p144 : p < 144 := by
            by_cases z : p < 144
            · exact z
            · have c : p = 144 ∨ p = 145 := by omega
              rcases c with c | c
              · rw [c, wr_hd1] at p3; exact absurd p3.symm no
              · rw [c, wr_hd2] at p3; exact absurd p3.symm no
          rw [wr_hdn p144] at p3
          have two := wr_E_two (n := 144) p144 (show n * 6 + h < 144 by omega) p2 p3 o2
          unfold wpY_isSole wpY_handleOf
          refine wr_ynodT hY N4 ⟨n, hn, rfl⟩ (br_t rfl (wr_yhanT ⟨h, hh, rfl⟩ (br_t rfl ?_) _))
          rw [wr_hp, e6, eh, o2]
          refine ⟨i6, br_f no (wr_ylinks hY (br_f ?_ ⟨rfl, IR⟩))⟩
          intro z
          have := (nI_eq (b := 1) (by omega) (by decide)).mp z
          omega
    · unfold wpX_isSole
      refine wr_nodeT hX g1 (br_f (by decide) (wr_handF g2 (br_t rfl ?_) _))
      unfold wpY_isSole wpY_handleOf
      exact wr_ynodT hY N4 g1 (br_t rfl (wr_yhanF g2 (br_f (by decide) (br_t rfl ⟨rfl, IR⟩)) _))
  · unfold wpX_isSole
    refine wr_nodeF hX g1 (br_t rfl ?_)
    unfold wpY_isSole wpY_handleOf
    exact wr_ynodF hY N4 g1 (br_f (by decide) (br_t rfl ⟨rfl, IR⟩))
end
section
/-! the constructors -/
def wr_cl (x lo hi : Int32) : Int32 := if lo ≤ x then (if x ≤ hi then x else hi) else lo
theorem wr_cl3 {P : Int32 → Prop} {x lo hi : Int32} (h : P (wr_cl x lo hi)) : ((lo ≤ x → ((x ≤ hi → P x) ∧ (¬ x ≤ hi → P hi))) ∧ (¬ lo ≤ x → P lo)) :=
  wr_ib (P := P) h (fun _ h => wr_ib (P := P) h (fun _ h => h) (fun _ h => h)) (fun _ h => h)
theorem wr_xcl {post : Int32 → Prop} {x lo hi : Int32} (h : post (wr_cl x lo hi)) : ∀ u : SX, wpX_clamp post u x lo hi := by
  refine wr_all ?_
  intro c1 c2 c3 c4 c5 c6 c7 c8 c9 c10 c11 c12 c13 c14 c15 c16 c17 c18 c19 c20 c21
  exact wr_cl3 (P := post) h
theorem wr_clN (x : Int32) {lo hi : Nat} (h : lo ≤ hi) (hb : hi < 2 ^ 31) : ∃ n, lo ≤ n ∧ n ≤ hi ∧ wr_cl x (nI lo) (nI hi) = nI n := by
  unfold wr_cl
  by_cases h1 : nI lo ≤ x
  · rw [if_pos h1]
    by_cases h2 : x ≤ nI hi
    · rw [if_pos h2]
      have h0 : ¬ x < 0 := fun z => by
        have a := Int32.lt_of_le_of_lt h1 z
        exact nI_pos (by omega) a
      obtain ⟨j, j1, rfl⟩ := nI_of h0
      exact ⟨j, (nI_leI (by omega) j1).mp h1, (nI_leI j1 hb).mp h2, rfl⟩
    · rw [if_neg h2]
      exact ⟨hi, h, Nat.le_refl _, rfl⟩
  · rw [if_neg h1]
    exact ⟨lo, Nat.le_refl _, h, rfl⟩
def wr_fl (k : Nat) (x : Int32) : Nat → Int32 := fun j => if j < k then x else 0
theorem wr_fl0 {x : Int32} : wr_fl 0 x = fun _ => 0 := by
  funext j
  exact if_neg (by omega)
theorem wr_fls {k : Nat} {x : Int32} : upd (wr_fl k x) k x = wr_fl (k + 1) x := by
  funext j
  by_cases e : j = k
  · rw [e, pk_us]
    exact (if_pos (by omega)).symm
  · rw [pk_un e]
    by_cases l : j < k
    · have a : wr_fl k x j = x := if_pos l
      have b : wr_fl (k + 1) x j = x := if_pos (by omega)
      rw [a, b]
    · have a : wr_fl k x j = 0 := if_neg l
      have b : wr_fl (k + 1) x j = 0 := if_neg (by omega)
      rw [a, b]
theorem wr_fli {k j : Nat} {x : Int32} (h : j < k) : wr_fl k x j = x := if_pos h
def wr_sc (k : Nat) : Nat → Nat := fun j => if j < k then 251 - j else 0
theorem wr_scs {k : Nat} : wr_un (wr_sc k) k (251 - k) = wr_sc (k + 1) := by
  funext j
  by_cases e : j = k
  · rw [e, wr_us]
    exact (if_pos (by omega)).symm
  · rw [wr_ue e]
    by_cases l : j < k
    · have a : wr_sc k j = 251 - j := if_pos l
      have b : wr_sc (k + 1) j = 251 - j := if_pos (by omega)
      rw [a, b]
    · have a : wr_sc k j = 0 := if_neg l
      have b : wr_sc (k + 1) j = 0 := if_neg (by omega)
      rw [a, b]
theorem wr_sc0 : (fun j => nI (wr_sc 0 j)) = fun _ => 0 := by
  funext j
  have a : wr_sc 0 j = 0 := if_neg (by omega)
  show nI (wr_sc 0 j) = 0
  rw [a]
  exact nI_0
section
variable {x5 f1 f2 f3 f4 f5 f6 f7 : Int32} {a8 a9 a10 a11 a12 a13 a14 a15 a16 a17 a18 a19 a20 a21 : Nat → Int32}
theorem wr_x231 {post : SX → Prop} (k : post (f1, f2, f3, nI 252, f5, f6, f7, a8, a9, a10, a11, a12, (fun j => nI (wr_sc 252 j)), a14, a15, a16, a17, a18, a19, a20, a21)) : ∀ d i, i + d = 252 → wX_init_231 post f1 f2 f3 f4 f5 f6 f7 (d + 1) (nI i) a8 a9 a10 a11 a12 (fun j => nI (wr_sc i j)) a14 a15 a16 a17 a18 a19 a20 a21 := by
  intro d
  induction d with
  | zero =>
    intro i hi
    have ei : i = 252 := by omega
    rw [ei]
    exact br_t (Int32.le_refl _) (nm_r (e' := nI 252) rfl k)
  | succ d ih =>
    intro i hi
    have e1 : (nI i).toNatClampNeg = i := nI_clamp (by omega)
    have e2 : (Int32.ofNat 252 - 1) - nI i = nI (251 - i) := pk_sub (a := 251) (by omega)
    refine br_f (nI_ge (b := 252) (by omega) (by decide)) ⟨vp_in_nI (by omega) (by omega), nm_r (e' := fun j => nI (wr_sc (i + 1) j)) (by rw [e1, e2, wr_nu, wr_scs]) (nm_r (nI_1 i) (ih (i + 1) (by omega)))⟩
theorem wr_x204 {post : SX → Prop} (k : ∃ n231 : Nat, wX_init_231 post f1 f2 f3 f4 f5 f6 f7 n231 0 a8 a9 a10 a11 a12 a13 (wr_fl 12 (-1)) a15 a16 a17 a18 a19 a20 a21) : ∀ d i, i + d = 12 → wX_init_204 post f1 f2 f3 f4 f5 f6 f7 (d + 1) (nI i) a8 a9 a10 a11 a12 a13 (wr_fl i (-1)) a15 a16 a17 a18 a19 a20 a21 := by
  intro d
  induction d with
  | zero =>
    intro i hi
    have ei : i = 12 := by omega
    rw [ei]
    exact br_t (Int32.le_refl _) k
  | succ d ih =>
    intro i hi
    have e1 : (nI i).toNatClampNeg = i := nI_clamp (by omega)
    exact br_f (nI_ge (b := 12) (by omega) (by decide)) ⟨vp_in_nI (by omega) (by omega), nm_r (e' := wr_fl (i + 1) (-1)) (by rw [e1, wr_fls]) (nm_r (nI_1 i) (ih (i + 1) (by omega)))⟩
theorem wr_x176 {post : SX → Prop} (k : ∃ n204 : Nat, wX_init_204 post f1 f2 f3 f4 f5 f6 f7 n204 0 a8 a9 a10 a11 a12 a13 a14 a15 a16 a17 a18 a19 a20 (wr_fl 4 x5)) : ∀ d i, i + d = 4 → wX_init_176 post x5 f1 f2 f3 f4 f5 f6 f7 (d + 1) (nI i) a8 a9 a10 a11 a12 a13 a14 a15 a16 a17 a18 a19 a20 (wr_fl i x5) := by
  intro d
  induction d with
  | zero =>
    intro i hi
    have ei : i = 4 := by omega
    rw [ei]
    exact br_t (Int32.le_refl _) k
  | succ d ih =>
    intro i hi
    have e1 : (nI i).toNatClampNeg = i := nI_clamp (by omega)
    exact br_f (nI_ge (b := 4) (by omega) (by decide)) ⟨vp_in_nI (by omega) (by omega), nm_r (e' := wr_fl (i + 1) x5) (by rw [e1, wr_fls]) (nm_r (nI_1 i) (ih (i + 1) (by omega)))⟩
end
section
variable {x5 f1 f2 : Int32} {he fi hm vl le kd tg nd fd ca am : Nat → Int32}
theorem wr_y245 {post : SY → Prop} (k : post (f1, f2, he, fi, hm, vl, le, kd, wr_fl 48 (-1), nd, fd, wr_fl 48 (-1), am)) : ∀ d i, i + d = 48 → wY_init_245 post f1 f2 (d + 1) (nI i) he fi hm vl le kd (wr_fl i (-1)) nd fd (wr_fl i (-1)) am := by
  intro d
  induction d with
  | zero =>
    intro i hi
    have ei : i = 48 := by omega
    rw [ei]
    exact br_t (by decide) k
  | succ d ih =>
    intro i hi
    have e1 : (nI i).toNatClampNeg = i := nI_clamp (by omega)
    have i1 : vp_in (nI i) 48 := vp_in_nI (by omega) (by omega)
    exact br_f (nI_ge (b := 48) (by omega) (by decide)) ⟨i1, nm_r (e' := wr_fl (i + 1) (-1)) (by rw [e1, wr_fls]) ⟨i1, nm_r (e' := wr_fl (i + 1) (-1)) (by rw [e1, wr_fls]) (nm_r (nI_1 i) (ih (i + 1) (by omega)))⟩⟩
theorem wr_y221 {post : SY → Prop} (k : ∃ n245 : Nat, wY_init_245 post f1 f2 n245 0 he fi hm vl (wr_fl 4 x5) kd tg nd fd ca am) : ∀ d i, i + d = 4 → wY_init_221 post x5 f1 f2 (d + 1) (nI i) he fi hm vl (wr_fl i x5) kd tg nd fd ca am := by
  intro d
  induction d with
  | zero =>
    intro i hi
    have ei : i = 4 := by omega
    rw [ei]
    exact br_t (by decide) k
  | succ d ih =>
    intro i hi
    have e1 : (nI i).toNatClampNeg = i := nI_clamp (by omega)
    exact br_f (nI_ge (b := 4) (by omega) (by decide)) ⟨vp_in_nI (by omega) (by omega), nm_r (e' := wr_fl (i + 1) x5) (by rw [e1, wr_fls]) (nm_r (nI_1 i) (ih (i + 1) (by omega)))⟩
theorem wr_y197 {post : SY → Prop} (k : ∃ n221 : Nat, wY_init_221 post x5 f1 f2 n221 0 he fi (wr_fl 12 (-1)) vl le kd tg nd fd ca am) : ∀ d i, i + d = 12 → wY_init_197 post x5 f1 f2 (d + 1) (nI i) he fi (wr_fl i (-1)) vl le kd tg nd fd ca am := by
  intro d
  induction d with
  | zero =>
    intro i hi
    have ei : i = 12 := by omega
    rw [ei]
    exact br_t (by decide) k
  | succ d ih =>
    intro i hi
    have e1 : (nI i).toNatClampNeg = i := nI_clamp (by omega)
    exact br_f (nI_ge (b := 12) (by omega) (by decide)) ⟨vp_in_nI (by omega) (by omega), nm_r (e' := wr_fl (i + 1) (-1)) (by rw [e1, wr_fls]) (nm_r (nI_1 i) (ih (i + 1) (by omega)))⟩
theorem wr_y165 {post : SY → Prop} (k : ∃ n197 : Nat, wY_init_197 post x5 f1 f2 n197 0 (wr_fl 24 (-1)) (wr_fl 24 (-1)) hm vl le kd tg nd fd ca am) : ∀ d i, i + d = 24 → wY_init_165 post x5 f1 f2 (d + 1) (nI i) (wr_fl i (-1)) (wr_fl i (-1)) hm vl le kd tg nd fd ca am := by
  intro d
  induction d with
  | zero =>
    intro i hi
    have ei : i = 24 := by omega
    rw [ei]
    exact br_t (by decide) k
  | succ d ih =>
    intro i hi
    have e1 : (nI i).toNatClampNeg = i := nI_clamp (by omega)
    have i1 : vp_in (nI i) 24 := vp_in_nI (by omega) (by omega)
    exact br_f (nI_ge (b := 24) (by omega) (by decide)) ⟨i1, nm_r (e' := wr_fl (i + 1) (-1)) (by rw [e1, wr_fls]) ⟨i1, nm_r (e' := wr_fl (i + 1) (-1)) (by rw [e1, wr_fls]) (nm_r (nI_1 i) (ih (i + 1) (by omega)))⟩⟩
end
def wr_r0 (c : Nat) : Nat → Nat := fun i => if i < 4 then c else 0
theorem wr_r0f {c : Nat} : wr_fl 4 (nI c) = fun i => nI (wr_r0 c i) := by
  funext i
  by_cases l : i < 4
  · have a : wr_fl 4 (nI c) i = nI c := if_pos l
    have b : wr_r0 c i = c := if_pos l
    show wr_fl 4 (nI c) i = nI (wr_r0 c i)
    rw [a, b]
  · have a : wr_fl 4 (nI c) i = 0 := if_neg l
    have b : wr_r0 c i = 0 := if_neg l
    show wr_fl 4 (nI c) i = nI (wr_r0 c i)
    rw [a, b]
    exact nI_0.symm
theorem wr_sh : ∀ q, 1 ≤ q → q ≤ 6 → ∃ W, 2 ≤ W ∧ W ≤ 64 ∧ (1 : Int32) <<< (nI q &&& 31) = nI W := by
  intro q h1 h2
  have c : q = 1 ∨ q = 2 ∨ q = 3 ∨ q = 4 ∨ q = 5 ∨ q = 6 := by omega
  rcases c with rfl | rfl | rfl | rfl | rfl | rfl
  · exact ⟨2, by omega, by omega, by decide⟩
  · exact ⟨4, by omega, by omega, by decide⟩
  · exact ⟨8, by omega, by omega, by decide⟩
  · exact ⟨16, by omega, by omega, by decide⟩
  · exact ⟨32, by omega, by omega, by decide⟩
  · exact ⟨64, by omega, by omega, by decide⟩
theorem wr_n257 (z : (0 : Int32) = 2 ∨ (0 : Int32) = 5 ∨ (0 : Int32) = 7) : False := by revert z; decide
theorem wr_n345 (z : (0 : Int32) = 3 ∨ (0 : Int32) = 4 ∨ (0 : Int32) = 5) : False := by revert z; decide
theorem wr_n3 (z : (0 : Int32) = 3) : False := by revert z; decide
theorem wr_n6 (z : (0 : Int32) = 6) : False := by revert z; decide
theorem wr_n7 (z : (0 : Int32) = 7) : False := by revert z; decide
theorem wr_iv0 {N O : Nat} (h1 : 2 ≤ N) (h2 : N ≤ 4) (h3 : 1 ≤ O) (h4 : O ≤ 12) : wr_IV N O 12 (fun _ => -1) (fun _ => 0) (fun _ => 0) (fun _ => 0) (wr_fl 12 (-1)) (fun _ => 0) := by
  have n0 : wr_N (-1) (fun _ => (-1 : Int32)) 144 = 0 := wr_S_zero 144 fun i _ => wr_b0 rfl
  have hz : ∀ o, o < 12 → wr_fl 12 (-1) o = -1 := fun o ho => wr_fli ho
  refine ⟨⟨h1, h2, h3, h4, by rw [n0]; omega⟩, fun p _ z => absurd rfl z, fun _ _ _ _ _ _ => rfl, fun s _ => ⟨⟨fun _ => rfl, fun _ => rfl⟩, fun z => (wr_n3 z).elim, fun z => absurd rfl z⟩, fun s _ => ⟨fun z => (wr_n257 z).elim, fun z => (wr_n345 z).elim⟩, fun o ho z => absurd (hz o ho) z, fun s _ z => (wr_n7 z).elim, fun s t _ _ z => (wr_n7 z).elim, fun o _ ho => hz o ho⟩
theorem wr_rx0 {N O W c : Nat} (h2 : N ≤ 4) (h4 : O ≤ 12) (hc : c ≤ 60) (w1 : 2 ≤ W) (w2 : W ≤ 64) : wr_RX N O (wr_hd (fun _ => -1) (-1) (-1)) (fun _ => 0) (fun _ => 0) (fun _ => 0) (fun _ => 0) (wr_fl 12 (-1)) (fun _ => 0) (fun _ => 0) (wr_r0 c) (wr_4 (wr_r0 c))
    (nI N, nI O, nI W, nI (252), nI (0), nI (0), nI (0), (fun i => nI ((fun _ => 0) i)), (fun i => nI ((fun _ => 0) i)), (fun i => nI ((fun _ => 0) i)), (fun _ => 0), (fun _ => 0), (fun i => nI ((wr_sc 252) i)), (wr_fl 12 (-1)), (fun _ => 0), (fun _ => 0), (fun _ => 0), (fun _ => 0), (fun _ => 0), (fun _ => 0), (fun i => nI ((wr_r0 c) i))) := by
  have hz : ∀ o, o < 12 → wr_fl 12 (-1) o = -1 := fun o ho => wr_fli ho
  have hr : ∀ n, n < 4 → wr_r0 c n ≤ 60 := fun n hn => by
    have a : wr_r0 c n = c := if_pos hn
    rw [a]; exact hc
  have b240 : wr_4 (wr_r0 c) ≤ 240 := by
    have a0 := hr 0 (by omega)
    have a1 := hr 1 (by omega)
    have a2 := hr 2 (by omega)
    have a3 := hr 3 (by omega)
    unfold wr_4
    omega
  have wz : ∀ d, wr_wt (fun _ => 0) (fun _ => 0) d = 0 := fun d => wr_S_zero 398 fun i _ => wr_k0
  have cz : wr_cu (fun _ => 0) = 0 := wr_S_zero 252 fun i _ => wr_i0
  have gz : ∀ p, p < 146 → wr_hd (fun _ => -1) (-1) (-1) p = -1 := fun p hp => by
    by_cases e : p = 144
    · rw [e, wr_hd1]
    · by_cases e2 : p = 145
      · rw [e2, wr_hd2]
      · rw [wr_hdn (by omega)]
  have s252 : ∀ i, i < 252 → wr_sc 252 i = 251 - i := fun i hi => if_pos hi
  refine wr_in (fun _ => 0) (fun _ => 0) ⟨⟨h2, hr, ?_, ?_, ?_⟩, ?_, ?_, ?_, ?_⟩
  · exact (wr_S_zero 146 fun i hi => wr_b0 (gz i hi)).symm
  · exact (wr_S_zero 48 fun i hi => wr_b0 rfl).symm
  · exact (wr_S_zero O fun i hi => wr_b0 (hz i (by omega))).symm
  · refine ⟨⟨w1, w2, h4, b240, by omega⟩, fun p _ z => (Nat.lt_irrefl 0 z).elim, fun d _ => ⟨(wz d).symm, by show (0 : Nat) ≤ 64; omega⟩, fun c _ => ⟨fun z => (Nat.lt_irrefl 0 z).elim, fun z => ?_⟩, fun c _ z => (Nat.lt_irrefl 0 z).elim, fun c _ z => (Nat.lt_irrefl 0 z).elim, fun o ho z => absurd (hz o ho) z, fun c _ z => (Nat.lt_irrefl 0 z).elim, fun i hi => ⟨by rw [s252 i hi]; omega, rfl⟩, fun i j hi hj e => ?_, by rw [cz]⟩
    · rcases z with ⟨z, _⟩ | z
      · exact (Nat.lt_irrefl 0 z).elim
      · omega
    · rw [s252 i hi, s252 j hj] at e
      omega
  · intro p hp
    rw [gz p hp, if_pos rfl]
  · intro o ho
    rw [hz o ho]
    exact ⟨⟨fun _ => rfl, fun _ => rfl⟩, fun z => absurd rfl z, fun z => absurd rfl z⟩
  · intro s _
    exact ⟨fun z => (wr_n257 z).elim, fun z => (wr_n345 z).elim, fun z => (wr_n6 z).elim⟩
theorem i_vc0 (k0 : Int32) (k1 : Int32) (k2 : Int32) (k3 : Int32) : wpX_init (fun u => wpY_init (fun v => i_Rel 4 u v) k0 k1 k2 k3) k0 k1 k2 k3 := by
  obtain ⟨N, n1, n2, n3⟩ := wr_clN k0 (lo := 2) (hi := 4) (by omega) (by omega)
  obtain ⟨O, o1, o2, o3⟩ := wr_clN k1 (lo := 1) (hi := 12) (by omega) (by omega)
  obtain ⟨c, c1, c2, c3⟩ := wr_clN k2 (lo := 2) (hi := 60) (by omega) (by omega)
  obtain ⟨q, q1, q2, q3⟩ := wr_clN k3 (lo := 1) (hi := 6) (by omega) (by omega)
  obtain ⟨W, w1, w2, w3⟩ := wr_sh q q1 q2
  have n3' : wr_cl k0 2 4 = nI N := n3
  have o3' : wr_cl k1 1 12 = nI O := o3
  have c3' : wr_cl k2 2 60 = nI c := c3
  have q3' : wr_cl k3 1 6 = nI q := q3
  have hY : wpY_init (fun v => i_Rel 4 (nI N, nI O, nI W, nI (252), nI (0), nI (0), nI (0), (fun i => nI ((fun _ => 0) i)), (fun i => nI ((fun _ => 0) i)), (fun i => nI ((fun _ => 0) i)), (fun _ => 0), (fun _ => 0), (fun i => nI ((wr_sc 252) i)), (wr_fl 12 (-1)), (fun _ => 0), (fun _ => 0), (fun _ => 0), (fun _ => 0), (fun _ => 0), (fun _ => 0), (fun i => nI ((wr_r0 c) i))) v) k0 k1 k2 k3 := by
    unfold wpY_init
    refine wr_cl3 (P := fun z => wY_init_111 (fun v => i_Rel 4 (nI N, nI O, nI W, nI (252), nI (0), nI (0), nI (0), (fun i => nI ((fun _ => 0) i)), (fun i => nI ((fun _ => 0) i)), (fun i => nI ((fun _ => 0) i)), (fun _ => 0), (fun _ => 0), (fun i => nI ((wr_sc 252) i)), (wr_fl 12 (-1)), (fun _ => 0), (fun _ => 0), (fun _ => 0), (fun _ => 0), (fun _ => 0), (fun _ => 0), (fun i => nI ((wr_r0 c) i))) v) k1 k2 z 0 0 (fun _ => 0) (fun _ => 0) (fun _ => 0) (fun _ => 0) (fun _ => 0) (fun _ => 0) (fun _ => 0) (fun _ => 0) (fun _ => 0) (fun _ => 0) (fun _ => 0)) ?_
    rw [n3']
    unfold wY_init_111
    refine wr_cl3 (P := fun z => wY_init_136 (fun v => i_Rel 4 (nI N, nI O, nI W, nI (252), nI (0), nI (0), nI (0), (fun i => nI ((fun _ => 0) i)), (fun i => nI ((fun _ => 0) i)), (fun i => nI ((fun _ => 0) i)), (fun _ => 0), (fun _ => 0), (fun i => nI ((wr_sc 252) i)), (wr_fl 12 (-1)), (fun _ => 0), (fun _ => 0), (fun _ => 0), (fun _ => 0), (fun _ => 0), (fun _ => 0), (fun i => nI ((wr_r0 c) i))) v) k2 z (nI N) 0 (fun _ => 0) (fun _ => 0) (fun _ => 0) (fun _ => 0) (fun _ => 0) (fun _ => 0) (fun _ => 0) (fun _ => 0) (fun _ => 0) (fun _ => 0) (fun _ => 0)) ?_
    rw [o3']
    unfold wY_init_136
    refine wr_cl3 (P := fun z => ∃ n165 : Nat, wY_init_165 (fun v => i_Rel 4 (nI N, nI O, nI W, nI (252), nI (0), nI (0), nI (0), (fun i => nI ((fun _ => 0) i)), (fun i => nI ((fun _ => 0) i)), (fun i => nI ((fun _ => 0) i)), (fun _ => 0), (fun _ => 0), (fun i => nI ((wr_sc 252) i)), (wr_fl 12 (-1)), (fun _ => 0), (fun _ => 0), (fun _ => 0), (fun _ => 0), (fun _ => 0), (fun _ => 0), (fun i => nI ((wr_r0 c) i))) v) z (nI N) (nI O) n165 0 (fun _ => 0) (fun _ => 0) (fun _ => 0) (fun _ => 0) (fun _ => 0) (fun _ => 0) (fun _ => 0) (fun _ => 0) (fun _ => 0) (fun _ => 0) (fun _ => 0)) ?_
    rw [c3']
    have s165 := wr_y165 (x5 := nI c) (f1 := nI N) (f2 := nI O) (hm := fun _ => 0) (vl := fun _ => 0) (le := fun _ => 0) (kd := fun _ => 0) (tg := fun _ => 0) (nd := fun _ => 0) (fd := fun _ => 0) (ca := fun _ => 0) (am := fun _ => 0) (post := fun v => i_Rel 4 (nI N, nI O, nI W, nI (252), nI (0), nI (0), nI (0), (fun i => nI ((fun _ => 0) i)), (fun i => nI ((fun _ => 0) i)), (fun i => nI ((fun _ => 0) i)), (fun _ => 0), (fun _ => 0), (fun i => nI ((wr_sc 252) i)), (wr_fl 12 (-1)), (fun _ => 0), (fun _ => 0), (fun _ => 0), (fun _ => 0), (fun _ => 0), (fun _ => 0), (fun i => nI ((wr_r0 c) i))) v) ?_ 24 0 rfl
    · rw [wr_fl0] at s165
      exact ⟨_, s165⟩
    have s197 := wr_y197 (x5 := nI c) (f1 := nI N) (f2 := nI O) (he := wr_fl 24 (-1)) (fi := wr_fl 24 (-1)) (vl := fun _ => 0) (le := fun _ => 0) (kd := fun _ => 0) (tg := fun _ => 0) (nd := fun _ => 0) (fd := fun _ => 0) (ca := fun _ => 0) (am := fun _ => 0) (post := fun v => i_Rel 4 (nI N, nI O, nI W, nI (252), nI (0), nI (0), nI (0), (fun i => nI ((fun _ => 0) i)), (fun i => nI ((fun _ => 0) i)), (fun i => nI ((fun _ => 0) i)), (fun _ => 0), (fun _ => 0), (fun i => nI ((wr_sc 252) i)), (wr_fl 12 (-1)), (fun _ => 0), (fun _ => 0), (fun _ => 0), (fun _ => 0), (fun _ => 0), (fun _ => 0), (fun i => nI ((wr_r0 c) i))) v) ?_ 12 0 rfl
    · rw [wr_fl0] at s197
      exact ⟨_, s197⟩
    have s221 := wr_y221 (x5 := nI c) (f1 := nI N) (f2 := nI O) (he := wr_fl 24 (-1)) (fi := wr_fl 24 (-1)) (hm := wr_fl 12 (-1)) (vl := fun _ => 0) (kd := fun _ => 0) (tg := fun _ => 0) (nd := fun _ => 0) (fd := fun _ => 0) (ca := fun _ => 0) (am := fun _ => 0) (post := fun v => i_Rel 4 (nI N, nI O, nI W, nI (252), nI (0), nI (0), nI (0), (fun i => nI ((fun _ => 0) i)), (fun i => nI ((fun _ => 0) i)), (fun i => nI ((fun _ => 0) i)), (fun _ => 0), (fun _ => 0), (fun i => nI ((wr_sc 252) i)), (wr_fl 12 (-1)), (fun _ => 0), (fun _ => 0), (fun _ => 0), (fun _ => 0), (fun _ => 0), (fun _ => 0), (fun i => nI ((wr_r0 c) i))) v) ?_ 4 0 rfl
    · rw [wr_fl0] at s221
      exact ⟨_, s221⟩
    have s245 := wr_y245 (f1 := nI N) (f2 := nI O) (he := wr_fl 24 (-1)) (fi := wr_fl 24 (-1)) (hm := wr_fl 12 (-1)) (vl := fun _ => 0) (le := wr_fl 4 (nI c)) (kd := fun _ => 0) (nd := fun _ => 0) (fd := fun _ => 0) (am := fun _ => 0) (post := fun v => i_Rel 4 (nI N, nI O, nI W, nI (252), nI (0), nI (0), nI (0), (fun i => nI ((fun _ => 0) i)), (fun i => nI ((fun _ => 0) i)), (fun i => nI ((fun _ => 0) i)), (fun _ => 0), (fun _ => 0), (fun i => nI ((wr_sc 252) i)), (wr_fl 12 (-1)), (fun _ => 0), (fun _ => 0), (fun _ => 0), (fun _ => 0), (fun _ => 0), (fun _ => 0), (fun i => nI ((wr_r0 c) i))) v) ?_ 48 0 rfl
    · rw [wr_fl0] at s245
      exact ⟨_, s245⟩
    rw [wr_r0f]
    refine ⟨N, O, fun _ => -1, fun _ => 0, fun _ => 0, fun _ => 0, fun _ => 0, wr_fl 12 (-1), fun _ => 0, fun _ => 0, wr_r0 c, wr_iv0 n1 n2 o1 o2, fun n hn => ?_, wr_rx0 n2 o2 c2 w1 w2, wr_yin ?_⟩
    · have a : wr_r0 c n = c := if_pos hn
      rw [a]; exact c2
    · exact ⟨fun j hj => ⟨wr_fli hj, wr_fli hj⟩, fun s hs => ⟨wr_fli hs, wr_fli hs⟩⟩
  unfold wpX_init
  refine wr_xcl ?_ _
  rw [n3']
  refine wr_xcl ?_ _
  rw [o3']
  refine wr_xcl ?_ _
  rw [c3']
  refine wr_xcl ?_ _
  rw [q3']
  refine nm_r (e' := nI W) w3 ?_
  have s176 := wr_x176 (x5 := nI c) (f1 := nI N) (f2 := nI O) (f3 := nI W) (f4 := 0) (f5 := 0) (f6 := 0) (f7 := 0) (a8 := fun _ => 0) (a9 := fun _ => 0) (a10 := fun _ => 0) (a11 := fun _ => 0) (a12 := fun _ => 0) (a13 := fun _ => 0) (a14 := fun _ => 0) (a15 := fun _ => 0) (a16 := fun _ => 0) (a17 := fun _ => 0) (a18 := fun _ => 0) (a19 := fun _ => 0) (a20 := fun _ => 0) (post := fun u => wpY_init (fun v => i_Rel 4 u v) k0 k1 k2 k3) ?_ 4 0 rfl
  · rw [wr_fl0] at s176
    exact ⟨_, s176⟩
  have s204 := wr_x204 (f1 := nI N) (f2 := nI O) (f3 := nI W) (f4 := 0) (f5 := 0) (f6 := 0) (f7 := 0) (a8 := fun _ => 0) (a9 := fun _ => 0) (a10 := fun _ => 0) (a11 := fun _ => 0) (a12 := fun _ => 0) (a13 := fun _ => 0) (a15 := fun _ => 0) (a16 := fun _ => 0) (a17 := fun _ => 0) (a18 := fun _ => 0) (a19 := fun _ => 0) (a20 := fun _ => 0) (a21 := wr_fl 4 (nI c)) (post := fun u => wpY_init (fun v => i_Rel 4 u v) k0 k1 k2 k3) ?_ 12 0 rfl
  · rw [wr_fl0] at s204
    exact ⟨_, s204⟩
  have s231 := wr_x231 (f1 := nI N) (f2 := nI O) (f3 := nI W) (f4 := 0) (f5 := 0) (f6 := 0) (f7 := 0) (a8 := fun _ => 0) (a9 := fun _ => 0) (a10 := fun _ => 0) (a11 := fun _ => 0) (a12 := fun _ => 0) (a14 := wr_fl 12 (-1)) (a15 := fun _ => 0) (a16 := fun _ => 0) (a17 := fun _ => 0) (a18 := fun _ => 0) (a19 := fun _ => 0) (a20 := fun _ => 0) (a21 := wr_fl 4 (nI c)) (post := fun u => wpY_init (fun v => i_Rel 4 u v) k0 k1 k2 k3) ?_ 252 0 rfl
  · rw [wr_sc0] at s231
    exact ⟨_, s231⟩
  rw [wr_r0f]
  exact hY
end
section
/-! deliver, sweep -/
theorem i_vc_deliver {k : Nat} {u : SX} {v : SY} (I : i_Rel k u v) (hk : k + 5 ≤ 2564) (v1 : Int32) : wpX_deliver (fun r u' => wpY_deliver (fun r' v' => r' = r ∧ i_Rel (k + 5) u' v') v v1) u v1 := by
  obtain ⟨N, O, G, kd, nd, fd, am, hm, vl, ds, rm, hI, hr, hX0, hY0⟩ := I
  revert hX0
  refine wr_all (P := fun u => wr_RX N O (wr_hd G (-1) (-1)) kd nd fd am hm vl ds rm (wr_4 rm) u → wpX_deliver (fun r u' => wpY_deliver (fun r' v' => r' = r ∧ i_Rel (k + 5) u' v') v v1) u v1) ?_ u
  intro c1 c2 c3 c4 c5 c6 c7 c8 c9 c10 c11 c12 c13 c14 c15 c16 c17 c18 c19 c20 c21 hX
  refine wr_yk (P := fun v => wpX_deliver (fun r u' => wpY_deliver (fun r' v' => r' = r ∧ i_Rel (k + 5) u' v') v v1) (c1, c2, c3, c4, c5, c6, c7, c8, c9, c10, c11, c12, c13, c14, c15, c16, c17, c18, c19, c20, c21) v1) ?_ v hY0
  intro he fi tg ca hG
  have hY : wr_RY N O G kd nd fd am hm vl rm (nI N, nI O, he, fi, hm, vl, (fun i => nI (rm i)), kd, tg, nd, fd, ca, am) := wr_yin hG
  have IR : i_Rel (k + 5) (c1, c2, c3, c4, c5, c6, c7, c8, c9, c10, c11, c12, c13, c14, c15, c16, c17, c18, c19, c20, c21) (nI N, nI O, he, fi, hm, vl, (fun i => nI (rm i)), kd, tg, nd, fd, ca, am) := ⟨N, O, G, kd, nd, fd, am, hm, vl, ds, rm, hI, hr, hX, hY⟩
  have N4 := hI.1.2.1
  have O12 := hI.1.2.2.2.1
  have gO : ∀ p, p < 144 → G p ≠ -1 → ∃ o, o < O ∧ G p = nI o := fun p hp z => by
    obtain ⟨o, o1, o2, _⟩ := hI.2.1 p hp z
    exact ⟨o, o1, o2⟩
  by_cases g1 : wr_gd 48 v1
  · obtain ⟨s, hs, rfl⟩ := g1
    obtain ⟨G2, kd2, nd2, fd2, am2, hm2, vl2, rm2, r, m1, m2, mX, mY⟩ := wr_out (am := am) (vl := vl) hI hr hs
    refine mX _ _ hX (fun u' h' => mY _ _ hY (fun v' h'' => ?_))
    exact ⟨rfl, N, O, G2, kd2, nd2, fd2, am2, hm2, vl2, ds, rm2, m1, m2, h', h''⟩
  · rcases wr_ngd (by omega) g1 with a | ⟨a, c⟩
    · unfold wpX_deliver
      refine br_t a ?_
      unfold wpY_deliver
      exact br_t a ⟨rfl, IR⟩
    · have nl : ¬ v1 < 48 := fun z => Int32.lt_irrefl (Int32.lt_of_lt_of_le z c)
      unfold wpX_deliver
      refine br_f a (br_f nl ?_)
      unfold wpY_deliver
      exact br_f a (br_f nl ⟨rfl, IR⟩)
theorem i_vc_sweep {k : Nat} {u : SX} {v : SY} (I : i_Rel k u v) (hk : k + 5 ≤ 2564) : wpX_sweep (fun r u' => wpY_sweep (fun r' v' => r' = r ∧ i_Rel (k + 5) u' v') v) u := by
  obtain ⟨N, O, G, kd, nd, fd, am, hm, vl, ds, rm, hI, hr, hX0, hY0⟩ := I
  revert hX0
  refine wr_all (P := fun u => wr_RX N O (wr_hd G (-1) (-1)) kd nd fd am hm vl ds rm (wr_4 rm) u → wpX_sweep (fun r u' => wpY_sweep (fun r' v' => r' = r ∧ i_Rel (k + 5) u' v') v) u) ?_ u
  intro c1 c2 c3 c4 c5 c6 c7 c8 c9 c10 c11 c12 c13 c14 c15 c16 c17 c18 c19 c20 c21 hX
  refine wr_yk (P := fun v => wpX_sweep (fun r u' => wpY_sweep (fun r' v' => r' = r ∧ i_Rel (k + 5) u' v') v) (c1, c2, c3, c4, c5, c6, c7, c8, c9, c10, c11, c12, c13, c14, c15, c16, c17, c18, c19, c20, c21)) ?_ v hY0
  intro he fi tg ca hG
  have hY : wr_RY N O G kd nd fd am hm vl rm (nI N, nI O, he, fi, hm, vl, (fun i => nI (rm i)), kd, tg, nd, fd, ca, am) := wr_yin hG
  have IR : i_Rel (k + 5) (c1, c2, c3, c4, c5, c6, c7, c8, c9, c10, c11, c12, c13, c14, c15, c16, c17, c18, c19, c20, c21) (nI N, nI O, he, fi, hm, vl, (fun i => nI (rm i)), kd, tg, nd, fd, ca, am) := ⟨N, O, G, kd, nd, fd, am, hm, vl, ds, rm, hI, hr, hX, hY⟩
  have N4 := hI.1.2.1
  have O12 := hI.1.2.2.2.1
  have gO : ∀ p, p < 144 → G p ≠ -1 → ∃ o, o < O ∧ G p = nI o := fun p hp z => by
    obtain ⟨o, o1, o2, _⟩ := hI.2.1 p hp z
    exact ⟨o, o1, o2⟩
  obtain ⟨G2, kd2, nd2, fd2, am2, hm2, vl2, rm2, r, m1, m2, mX, mY⟩ := wr_swp (am := am) (vl := vl) 48 0 0 rfl hI hr
  unfold wpX_sweep
  refine ⟨49, mX _ _ _ _ _ _ _ _ _ _ _ _ _ _ _ _ _ _ _ _ _ _ hX (fun u' h' => ?_)⟩
  unfold wpY_sweep
  refine ⟨49, mY _ _ _ _ _ _ _ _ _ _ _ _ _ _ hY (fun v' h'' => ?_)⟩
  exact ⟨rfl, N, O, G2, kd2, nd2, fd2, am2, hm2, vl2, ds, rm2, m1, m2, h', h''⟩
end
