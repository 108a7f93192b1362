section
theorem pk_us {f : Nat → Int32} {k : Nat} {x : Int32} : upd f k x k = x := if_pos rfl
theorem pk_un {f : Nat → Int32} {k j : Nat} {x : Int32} (h : j ≠ k) : upd f k x j = f j := if_neg h
theorem pk_sub {a b : Nat} (h : b ≤ a) : nI a - nI b = nI (a - b) := by
  obtain ⟨c, rfl⟩ : ∃ c, a = c + b := ⟨a - b, by omega⟩
  rw [← nI_add, Int32.add_sub_cancel, Nat.add_sub_cancel]
theorem pk_m1 (n : Nat) : nI (n + 1) + (-1) = nI n := by
  rw [← nI_1, Int32.add_assoc, show (1 : Int32) + (-1) = 0 from rfl, Int32.add_zero]
theorem pk_mul (a b : Nat) : nI a * nI b = nI (a * b) := (Int32.ofNat_mul a b).symm
theorem pk_div {a d : Nat} (ha : a < 2 ^ 31) (h0 : 0 < d) (hd : d < 2 ^ 31) : nI a / nI d = nI (a / d) := by
  apply Int32.toInt_inj.mp
  rw [lg_idiv_nonneg (by rw [nI_toInt ha]; omega) (by rw [nI_toInt hd]; omega), nI_toInt ha, nI_toInt hd, nI_toInt (Nat.lt_of_le_of_lt (Nat.div_le_self a d) ha)]
  first | rfl | exact (Int.natCast_ediv _ _).symm
theorem pk_rem {a d : Nat} (ha : a < 2 ^ 31) (h0 : 0 < d) (hd : d < 2 ^ 31) : nI a - nI a / nI d * nI d = nI (a % d) := by
  rw [pk_div ha h0 hd, pk_mul, pk_sub (Nat.div_mul_le_self a d)]
  exact congrArg nI (by have := Nat.div_add_mod' a d; omega)
theorem pk_sub_toInt {a b : Nat} (ha : a < 2 ^ 30) (hb : b < 2 ^ 30) : (nI a - nI b).toInt = (a : Int) - b := by
  rw [Int32.toInt_sub, nI_toInt (by omega), nI_toInt (by omega)]
  exact Int.bmod_eq_of_le (by omega) (by omega)
theorem pk_sneg {a b : Nat} (hb : b < 2 ^ 30) (h : a < b) : nI a - nI b < 0 := by
  rw [Int32.lt_iff_toInt_lt, pk_sub_toInt (by omega) hb, show (0 : Int32).toInt = 0 from by decide]
  omega
theorem pk_ix (x : Int32) {n : Nat} (hn : n < 2 ^ 31) : x < 0 ∨ nI n ≤ x ∨ ∃ j : Nat, j < n ∧ x = nI j := by
  by_cases h : x < 0
  · exact Or.inl h
  · obtain ⟨j, hj, rfl⟩ := nI_of h
    by_cases h2 : j < n
    · exact Or.inr (Or.inr ⟨j, h2, rfl⟩)
    · exact Or.inr (Or.inl (nI_le (by omega) hj))
theorem pk_le {x y : Int32} {A B : Prop} (a b : Nat) (f : a ≤ b → A) (g : b < a → B) (hx : x = nI a := by rfl) (hy : y = nI b := by rfl) (ha : a < 2 ^ 31 := by omega) (hb : b < 2 ^ 31 := by omega) : (x ≤ y → A) ∧ (¬ x ≤ y → B) := by
  subst hx hy
  rw [nI_leI ha hb]
  exact ⟨f, fun z => g (by omega)⟩
theorem pk_lt {x y : Int32} {A B : Prop} (a b : Nat) (f : a < b → A) (g : b ≤ a → B) (hx : x = nI a := by rfl) (hy : y = nI b := by rfl) (ha : a < 2 ^ 31 := by omega) (hb : b < 2 ^ 31 := by omega) : (x < y → A) ∧ (¬ x < y → B) := by
  subst hx hy
  rw [nI_ltI ha hb]
  exact ⟨f, fun z => g (by omega)⟩
theorem pk_eq {x y : Int32} {A B : Prop} (a b : Nat) (f : a = b → A) (g : a ≠ b → B) (hx : x = nI a := by rfl) (hy : y = nI b := by rfl) (ha : a < 2 ^ 31 := by omega) (hb : b < 2 ^ 31 := by omega) : (x = y → A) ∧ (¬ x = y → B) := by
  subst hx hy
  rw [nI_eq ha hb]
  exact ⟨f, g⟩
theorem pk_in {x : Int32} (n N : Nat) (h : n < N) (hx : x = nI n := by rfl) (hN : N < 2 ^ 31 := by omega) : vp_in x N := by
  subst hx
  exact vp_in_nI h hN
theorem pk_cl {x : Int32} (n : Nat) (hx : x = nI n := by rfl) (h : n < 2 ^ 31 := by omega) : x.toNatClampNeg = n := by
  subst hx
  exact nI_clamp h
theorem pk_tn {n : Nat} (h : n < 2 ^ 32) : (nI n).toBitVec.toNat = n := Nat.mod_eq_of_lt h
theorem pk_and (x : Int32) {m : Int32} (k : Nat) (hm : m.toBitVec.toNat = 2 ^ k - 1) : x &&& m = nI (x.toBitVec.toNat % 2 ^ k) := by
  apply Int32.toBitVec_inj.mp
  apply BitVec.eq_of_toNat_eq
  rw [Int32.toBitVec_and, BitVec.toNat_and, hm, Nat.and_two_pow_sub_one_eq_mod]
  show _ = (BitVec.ofNat 32 _).toNat
  rw [BitVec.toNat_ofNat]
  exact (Nat.mod_eq_of_lt (Nat.lt_of_le_of_lt (Nat.mod_le _ _) x.toBitVec.isLt)).symm
theorem pk_andN {n : Nat} (h : n < 2 ^ 32) {m : Int32} (k : Nat) (hm : m.toBitVec.toNat = 2 ^ k - 1) : nI n &&& m = nI (n % 2 ^ k) := by
  rw [pk_and _ k hm, pk_tn h]
theorem pk_shl (a s : Int32) (k : Nat) (hs : (s.toBitVec.smod 32).toNat = k) : (a <<< s).toBitVec.toNat = a.toBitVec.toNat * 2 ^ k % 2 ^ 32 := by
  show (a.toBitVec <<< (s.toBitVec.smod 32).toNat).toNat = _
  rw [hs, BitVec.toNat_shiftLeft, Nat.shiftLeft_eq]
theorem pk_shlN {n : Nat} (s : Int32) (k : Nat) (hs : (s.toBitVec.smod 32).toNat = k) (h : n * 2 ^ k < 2 ^ 32) : nI n <<< s = nI (n * 2 ^ k) := by
  apply Int32.toBitVec_inj.mp
  apply BitVec.eq_of_toNat_eq
  have hn : n < 2 ^ 32 := Nat.lt_of_le_of_lt (Nat.le_mul_of_pos_right n (Nat.two_pow_pos k)) h
  rw [pk_shl _ _ k hs, pk_tn hn, pk_tn h, Nat.mod_eq_of_lt h]
theorem pk_shr (a s : Int32) (k : Nat) (hs : (s.toBitVec.smod 32).toNat = k) : (a >>> s).toInt = a.toInt >>> k := by
  show (a.toBitVec.sshiftRight (s.toBitVec.smod 32).toNat).toInt = _
  rw [hs, BitVec.toInt_sshiftRight]
  rfl
theorem pk_shrN {n : Nat} (h : n < 2 ^ 31) (s : Int32) (k : Nat) (hs : (s.toBitVec.smod 32).toNat = k) : nI n >>> s = nI (n / 2 ^ k) := by
  apply Int32.toInt_inj.mp
  have h2 : n / 2 ^ k ≤ n := Nat.div_le_self _ _
  rw [pk_shr _ _ k hs, nI_toInt h, nI_toInt (by omega), Int.shiftRight_eq_div_pow]
  rfl
theorem pk_nb (z : Int32) : narrow .byte (.int z.toInt8.toInt32) = .int z.toInt8.toInt32 := congrArg Value.int (by simp)
theorem pk_ns (z : Int32) : narrow .short (.int z.toInt16.toInt32) = .int z.toInt16.toInt32 := congrArg Value.int (by simp)
theorem pk_vb (z : Int32) : vp_nar .byte z.toInt8.toInt32 = z.toInt8.toInt32 := by rw [vp_nar_byte]; simp
theorem pk_vs (z : Int32) : vp_nar .short z.toInt16.toInt32 = z.toInt16.toInt32 := by rw [vp_nar_short]; simp
theorem pk_loop {σ : Type} (W : Nat → Nat → σ → Prop) (I : Nat → σ → Prop) (e i0 : Nat) (s : σ) (hi : i0 ≤ e) (h0 : I i0 s) (hx : ∀ n s, I e s → W (n + 1) e s)
    (hs : ∀ n i s, i < e → I i s → (∀ s', I (i + 1) s' → W n (i + 1) s') → W (n + 1) i s) : ∃ n, W n i0 s :=
  ⟨e + 1, loop_i W I e hx hs (e + 1) i0 s hi (by omega) h0⟩
theorem pk_least (P : Nat → Prop) (h : ∃ k, P k) : ∃ k, P k ∧ ∀ j, j < k → ¬ P j := by
  obtain ⟨k, hk⟩ := h
  induction k using Nat.strongRecOn with
  | ind k ih =>
    by_cases e : ∃ j, j < k ∧ P j
    · obtain ⟨j, hj, pj⟩ := e
      exact ih j hj pj
    · exact ⟨k, hk, fun j hj pj => e ⟨j, hj, pj⟩⟩
theorem ek_if {c d A B : Prop} (e : c ↔ d) (f : d → A) (g : ¬ d → B) : (c → A) ∧ (¬ c → B) :=
  ⟨fun z => f (e.mp z), fun z => g (fun y => z (e.mpr y))⟩
theorem ek_v {α : Sort _} {P : α → Prop} {a b : α} (e : a = b) (h : P b) : P a := e ▸ h
end
section
/-! ## counting and first index -/
def gr_c (g : Nat → Bool) : Nat → Nat
  | 0 => 0
  | n + 1 => gr_c g n + (g n).toNat
theorem gr_c_s (g : Nat → Bool) (n : Nat) : gr_c g (n + 1) = gr_c g n + (g n).toNat := rfl
theorem gr_c_le (g : Nat → Bool) : ∀ n, gr_c g n ≤ n := by
  intro n
  induction n with
  | zero => exact Nat.le_refl 0
  | succ n ih =>
    have h := Bool.toNat_le (g n)
    rw [gr_c_s]
    omega
theorem gr_tn {x y : Bool} (h : x = true → y = true) : x.toNat ≤ y.toNat := by
  cases x with
  | false => exact Nat.zero_le _
  | true => exact Nat.le_of_eq (by rw [h rfl])
theorem gr_c_mono {g h : Nat → Bool} : ∀ n, (∀ i, i < n → g i = true → h i = true) → gr_c g n ≤ gr_c h n := by
  intro n
  induction n with
  | zero => intro _; exact Nat.le_refl 0
  | succ n ih =>
    intro H
    have h1 := ih (fun i hi => H i (by omega))
    have h2 := gr_tn (H n (by omega))
    rw [gr_c_s, gr_c_s]
    omega
theorem gr_c_lt {g h : Nat → Bool} : ∀ n, (∀ i, i < n → g i = true → h i = true) → ∀ j, j < n → h j = true → g j = false → gr_c g n < gr_c h n := by
  intro n
  induction n with
  | zero => intro _ j hj; omega
  | succ n ih =>
    intro H j hj h1 h2
    rw [gr_c_s, gr_c_s]
    by_cases e : j = n
    · subst e
      have h3 := gr_c_mono j (fun i hi => H i (by omega))
      rw [h1, h2]
      show gr_c g j + 0 < gr_c h j + 1
      omega
    · have h3 := ih (fun i hi => H i (by omega)) j (by omega) h1 h2
      have h4 := gr_tn (H n (by omega))
      omega
theorem gr_c_all {g : Nat → Bool} : ∀ n, n ≤ gr_c g n → ∀ j, j < n → g j = true := by
  intro n
  induction n with
  | zero => intro _ j hj; omega
  | succ n ih =>
    intro H j hj
    rw [gr_c_s] at H
    have h1 := gr_c_le g n
    have h2 := Bool.toNat_le (g n)
    by_cases e : j = n
    · subst e
      cases hg : g j with
      | true => rfl
      | false =>
        rw [hg] at H
        have h3 : gr_c g j + 0 ≥ j + 1 := H
        omega
    · exact ih (by omega) j (by omega)
def gr_f (P : Nat → Bool) : Nat → Nat
  | 0 => 0
  | n + 1 => if gr_f P n < n then gr_f P n else if P n = true then n else n + 1
theorem gr_f_s (P : Nat → Bool) (n : Nat) : gr_f P (n + 1) = if gr_f P n < n then gr_f P n else if P n = true then n else n + 1 := rfl
theorem gr_f_sp (P : Nat → Bool) : ∀ n, gr_f P n ≤ n ∧ (∀ j, j < gr_f P n → P j = false) ∧ (gr_f P n < n → P (gr_f P n) = true) := by
  intro n
  induction n with
  | zero => exact ⟨Nat.le_refl 0, fun j hj => absurd hj (Nat.not_lt_zero j), fun h => absurd h (Nat.lt_irrefl 0)⟩
  | succ n ih =>
    obtain ⟨h1, h2, h3⟩ := ih
    rw [gr_f_s]
    by_cases h : gr_f P n < n
    · rw [if_pos h]
      exact ⟨by omega, h2, fun _ => h3 h⟩
    · have e : gr_f P n = n := by omega
      rw [if_neg h]
      rw [e] at h2
      by_cases hp : P n = true
      · rw [if_pos hp]
        exact ⟨by omega, h2, fun _ => hp⟩
      · rw [if_neg hp]
        refine ⟨Nat.le_refl _, fun j hj => ?_, fun hh => absurd hh (Nat.lt_irrefl _)⟩
        by_cases ej : j = n
        · subst ej; exact Bool.eq_false_iff.mpr hp
        · exact h2 j (by omega)
theorem gr_f_u {P : Nat → Bool} {n k : Nat} (hk : k ≤ n) (h1 : ∀ j, j < k → P j = false) (h2 : k < n → P k = true) : gr_f P n = k := by
  obtain ⟨a1, a2, a3⟩ := gr_f_sp P n
  rcases Nat.lt_trichotomy (gr_f P n) k with h | h | h
  · have := h1 _ h
    rw [a3 (by omega)] at this
    exact absurd this (by decide)
  · exact h
  · have := a2 _ h
    rw [h2 (by omega)] at this
    exact absurd this (by decide)
theorem gr_f_ex {P : Nat → Bool} {n j : Nat} (hj : j < n) (h : P j = true) : gr_f P n < n := by
  obtain ⟨a1, a2, a3⟩ := gr_f_sp P n
  rcases Nat.lt_or_ge (gr_f P n) n with h' | h'
  · exact h'
  · have := a2 j (by omega)
    rw [h] at this
    exact absurd this (by decide)

/-! ## a graph of seven nodes; least weights of walks to d -/
def gr_OK (E : Nat → Nat → Bool) (w : Nat → Nat → Nat) (o : Nat → Bool) : Prop :=
  ∀ a b, E a b = true → a < 7 ∧ b < 7 ∧ 0 < w a b ∧ w a b ≤ 9 ∧ o a = true ∧ o b = true
def gr_W (E : Nat → Nat → Bool) (w : Nat → Nat → Nat) (o : Nat → Bool) (d : Nat) : Nat → Nat → Nat → Prop
  | 0 => fun s x => s = d ∧ o d = true ∧ x = 0
  | k + 1 => fun s x => ∃ r y, E s r = true ∧ gr_W E w o d k r y ∧ x = w s r + y
def gr_F (E : Nat → Nat → Bool) (w : Nat → Nat → Nat) (o : Nat → Bool) (d s : Nat) : Prop := ∃ k x, gr_W E w o d k s x
theorem gr_ex (E : Nat → Nat → Bool) (w : Nat → Nat → Nat) (o : Nat → Bool) (d s : Nat) : ∃ t, (gr_F E w o d s → (∃ k, gr_W E w o d k s t) ∧ ∀ k x, gr_W E w o d k s x → t ≤ x) ∧ (¬ gr_F E w o d s → t = 1000) := by
  by_cases h : gr_F E w o d s
  · obtain ⟨k, x, hx⟩ := h
    obtain ⟨t, ht, hm⟩ := pk_least (fun t => ∃ k, gr_W E w o d k s t) ⟨x, k, hx⟩
    refine ⟨t, fun _ => ⟨ht, fun k' x' h' => ?_⟩, fun hn => absurd ⟨k, x, hx⟩ hn⟩
    rcases Nat.lt_or_ge x' t with hl | hl
    · exact (hm x' hl ⟨k', h'⟩).elim
    · exact hl
  · exact ⟨1000, fun h' => absurd h' h, fun _ => rfl⟩
noncomputable def gr_T (E : Nat → Nat → Bool) (w : Nat → Nat → Nat) (o : Nat → Bool) (d s : Nat) : Nat := Classical.choose (gr_ex E w o d s)
theorem gr_T1 {E : Nat → Nat → Bool} {w : Nat → Nat → Nat} {o : Nat → Bool} {d s : Nat} (h : gr_F E w o d s) : (∃ k, gr_W E w o d k s (gr_T E w o d s)) ∧ ∀ k x, gr_W E w o d k s x → gr_T E w o d s ≤ x := (Classical.choose_spec (gr_ex E w o d s)).1 h
theorem gr_T2 {E : Nat → Nat → Bool} {w : Nat → Nat → Nat} {o : Nat → Bool} {d s : Nat} (h : ¬ gr_F E w o d s) : gr_T E w o d s = 1000 := (Classical.choose_spec (gr_ex E w o d s)).2 h
theorem gr_Wo {E : Nat → Nat → Bool} {w : Nat → Nat → Nat} {o : Nat → Bool} {d : Nat} : ∀ k s x, gr_W E w o d k s x → o d = true := by
  intro k
  induction k with
  | zero => intro s x h; exact h.2.1
  | succ k ih =>
    intro s x h
    obtain ⟨r, y, _, h2, _⟩ := h
    exact ih r y h2
theorem gr_step {E : Nat → Nat → Bool} {w : Nat → Nat → Nat} {o : Nat → Bool} {d s r : Nat} (he : E s r = true) (h : gr_F E w o d r) : gr_F E w o d s ∧ gr_T E w o d s ≤ w s r + gr_T E w o d r := by
  obtain ⟨⟨k, hk⟩, _⟩ := gr_T1 h
  have h1 : gr_W E w o d (k + 1) s (w s r + gr_T E w o d r) := ⟨r, _, he, hk, rfl⟩
  have h2 : gr_F E w o d s := ⟨_, _, h1⟩
  exact ⟨h2, (gr_T1 h2).2 _ _ h1⟩
theorem gr_back {E : Nat → Nat → Bool} {w : Nat → Nat → Nat} {o : Nat → Bool} {d s : Nat} (h : gr_F E w o d s) (hs : s ≠ d) : ∃ r, E s r = true ∧ gr_F E w o d r ∧ gr_T E w o d s = w s r + gr_T E w o d r := by
  obtain ⟨⟨k, hk⟩, _⟩ := gr_T1 h
  cases k with
  | zero => exact absurd hk.1 hs
  | succ k =>
    obtain ⟨r, y, he, hr, hx⟩ := hk
    have hf : gr_F E w o d r := ⟨_, _, hr⟩
    have h1 := (gr_T1 hf).2 _ _ hr
    have h2 := (gr_step he hf).2
    exact ⟨r, he, hf, by omega⟩
theorem gr_T0 {E : Nat → Nat → Bool} {w : Nat → Nat → Nat} {o : Nat → Bool} {d : Nat} (h : o d = true) : gr_F E w o d d ∧ gr_T E w o d d = 0 := by
  have h1 : gr_W E w o d 0 d 0 := ⟨rfl, h, rfl⟩
  have h2 : gr_F E w o d d := ⟨_, _, h1⟩
  have h3 := (gr_T1 h2).2 _ _ h1
  exact ⟨h2, by omega⟩
/-- the number of nodes that are nearer -/
def gr_rk (T : Nat → Nat) (s : Nat) : Nat := gr_c (fun i => decide (T i < T s)) 7
theorem gr_rk6 (T : Nat → Nat) {s : Nat} (hs : s < 7) : gr_rk T s ≤ 6 := by
  have h : gr_rk T s < gr_c (fun _ => true) 7 := gr_c_lt 7 (fun _ _ _ => rfl) s hs rfl (decide_eq_false (Nat.lt_irrefl _))
  have h7 : gr_c (fun _ => true) 7 = 7 := rfl
  omega
theorem gr_rkl (T : Nat → Nat) {s r : Nat} (hr : r < 7) (h : T r < T s) : gr_rk T r < gr_rk T s := by
  refine gr_c_lt 7 (fun i _ hi => ?_) r hr (decide_eq_true h) (decide_eq_false (Nat.lt_irrefl _))
  have h1 := of_decide_eq_true hi
  exact decide_eq_true (by omega)
theorem gr_bd {E : Nat → Nat → Bool} {w : Nat → Nat → Nat} {o : Nat → Bool} {d : Nat} (hG : gr_OK E w o) : ∀ m s, gr_T E w o d s < m → gr_F E w o d s → gr_T E w o d s ≤ 9 * gr_rk (gr_T E w o d) s := by
  intro m
  induction m with
  | zero => intro s h; omega
  | succ m ih =>
    intro s hm hf
    by_cases e : s = d
    · subst e
      obtain ⟨k, x, hx⟩ := hf
      rw [(gr_T0 (gr_Wo _ _ _ hx)).2]
      exact Nat.zero_le _
    · obtain ⟨r, he, hr, ht⟩ := gr_back hf e
      obtain ⟨g1, g2, g3, g4, _⟩ := hG s r he
      have h1 := ih r (by omega) hr
      have h2 := gr_rkl (gr_T E w o d) (s := s) g2 (by omega)
      omega
/-- what is used of the distances to d -/
def gr_P (E : Nat → Nat → Bool) (w : Nat → Nat → Nat) (o : Nat → Bool) (d : Nat) (T : Nat → Nat) : Prop :=
  (∀ s, T s ≤ 54 ∨ T s = 1000) ∧ (o d = true → T d = 0) ∧ (o d = false → ∀ s, T s = 1000) ∧
  (∀ s r, E s r = true → T r < 1000 → T s ≤ w s r + T r) ∧
  (∀ s, T s < 1000 → s ≠ d → ∃ r, E s r = true ∧ T r < 1000 ∧ T s = w s r + T r)
theorem gr_F54 {E : Nat → Nat → Bool} {w : Nat → Nat → Nat} {o : Nat → Bool} {d s : Nat} (hG : gr_OK E w o) (hd : d < 7) (h : gr_F E w o d s) : gr_T E w o d s ≤ 54 := by
  have h1 := gr_bd hG _ s (Nat.lt_succ_self _) h
  have hs : s < 7 := by
    by_cases e : s = d
    · omega
    · obtain ⟨r, he, _⟩ := gr_back h e
      exact (hG s r he).1
  have h2 := gr_rk6 (gr_T E w o d) hs
  omega
theorem gr_Fi {E : Nat → Nat → Bool} {w : Nat → Nat → Nat} {o : Nat → Bool} {d s : Nat} (h : gr_T E w o d s < 1000) : gr_F E w o d s := by
  by_cases h1 : gr_F E w o d s
  · exact h1
  · have := gr_T2 h1
    omega
theorem gr_Pt {E : Nat → Nat → Bool} {w : Nat → Nat → Nat} {o : Nat → Bool} {d : Nat} (hG : gr_OK E w o) (hd : d < 7) : gr_P E w o d (gr_T E w o d) := by
  refine ⟨fun s => ?_, fun h => (gr_T0 h).2, fun h s => ?_, fun s r he hr => (gr_step he (gr_Fi hr)).2, fun s hs hne => ?_⟩
  · by_cases h : gr_F E w o d s
    · exact Or.inl (gr_F54 hG hd h)
    · exact Or.inr (gr_T2 h)
  · refine gr_T2 (fun hf => ?_)
    obtain ⟨k, x, hx⟩ := hf
    have := gr_Wo _ _ _ hx
    rw [h] at this
    exact absurd this (by decide)
  · obtain ⟨r, he, hr, ht⟩ := gr_back (gr_Fi hs) hne
    have := gr_F54 hG hd hr
    exact ⟨r, he, by omega, ht⟩
end
section
/-! ## settling by distance -/
def gr_x (t : Nat) : Nat := if t < 1000 then t else 10000
theorem gr_x1 {t : Nat} (h : t < 1000) : gr_x t = t := if_pos h
theorem gr_x2 {t : Nat} (h : ¬ t < 1000) : gr_x t = 10000 := if_neg h
theorem gr_xl (t : Nat) : gr_x t ≤ 10000 := by
  by_cases h : t < 1000
  · rw [gr_x1 h]; omega
  · rw [gr_x2 h]; omega
def dj_I (E : Nat → Nat → Bool) (w : Nat → Nat → Nat) (d : Nat) (T a : Nat → Nat) (S : Nat → Bool) : Prop :=
  a d = 0 ∧ (∀ s, s < 7 → a s ≤ 10000) ∧ (∀ s, s < 7 → a s < 10000 → T s < 1000 ∧ T s ≤ a s) ∧
  (∀ s, s < 7 → S s = true → T s < 1000 ∧ a s = T s) ∧ (∀ s r, S r = true → E s r = true → a s ≤ w s r + T r)
theorem dj_u {E : Nat → Nat → Bool} {w : Nat → Nat → Nat} {o : Nat → Bool} {d : Nat} {T a : Nat → Nat} {S : Nat → Bool} (hG : gr_OK E w o) (hP : gr_P E w o d T) (ho : o d = true) (hd : d < 7) (hI : dj_I E w d T a S) : ∀ m v, T v < m → v < 7 → S v = false → T v < 1000 → ∃ u, u < 7 ∧ S u = false ∧ a u = T u ∧ T u ≤ T v ∧ T u < 1000 := by
  obtain ⟨p1, p2, p3, p4, p5⟩ := hP
  obtain ⟨i1, i2, i3, i4, i5⟩ := hI
  intro m
  induction m with
  | zero => intro v h; omega
  | succ m ih =>
    intro v hm hv hS ht
    by_cases e : v = d
    · subst e
      have h0 := p2 ho
      exact ⟨v, hv, hS, by omega, Nat.le_refl _, ht⟩
    · obtain ⟨r, he, hr, hx⟩ := p5 v ht e
      obtain ⟨g1, g2, g3, g4, _⟩ := hG v r he
      cases hs : S r with
      | true =>
        have h1 := i5 v r hs he
        have h2 := i3 v hv (by omega)
        exact ⟨v, hv, hS, by omega, Nat.le_refl _, ht⟩
      | false =>
        obtain ⟨u, u1, u2, u3, u4, u5⟩ := ih r (by omega) g2 hs hr
        exact ⟨u, u1, u2, u3, by omega, u5⟩
theorem dj_next {E : Nat → Nat → Bool} {w : Nat → Nat → Nat} {o : Nat → Bool} {d : Nat} {T a : Nat → Nat} {S : Nat → Bool} (hG : gr_OK E w o) (hP : gr_P E w o d T) (ho : o d = true) (hd : d < 7) (hI : dj_I E w d T a S) {n : Nat} (hn : n < 7) (hS : S n = false) (ha : a n < 10000) (hm : ∀ u, u < 7 → S u = false → a u < 10000 → a n ≤ a u) : T n < 1000 ∧ a n = T n := by
  obtain ⟨h1, h2⟩ := hI.2.2.1 n hn ha
  obtain ⟨u, u1, u2, u3, u4, u5⟩ := dj_u hG hP ho hd hI _ n (Nat.lt_succ_self _) hn hS h1
  have h3 := hm u u1 u2 (by omega)
  exact ⟨h1, by omega⟩
theorem dj_none {E : Nat → Nat → Bool} {w : Nat → Nat → Nat} {o : Nat → Bool} {d : Nat} {T a : Nat → Nat} {S : Nat → Bool} (hG : gr_OK E w o) (hP : gr_P E w o d T) (ho : o d = true) (hd : d < 7) (hI : dj_I E w d T a S) (hm : ∀ u, u < 7 → S u = false → 10000 ≤ a u) : ∀ s, s < 7 → a s = gr_x (T s) := by
  intro s hs
  cases hS : S s with
  | true =>
    obtain ⟨h1, h2⟩ := hI.2.2.2.1 s hs hS
    rw [gr_x1 h1, h2]
  | false =>
    have h1 := hm s hs hS
    have h2 := hI.2.1 s hs
    by_cases ht : T s < 1000
    · obtain ⟨u, u1, u2, u3, u4, u5⟩ := dj_u hG hP ho hd hI _ s (Nat.lt_succ_self _) hs hS ht
      have := hm u u1 u2
      omega
    · rw [gr_x2 ht]; omega
theorem dj_step {E : Nat → Nat → Bool} {w : Nat → Nat → Nat} {o : Nat → Bool} {d : Nat} {T a : Nat → Nat} {S : Nat → Bool} (hG : gr_OK E w o) (hP : gr_P E w o d T) (hd : d < 7) (hI : dj_I E w d T a S) {n : Nat} (hn : n < 7) (ht : T n < 1000) (ha : a n = T n) {a' : Nat → Nat} {S' : Nat → Bool} (h1 : ∀ s, s < 7 → (s ≠ n ∧ E s n = true ∧ w s n + a n < a s) → a' s = w s n + a n) (h2 : ∀ s, s < 7 → ¬ (s ≠ n ∧ E s n = true ∧ w s n + a n < a s) → a' s = a s) (h3 : ∀ s, S' s = true → S s = true ∨ s = n) : dj_I E w d T a' S' := by
  obtain ⟨p1, p2, p3, p4, p5⟩ := hP
  obtain ⟨i1, i2, i3, i4, i5⟩ := hI
  have hn54 : T n ≤ 54 := by
    rcases p1 n with h | h
    · exact h
    · omega
  have hle : ∀ s, s < 7 → a' s ≤ a s := by
    intro s hs
    by_cases hc : s ≠ n ∧ E s n = true ∧ w s n + a n < a s
    · rw [h1 s hs hc]; have := hc.2.2; omega
    · rw [h2 s hs hc]; exact Nat.le_refl _
  refine ⟨?_, ?_, ?_, ?_, ?_⟩
  · have := hle d hd
    omega
  · intro s hs
    have := hle s hs
    have := i2 s hs
    omega
  · intro s hs hlt
    by_cases hc : s ≠ n ∧ E s n = true ∧ w s n + a n < a s
    · have e := h1 s hs hc
      obtain ⟨g1, g2, g3, g4, _⟩ := hG s n hc.2.1
      have := p4 s n hc.2.1 ht
      exact ⟨by omega, by omega⟩
    · have e := h2 s hs hc
      rw [e] at hlt ⊢
      exact i3 s hs hlt
  · intro s hs hS
    by_cases e : s = n
    · subst e
      have e2 := h2 s hs (fun hc => hc.1 rfl)
      exact ⟨ht, by omega⟩
    · rcases h3 s hS with hS0 | hS0
      · obtain ⟨q1, q2⟩ := i4 s hs hS0
        by_cases hc : s ≠ n ∧ E s n = true ∧ w s n + a n < a s
        · have := p4 s n hc.2.1 ht
          have := hc.2.2
          omega
        · rw [h2 s hs hc]; exact ⟨q1, q2⟩
      · exact absurd hS0 e
  · intro s r hS he
    obtain ⟨g1, g2, g3, g4, _⟩ := hG s r he
    have hl := hle s g1
    rcases h3 r hS with hS0 | hS0
    · have := i5 s r hS0 he
      omega
    · subst hS0
      by_cases hc : s ≠ r ∧ E s r = true ∧ w s r + a r < a s
      · rw [h1 s g1 hc]; omega
      · by_cases e : s = r
        · subst e; rw [h2 s g1 hc]; omega
        · have hx : ¬ w s r + a r < a s := fun hh => hc ⟨e, he, hh⟩
          rw [h2 s g1 hc]; omega

/-! ## lowering along links -/
def bf_S (T : Nat → Nat → Nat) (B : Nat → Nat) : Prop := ∀ s d, s < 7 → d < 7 → T d s ≤ B (7 * s + d) ∧ B (7 * s + d) ≤ 1000
def bf_U (T : Nat → Nat → Nat) (k : Nat) (B : Nat → Nat) : Prop := ∀ s d, s < 7 → d < 7 → T d s < 1000 → gr_rk (T d) s ≤ k → B (7 * s + d) ≤ T d s
def bf_D (E : Nat → Nat → Bool) (w : Nat → Nat → Nat) (T : Nat → Nat → Nat) (k c : Nat) (B : Nat → Nat) : Prop := ∀ s r d, s < 7 → r < 7 → d < 7 → 7 * s + r < c → E s r = true → T d r < 1000 → gr_rk (T d) r ≤ k → B (7 * s + d) ≤ w s r + T d r
theorem bf_pass {E : Nat → Nat → Bool} {w : Nat → Nat → Nat} {o : Nat → Bool} {T : Nat → Nat → Nat} (hG : gr_OK E w o) (hP : ∀ d, d < 7 → gr_P E w o d (T d)) {k : Nat} {B : Nat → Nat} (hU : bf_U T k B) (hD : bf_D E w T k 49 B) : bf_U T (k + 1) B := by
  intro s d hs hd ht hr
  by_cases e : s = d
  · obtain ⟨p1, p2, p3, p4, p5⟩ := hP d hd
    subst e
    have h0 : T s s = 0 := by
      cases ho : o s with
      | true => exact p2 ho
      | false => have := p3 ho s; omega
    refine hU s s hs hs ht ?_
    have : gr_rk (T s) s = 0 := by
      unfold gr_rk
      rw [h0]
      rfl
    omega
  · obtain ⟨p1, p2, p3, p4, p5⟩ := hP d hd
    obtain ⟨r, he, hr2, hx⟩ := p5 s ht e
    obtain ⟨g1, g2, g3, g4, _⟩ := hG s r he
    have h1 := gr_rkl (T d) (s := s) g2 (by omega)
    have h2 := hD s r d hs g2 hd (by omega) he hr2 (by omega)
    omega
theorem bf_0 {E : Nat → Nat → Bool} {w : Nat → Nat → Nat} {o : Nat → Bool} {T : Nat → Nat → Nat} (hG : gr_OK E w o) (hP : ∀ d, d < 7 → gr_P E w o d (T d)) {B : Nat → Nat} (h1 : ∀ s d, s < 7 → d < 7 → s = d → o s = true → B (7 * s + d) = 0) (h2 : ∀ s d, s < 7 → d < 7 → ¬ (s = d ∧ o s = true) → B (7 * s + d) = 1000) : bf_S T B ∧ bf_U T 0 B := by
  refine ⟨fun s d hs hd => ?_, fun s d hs hd ht hr => ?_⟩
  · obtain ⟨p1, p2, p3, p4, p5⟩ := hP d hd
    by_cases hc : s = d ∧ o s = true
    · rw [h1 s d hs hd hc.1 hc.2]
      have e := hc.1
      subst e
      rw [p2 hc.2]
      omega
    · rw [h2 s d hs hd hc]
      rcases p1 s with h | h
      · omega
      · omega
  · obtain ⟨p1, p2, p3, p4, p5⟩ := hP d hd
    by_cases e : s = d
    · subst e
      cases ho : o s with
      | true => rw [h1 s s hs hs rfl ho]; exact Nat.zero_le _
      | false => have := p3 ho s; omega
    · obtain ⟨r, he, hr2, hx⟩ := p5 s ht e
      obtain ⟨g1, g2, g3, g4, _⟩ := hG s r he
      have h1 := gr_rkl (T d) (s := s) g2 (by omega)
      omega
theorem bf_end {E : Nat → Nat → Bool} {w : Nat → Nat → Nat} {o : Nat → Bool} {T : Nat → Nat → Nat} (hP : ∀ d, d < 7 → gr_P E w o d (T d)) {B : Nat → Nat} (hS : bf_S T B) (hU : bf_U T 6 B) : ∀ s d, s < 7 → d < 7 → B (7 * s + d) = T d s := by
  intro s d hs hd
  obtain ⟨p1, p2, p3, p4, p5⟩ := hP d hd
  obtain ⟨h1, h2⟩ := hS s d hs hd
  rcases p1 s with h | h
  · have := hU s d hs hd (by omega) (gr_rk6 _ hs)
    omega
  · omega
/-- one store: cell (s, d) is lowered to w s r + cell (r, d) -/
theorem bf_low {E : Nat → Nat → Bool} {w : Nat → Nat → Nat} {o : Nat → Bool} {T : Nat → Nat → Nat} (hP : ∀ d, d < 7 → gr_P E w o d (T d)) {B B' : Nat → Nat} {s r d : Nat} (hs : s < 7) (hr : r < 7) (hd : d < 7) (he : E s r = true) (hS : bf_S T B) (hx : w s r + B (7 * r + d) < B (7 * s + d)) (h1 : B' (7 * s + d) = w s r + B (7 * r + d)) (h2 : ∀ j, j ≠ 7 * s + d → B' j = B j) : bf_S T B' ∧ ∀ j, B' j ≤ B j := by
  have hle : ∀ j, B' j ≤ B j := by
    intro j
    by_cases e : j = 7 * s + d
    · subst e; omega
    · rw [h2 j e]; exact Nat.le_refl _
  refine ⟨fun s' d' hs' hd' => ?_, hle⟩
  obtain ⟨a1, a2⟩ := hS s' d' hs' hd'
  have a3 := hle (7 * s' + d')
  refine ⟨?_, by omega⟩
  by_cases e : 7 * s' + d' = 7 * s + d
  · have e1 : s' = s := by omega
    have e2 : d' = d := by omega
    subst e1 e2
    obtain ⟨p1, p2, p3, p4, p5⟩ := hP d' hd'
    obtain ⟨b1, b2⟩ := hS r d' hr hd'
    have := p4 s' r he (by omega)
    omega
  · rw [h2 _ e]; exact a1

/-! ## routes -/
def rt_P (E : Nat → Nat → Bool) (w : Nat → Nat → Nat) (d : Nat) (T : Nat → Nat) (s r : Nat) : Bool := decide (s ≠ d) && decide (T s < 1000) && E s r && decide (w s r + T r = T s)
def rt_h (E : Nat → Nat → Bool) (w : Nat → Nat → Nat) (d : Nat) (T : Nat → Nat) (s : Nat) : Nat := gr_f (rt_P E w d T s) 7
theorem rt_P1 {E : Nat → Nat → Bool} {w : Nat → Nat → Nat} {d : Nat} {T : Nat → Nat} {s r : Nat} : rt_P E w d T s r = true ↔ s ≠ d ∧ T s < 1000 ∧ E s r = true ∧ w s r + T r = T s := by
  unfold rt_P
  simp [Bool.and_eq_true, and_assoc]
theorem rt_P0 {E : Nat → Nat → Bool} {w : Nat → Nat → Nat} {d : Nat} {T : Nat → Nat} {s r : Nat} (h : ¬ (s ≠ d ∧ T s < 1000 ∧ E s r = true ∧ w s r + T r = T s)) : rt_P E w d T s r = false := by
  cases hp : rt_P E w d T s r with
  | false => rfl
  | true => exact absurd (rt_P1.mp hp) h
theorem rt_h7 {E : Nat → Nat → Bool} {w : Nat → Nat → Nat} {d : Nat} {T : Nat → Nat} {s : Nat} (h : ¬ (s ≠ d ∧ T s < 1000)) : rt_h E w d T s = 7 :=
  gr_f_u (Nat.le_refl 7) (fun j _ => rt_P0 (fun hh => h ⟨hh.1, hh.2.1⟩)) (fun hh => absurd hh (by decide))
theorem rt_hs {E : Nat → Nat → Bool} {w : Nat → Nat → Nat} {o : Nat → Bool} {d : Nat} {T : Nat → Nat} {s : Nat} (hG : gr_OK E w o) (hP : gr_P E w o d T) (h1 : s ≠ d) (h2 : T s < 1000) : rt_h E w d T s < 7 ∧ E s (rt_h E w d T s) = true ∧ T (rt_h E w d T s) < 1000 ∧ w s (rt_h E w d T s) + T (rt_h E w d T s) = T s ∧ gr_rk T (rt_h E w d T s) < gr_rk T s := by
  obtain ⟨r, he, hr, hx⟩ := hP.2.2.2.2 s h2 h1
  obtain ⟨g1, g2, g3, g4, _⟩ := hG s r he
  have h7 : rt_h E w d T s < 7 := gr_f_ex g2 (rt_P1.mpr ⟨h1, h2, he, by omega⟩)
  have hp := (gr_f_sp (rt_P E w d T s) 7).2.2 h7
  obtain ⟨_, _, q1, q2⟩ := rt_P1.mp hp
  obtain ⟨_, _, g5, _⟩ := hG _ _ q1
  have q3 : w s (rt_h E w d T s) + T (rt_h E w d T s) = T s := q2
  have q4 : 0 < w s (rt_h E w d T s) := g5
  exact ⟨h7, q1, by omega, q2, gr_rkl T h7 (by omega)⟩
def rt_r (h : Nat → Nat) (d s : Nat) : Nat → Nat
  | 0 => s
  | k + 1 => if rt_r h d s k = d then d else h (rt_r h d s k)
theorem rt_rs (h : Nat → Nat) (d s k : Nat) : rt_r h d s (k + 1) = if rt_r h d s k = d then d else h (rt_r h d s k) := rfl
theorem rt_rd {h : Nat → Nat} {d s k : Nat} (e : rt_r h d s k = d) : ∀ j, rt_r h d s (k + j) = d := by
  intro j
  induction j with
  | zero => exact e
  | succ j ih => rw [← Nat.add_assoc, rt_rs, if_pos ih]
theorem rt_rge {h : Nat → Nat} {d s k j : Nat} (e : rt_r h d s k = d) (hj : k ≤ j) : rt_r h d s j = d := by
  obtain ⟨c, rfl⟩ := Nat.exists_eq_add_of_le hj
  exact rt_rd e c
theorem rt_in {E : Nat → Nat → Bool} {w : Nat → Nat → Nat} {o : Nat → Bool} {d : Nat} {T : Nat → Nat} {s : Nat} (hG : gr_OK E w o) (hP : gr_P E w o d T) (hd : d < 7) (hs : s < 7) (h2 : T s < 1000) : ∀ k, rt_r (rt_h E w d T) d s k < 7 ∧ T (rt_r (rt_h E w d T) d s k) < 1000 ∧ (rt_r (rt_h E w d T) d s k = d ∨ gr_rk T (rt_r (rt_h E w d T) d s k) + k ≤ gr_rk T s) := by
  intro k
  induction k with
  | zero => exact ⟨hs, h2, Or.inr (Nat.le_refl _)⟩
  | succ k ih =>
    obtain ⟨i1, i2, i3⟩ := ih
    by_cases e : rt_r (rt_h E w d T) d s k = d
    · rw [rt_rs, if_pos e]
      rw [e] at i2
      exact ⟨hd, i2, Or.inl rfl⟩
    · rw [rt_rs, if_neg e]
      obtain ⟨q1, q2, q3, q4, q5⟩ := rt_hs hG hP e i2
      refine ⟨q1, q3, Or.inr ?_⟩
      rcases i3 with i3 | i3
      · exact absurd i3 e
      · omega
theorem rt_6 {E : Nat → Nat → Bool} {w : Nat → Nat → Nat} {o : Nat → Bool} {d : Nat} {T : Nat → Nat} {s : Nat} (hG : gr_OK E w o) (hP : gr_P E w o d T) (hd : d < 7) (hs : s < 7) (h2 : T s < 1000) : rt_r (rt_h E w d T) d s 6 = d := by
  obtain ⟨i1, i2, i3⟩ := rt_in hG hP hd hs h2 6
  by_cases e : rt_r (rt_h E w d T) d s 6 = d
  · exact e
  · obtain ⟨q1, q2, q3, q4, q5⟩ := rt_hs hG hP e i2
    have := gr_rk6 T hs
    rcases i3 with i3 | i3
    · exact i3
    · omega
def rt_l (h : Nat → Nat) (d s : Nat) : Nat := gr_f (fun k => decide (rt_r h d s k = d)) 6
theorem rt_ls {h : Nat → Nat} {d s : Nat} (h6 : rt_r h d s 6 = d) : rt_l h d s ≤ 6 ∧ rt_r h d s (rt_l h d s) = d ∧ ∀ j, j < rt_l h d s → rt_r h d s j ≠ d := by
  obtain ⟨a1, a2, a3⟩ := gr_f_sp (fun k => decide (rt_r h d s k = d)) 6
  refine ⟨a1, ?_, fun j hj => of_decide_eq_false (a2 j hj)⟩
  rcases Nat.lt_or_ge (rt_l h d s) 6 with hl | hl
  · exact of_decide_eq_true (a3 hl)
  · have e : rt_l h d s = 6 := Nat.le_antisymm a1 hl
    rw [e]; exact h6
theorem rt_lu {h : Nat → Nat} {d s k : Nat} (h6 : rt_r h d s 6 = d) (hk : k ≤ 6) (e : rt_r h d s k = d) (hn : ∀ j, j < k → rt_r h d s j ≠ d) : rt_l h d s = k :=
  gr_f_u hk (fun j hj => decide_eq_false (hn j hj)) (fun _ => decide_eq_true e)
theorem rt_lk {h : Nat → Nat} {d s k : Nat} (h6 : rt_r h d s 6 = d) : k < rt_l h d s ↔ rt_r h d s k ≠ d := by
  obtain ⟨a1, a2, a3⟩ := rt_ls h6
  refine ⟨a3 k, fun hn => ?_⟩
  rcases Nat.lt_or_ge k (rt_l h d s) with hl | hl
  · exact hl
  · exact absurd (rt_rge a2 hl) hn
end
section
/-! ## the network: prices, links up, routers on -/
abbrev nn_N : Type := (Nat → Nat) × (Nat → Nat) × (Nat → Nat)
def nn_E (N : nn_N) (a b : Nat) : Bool := decide (a < 7) && decide (b < 7) && decide (0 < N.1 (7 * a + b)) && decide (N.2.1 (7 * a + b) ≠ 0) && decide (N.2.2 a ≠ 0) && decide (N.2.2 b ≠ 0)
def nn_w (N : nn_N) (a b : Nat) : Nat := N.1 (7 * a + b)
def nn_o (N : nn_N) (a : Nat) : Bool := decide (N.2.2 a ≠ 0)
noncomputable def nn_T (N : nn_N) (d s : Nat) : Nat := gr_T (nn_E N) (nn_w N) (nn_o N) d s
noncomputable def nn_h (N : nn_N) (d s : Nat) : Nat := rt_h (nn_E N) (nn_w N) d (nn_T N d) s
noncomputable def nn_r (N : nn_N) (d s k : Nat) : Nat := rt_r (nn_h N d) d s k
noncomputable def nn_l (N : nn_N) (d s : Nat) : Nat := rt_l (nn_h N d) d s
def nn_K (N : nn_N) : Prop :=
  (∀ a b, a < 7 → b < 7 → N.1 (7 * a + b) ≤ 9 ∧ N.1 (7 * a + b) = N.1 (7 * b + a) ∧ N.2.1 (7 * a + b) = N.2.1 (7 * b + a) ∧ N.2.1 (7 * a + b) ≤ 1) ∧
  (∀ a, a < 7 → N.1 (7 * a + a) = 0 ∧ N.2.2 a ≤ 1)
theorem nn_E1 {N : nn_N} {a b : Nat} : nn_E N a b = true ↔ a < 7 ∧ b < 7 ∧ 0 < N.1 (7 * a + b) ∧ N.2.1 (7 * a + b) ≠ 0 ∧ N.2.2 a ≠ 0 ∧ N.2.2 b ≠ 0 := by
  unfold nn_E
  simp only [Bool.and_eq_true, decide_eq_true_eq, and_assoc]
theorem nn_E0 {N : nn_N} {a b : Nat} (h : ¬ (a < 7 ∧ b < 7 ∧ 0 < N.1 (7 * a + b) ∧ N.2.1 (7 * a + b) ≠ 0 ∧ N.2.2 a ≠ 0 ∧ N.2.2 b ≠ 0)) : nn_E N a b = false := by
  cases hp : nn_E N a b with
  | false => rfl
  | true => exact absurd (nn_E1.mp hp) h
theorem nn_G {N : nn_N} (hK : nn_K N) : gr_OK (nn_E N) (nn_w N) (nn_o N) := by
  intro a b h
  obtain ⟨h1, h2, h3, h4, h5, h6⟩ := nn_E1.mp h
  exact ⟨h1, h2, h3, (hK.1 a b h1 h2).1, decide_eq_true h5, decide_eq_true h6⟩
theorem nn_ne {N : nn_N} (hK : nn_K N) {a b : Nat} (h : nn_E N a b = true) : a ≠ b := by
  intro e
  subst e
  obtain ⟨h1, h2, h3, _⟩ := nn_E1.mp h
  have := (hK.2 a h1).1
  omega
theorem nn_P {N : nn_N} (hK : nn_K N) {d : Nat} (hd : d < 7) : gr_P (nn_E N) (nn_w N) (nn_o N) d (nn_T N d) := gr_Pt (nn_G hK) hd
theorem nn_hs {N : nn_N} (hK : nn_K N) {d s : Nat} (hd : d < 7) (h1 : s ≠ d) (h2 : nn_T N d s < 1000) : nn_h N d s < 7 ∧ nn_E N s (nn_h N d s) = true ∧ nn_T N d (nn_h N d s) < 1000 ∧ nn_w N s (nn_h N d s) + nn_T N d (nn_h N d s) = nn_T N d s := by
  obtain ⟨q1, q2, q3, q4, _⟩ := rt_hs (nn_G hK) (nn_P hK hd) h1 h2
  exact ⟨q1, q2, q3, q4⟩
theorem nn_h7 {N : nn_N} {d s : Nat} (h : ¬ (s ≠ d ∧ nn_T N d s < 1000)) : nn_h N d s = 7 := rt_h7 h
theorem nn_h8 {N : nn_N} (hK : nn_K N) {d s : Nat} (hd : d < 7) : nn_h N d s < 7 ∨ nn_h N d s = 7 := by
  have h := (gr_f_sp (rt_P (nn_E N) (nn_w N) d (nn_T N d) s) 7).1
  have h' : nn_h N d s ≤ 7 := h
  omega
theorem nn_in {N : nn_N} (hK : nn_K N) {d s : Nat} (hs : s < 7) (hd : d < 7) (h2 : nn_T N d s < 1000) (k : Nat) : nn_r N d s k < 7 ∧ nn_T N d (nn_r N d s k) < 1000 := by
  obtain ⟨q1, q2, _⟩ := rt_in (nn_G hK) (nn_P hK hd) hd hs h2 k
  exact ⟨q1, q2⟩
theorem nn_6 {N : nn_N} (hK : nn_K N) {d s : Nat} (hs : s < 7) (hd : d < 7) (h2 : nn_T N d s < 1000) : nn_r N d s 6 = d := rt_6 (nn_G hK) (nn_P hK hd) hd hs h2
theorem nn_rs {N : nn_N} {d s k : Nat} (h : nn_r N d s k ≠ d) : nn_r N d s (k + 1) = nn_h N d (nn_r N d s k) := if_neg h
theorem nn_rd {N : nn_N} {d s k : Nat} (h : nn_r N d s k = d) : nn_r N d s (k + 1) = d := if_pos h
theorem nn_ge {N : nn_N} {d s k j : Nat} (h : nn_r N d s k = d) (hj : k ≤ j) : nn_r N d s j = d := rt_rge h hj
theorem nn_ls {N : nn_N} {d s : Nat} (h6 : nn_r N d s 6 = d) : nn_l N d s ≤ 6 ∧ nn_r N d s (nn_l N d s) = d ∧ ∀ j, j < nn_l N d s → nn_r N d s j ≠ d := rt_ls h6
theorem nn_lk {N : nn_N} {d s k : Nat} (h6 : nn_r N d s 6 = d) : k < nn_l N d s ↔ nn_r N d s k ≠ d := rt_lk h6
theorem nn_ss {N : nn_N} (hK : nn_K N) {s : Nat} (hs : s < 7) : (N.2.2 s ≠ 0 → nn_T N s s = 0) ∧ (N.2.2 s = 0 → ∀ d, d < 7 → nn_T N d s = 1000) := by
  refine ⟨fun h => (nn_P hK hs).2.1 (decide_eq_true h), fun h d hd => ?_⟩
  obtain ⟨p1, p2, p3, p4, p5⟩ := nn_P hK hd
  rcases p1 s with h1 | h1
  · by_cases e : s = d
    · subst e
      exact p3 (decide_eq_false (fun hh => hh h)) s
    · obtain ⟨r, he, _⟩ := p5 s (by omega) e
      exact absurd h (nn_E1.mp he).2.2.2.2.1
  · exact h1
theorem nn_T0 {N : nn_N} (hK : nn_K N) {d s : Nat} (hd : d < 7) : nn_T N d s ≤ 54 ∨ nn_T N d s = 1000 := (nn_P hK hd).1 s

/-! ## a route as a number -/
def rc_c (f : Nat → Nat) : Nat → Nat
  | 0 => 1
  | k + 1 => 8 * rc_c f k + f k
theorem rc_s (f : Nat → Nat) (k : Nat) : rc_c f (k + 1) = 8 * rc_c f k + f k := rfl
theorem rc_b {f : Nat → Nat} (hf : ∀ j, f j < 8) : ∀ k, 8 ^ k ≤ rc_c f k ∧ rc_c f k < 2 * 8 ^ k := by
  intro k
  induction k with
  | zero => exact ⟨Nat.le_refl 1, show 1 < 2 * 8 ^ 0 by decide⟩
  | succ k ih =>
    have := hf k
    rw [rc_s, Nat.pow_succ]
    omega
theorem rc_inj {f g : Nat → Nat} (hf : ∀ j, f j < 8) (hg : ∀ j, g j < 8) : ∀ k, rc_c f k = rc_c g k → ∀ j, j < k → f j = g j := by
  intro k
  induction k with
  | zero => intro _ j hj; omega
  | succ k ih =>
    intro h j hj
    rw [rc_s, rc_s] at h
    have h1 := hf k
    have h2 := hg k
    by_cases e : j = k
    · subst e; omega
    · exact ih (by omega) j (by omega)
theorem rc_lt {f g : Nat → Nat} (hf : ∀ j, f j < 8) (hg : ∀ j, g j < 8) {m n : Nat} (h : m < n) : rc_c f m < rc_c g n := by
  have h1 := (rc_b hf m).2
  have h2 := (rc_b hg n).1
  have h3 : 8 ^ (m + 1) ≤ 8 ^ n := Nat.pow_le_pow_right (by decide) h
  rw [Nat.pow_succ] at h3
  omega
theorem rc_len {f g : Nat → Nat} (hf : ∀ j, f j < 8) (hg : ∀ j, g j < 8) {m n : Nat} (h : rc_c f m = rc_c g n) : m = n := by
  rcases Nat.lt_trichotomy m n with h1 | h1 | h1
  · have := rc_lt hf hg h1; omega
  · exact h1
  · have := rc_lt hg hf h1; omega
theorem rc_cong {f g : Nat → Nat} : ∀ k, (∀ j, j < k → f j = g j) → rc_c f k = rc_c g k := by
  intro k
  induction k with
  | zero => intro _; rfl
  | succ k ih =>
    intro h
    rw [rc_s, rc_s, ih (fun j hj => h j (by omega)), h k (by omega)]
noncomputable def nn_c (N : nn_N) (d s : Nat) : Nat := if nn_T N d s < 1000 then rc_c (nn_r N d s) (nn_l N d s + 1) else 0
theorem nn_c1 {N : nn_N} {d s : Nat} (h : nn_T N d s < 1000) : nn_c N d s = rc_c (nn_r N d s) (nn_l N d s + 1) := if_pos h
theorem nn_c0 {N : nn_N} {d s : Nat} (h : ¬ nn_T N d s < 1000) : nn_c N d s = 0 := if_neg h
theorem nn_cb {N : nn_N} (hK : nn_K N) {d s : Nat} (hs : s < 7) (hd : d < 7) (h : nn_T N d s < 1000) : 0 < nn_c N d s ∧ nn_c N d s < 8388608 := by
  have h8 : ∀ j, nn_r N d s j < 8 := fun j => Nat.lt_succ_of_lt (nn_in hK hs hd h j).1
  have h1 := rc_b h8 (nn_l N d s + 1)
  have h2 := (nn_ls (nn_6 hK hs hd h)).1
  have h3 : 8 ^ (nn_l N d s + 1) ≤ 8 ^ 7 := Nat.pow_le_pow_right (by decide) (by omega)
  have h4 : 0 < 8 ^ (nn_l N d s + 1) := Nat.pow_pos (by decide)
  have h5 : 8 ^ 7 = 2097152 := by decide
  rw [nn_c1 h]
  omega
theorem nn_cl {N : nn_N} (hK : nn_K N) {d s : Nat} (hs : s < 7) (hd : d < 7) : nn_c N d s < 8388608 := by
  by_cases h : nn_T N d s < 1000
  · exact (nn_cb hK hs hd h).2
  · rw [nn_c0 h]; decide
theorem nn_ceq {N M : nn_N} (hN : nn_K N) (hM : nn_K M) {d s : Nat} (hs : s < 7) (hd : d < 7) (h1 : nn_T N d s < 1000) (h2 : nn_T M d s < 1000) : nn_c N d s = nn_c M d s ↔ ∀ k, nn_r N d s k = nn_r M d s k := by
  have n8 : ∀ j, nn_r N d s j < 8 := fun j => Nat.lt_succ_of_lt (nn_in hN hs hd h1 j).1
  have m8 : ∀ j, nn_r M d s j < 8 := fun j => Nat.lt_succ_of_lt (nn_in hM hs hd h2 j).1
  obtain ⟨a1, a2, a3⟩ := nn_ls (nn_6 hN hs hd h1)
  obtain ⟨b1, b2, b3⟩ := nn_ls (nn_6 hM hs hd h2)
  rw [nn_c1 h1, nn_c1 h2]
  refine ⟨fun e k => ?_, fun e => ?_⟩
  · have el := rc_len n8 m8 e
    rw [← el] at e
    rcases Nat.lt_or_ge k (nn_l N d s + 1) with hk | hk
    · exact rc_inj n8 m8 _ e k hk
    · rw [nn_ge a2 (by omega), nn_ge b2 (by omega)]
  · have el : nn_l N d s = nn_l M d s := by
      refine rt_lu (nn_6 hN hs hd h1) b1 ?_ ?_
      · show nn_r N d s _ = d
        rw [e]; exact b2
      · intro j hj
        show nn_r N d s j ≠ d
        rw [e]; exact b3 j hj
    rw [el]
    exact rc_cong _ (fun j _ => e j)
end
section
/-! ## ints: indexes, bits, small stores -/
theorem iz_x (a b : Nat) : nI a * 7 + nI b = nI (7 * a + b) := by
  have h : nI a * nI 7 + nI b = nI (7 * a + b) := by rw [pk_mul, nI_add, Nat.mul_comm]
  exact h
theorem iz_y (a b : Nat) : 7 * nI a + nI b = nI (7 * a + b) := by
  have h : nI 7 * nI a + nI b = nI (7 * a + b) := by rw [pk_mul, nI_add]
  exact h
theorem zx_in {a b : Nat} (ha : a < 7) (hb : b < 7) : vp_in (nI a * 7 + nI b) 49 := by rw [iz_x]; exact vp_in_nI (by omega) (by omega)
theorem zx_cl {a b : Nat} (ha : a < 7) (hb : b < 7) : (nI a * 7 + nI b).toNatClampNeg = 7 * a + b := by rw [iz_x]; exact nI_clamp (by omega)
theorem zy_in {a b : Nat} (ha : a < 7) (hb : b < 7) : vp_in (7 * nI a + nI b) 49 := by rw [iz_y]; exact vp_in_nI (by omega) (by omega)
theorem zy_cl {a b : Nat} (ha : a < 7) (hb : b < 7) : (7 * nI a + nI b).toNatClampNeg = 7 * a + b := by rw [iz_y]; exact nI_clamp (by omega)
theorem iz_d {c : Nat} (h : c < 49) : nI c / 7 = nI (c / 7) := pk_div (a := c) (d := 7) (by omega) (by decide) (by decide)
theorem iz_m {c : Nat} (h : c < 49) : nI c - nI c / 7 * 7 = nI (c % 7) := pk_rem (a := c) (d := 7) (by omega) (by decide) (by decide)
theorem iz_7 : ¬ (7 : Int32) = 0 := by decide
theorem iz_10 : ¬ (1 : Int32) = 0 := by decide
theorem iz_lt7 {a : Nat} (h : a < 7) : ¬ (7 : Int32) ≤ nI a := nI_ge (b := 7) h (by decide)
theorem iz_le7 {a : Nat} (h : 7 ≤ a) (h2 : a < 2 ^ 31) : (7 : Int32) ≤ nI a := nI_le (a := 7) h h2
theorem iz_ne {a b : Nat} (ha : a < 7) (hb : b < 7) (h : a ≠ b) : ¬ nI a = nI b := fun e => h ((nI_eq (by omega) (by omega)).mp e)
def zz_bad (x : Int32) : Prop := x < 0 ∨ nI 7 ≤ x
theorem zz_sp (x : Int32) : zz_bad x ∨ ∃ a : Nat, a < 7 ∧ x = nI a := by
  rcases pk_ix x (n := 7) (by decide) with h | h | h
  · exact Or.inl (Or.inl h)
  · exact Or.inl (Or.inr h)
  · exact Or.inr h
theorem zz_nb {a : Nat} (ha : a < 7) : ¬ zz_bad (nI a) := by
  intro h
  rcases h with h | h
  · exact nI_pos (by omega) h
  · exact nI_ge (b := 7) ha (by decide) h
theorem zz_inj {a b : Nat} (ha : a < 7) (hb : b < 7) (h : nI a = nI b) : a = b := (nI_eq (by omega) (by omega)).mp h
theorem zz_le {x : Int32} {k : Nat} (hk : k < 2 ^ 31) : x ≤ nI k ↔ x.toNatClampNeg ≤ k := by
  by_cases h : x < 0
  · have h1 : x ≤ nI k := by
      rw [Int32.le_iff_toInt_le, nI_toInt hk]
      rw [Int32.lt_iff_toInt_lt, show (0 : Int32).toInt = 0 from by decide] at h
      omega
    have h2 : x.toNatClampNeg = 0 := by
      rw [Int32.lt_iff_toInt_lt, show (0 : Int32).toInt = 0 from by decide] at h
      show x.toInt.toNat = 0
      omega
    rw [h2]
    exact ⟨fun _ => Nat.zero_le _, fun _ => h1⟩
  · obtain ⟨j, hj, rfl⟩ := nI_of h
    rw [nI_leI hj hk, nI_clamp hj]
theorem zz_lt {x : Int32} {k : Nat} (hk : k < 2 ^ 31) : nI k < x ↔ k < x.toNatClampNeg := by
  rw [← Int32.not_le, zz_le hk]
  omega
noncomputable def zb (P : Prop) : Int32 := @ite Int32 P (Classical.propDecidable P) 1 0
theorem zb_t {P : Prop} (h : P) : zb P = 1 := by unfold zb; rw [if_pos h]
theorem zb_f {P : Prop} (h : ¬ P) : zb P = 0 := by unfold zb; rw [if_neg h]
theorem zb_n (P : Prop) : narrow .boolean (.int (zb P)) = .int (zb P) := by
  by_cases h : P
  · rw [zb_t h]; rfl
  · rw [zb_f h]; rfl
noncomputable def zz_b (P : Prop) : Nat := @ite Nat P (Classical.propDecidable P) 1 0
theorem zz_bt {P : Prop} (h : P) : zz_b P = 1 := by unfold zz_b; rw [if_pos h]
theorem zz_bf {P : Prop} (h : ¬ P) : zz_b P = 0 := by unfold zz_b; rw [if_neg h]
noncomputable def zz_n (P : Nat → Prop) : Nat → Nat
  | 0 => 0
  | n + 1 => zz_n P n + zz_b (P n)
theorem zz_n1 {P : Nat → Prop} {n : Nat} (h : P n) : zz_n P (n + 1) = zz_n P n + 1 := by
  show zz_n P n + zz_b (P n) = _
  rw [zz_bt h]
theorem zz_n0 {P : Nat → Prop} {n : Nat} (h : ¬ P n) : zz_n P (n + 1) = zz_n P n := by
  show zz_n P n + zz_b (P n) = _
  rw [zz_bf h, Nat.add_zero]
theorem zz_nz {P : Nat → Prop} : ∀ n, (∀ i, i < n → ¬ P i) → zz_n P n = 0 := by
  intro n
  induction n with
  | zero => intro _; rfl
  | succ n ih => intro h; rw [zz_n0 (h n (by omega))]; exact ih (fun i hi => h i (by omega))
theorem iz_a0 (n : Nat) : nI n + 0 = nI n := Int32.add_zero _
/-! bits of a small mask -/
theorem bm_two : ∀ q, q < 128 → ∀ a, a < 7 → ∀ b, b < 7 → ((((nI q >>> (nI a &&& 31)) &&& (nI q >>> (nI b &&& 31))) &&& 1 = 0) ↔ (q.testBit a && q.testBit b) = false) := by decide +kernel
theorem bm_one : ∀ q, q < 128 → ∀ a, a < 7 → (((nI q >>> (nI a &&& 31)) &&& 1 = 0) ↔ q.testBit a = false) := by decide +kernel
theorem bm_set : ∀ q, q < 128 → ∀ a, a < 7 → (nI q ||| ((1 : Int32) <<< (nI a &&& 31))) = nI (q ||| 2 ^ a) ∧ (q ||| 2 ^ a) < 128 := by decide +kernel
theorem bm_clr : ∀ q, q < 128 → ∀ a, a < 7 → (nI q &&& (((1 : Int32) <<< (nI a &&& 31)) ^^^ (-1))) = nI (q &&& (127 - 2 ^ a)) ∧ (q &&& (127 - 2 ^ a)) < 128 := by decide +kernel
theorem bm_sb : ∀ q, q < 128 → ∀ a, a < 7 → ∀ i, i < 7 → (q ||| 2 ^ a).testBit i = (q.testBit i || i == a) := by decide +kernel
theorem bm_cb : ∀ q, q < 128 → ∀ a, a < 7 → ∀ i, i < 7 → (q &&& (127 - 2 ^ a)).testBit i = (q.testBit i && !(i == a)) := by decide +kernel
theorem bm_byte' : ∀ q, q < 128 → (nI q).toInt8.toInt32 = nI q := by decide +kernel
theorem bm_short' : ∀ q, q < 128 → (nI q).toInt16.toInt32 = nI q := by decide +kernel
theorem bm_byte {q : Nat} (h : q < 128) : vp_nar .byte (nI q).toInt8.toInt32 = nI q := by rw [pk_vb, bm_byte' q h]
theorem bm_short {q : Nat} (h : q < 128) : vp_nar .short (nI q).toInt16.toInt32 = nI q := by rw [pk_vs, bm_short' q h]
theorem bm_b0 : vp_nar .byte 0 = 0 := by rw [vp_nar_byte]; decide
theorem bm_bm1 : vp_nar .byte (-1) = -1 := by rw [vp_nar_byte]; decide
theorem bm_s0 : vp_nar .short 0 = 0 := by rw [vp_nar_short]; decide
theorem bm_z0 : vp_nar .boolean 0 = 0 := rfl
theorem bm_z1 : vp_nar .boolean 1 = 1 := rfl
theorem bm_two2' : ∀ a b x y : Fin 7, a = b ∨ ((((1 : Int32) <<< (nI x.val &&& 31)) ||| ((1 : Int32) <<< (nI y.val &&& 31))) = (((1 : Int32) <<< (nI a.val &&& 31)) ||| ((1 : Int32) <<< (nI b.val &&& 31))) ↔ (x = a ∧ y = b) ∨ (x = b ∧ y = a)) := by decide +kernel
theorem bm_two2 {a b x y : Nat} (ha : a < 7) (hb : b < 7) (hx : x < 7) (hy : y < 7) (hne : a ≠ b) : (((1 : Int32) <<< (nI x &&& 31)) ||| ((1 : Int32) <<< (nI y &&& 31))) = (((1 : Int32) <<< (nI a &&& 31)) ||| ((1 : Int32) <<< (nI b &&& 31))) ↔ (x = a ∧ y = b) ∨ (x = b ∧ y = a) := by
  rcases bm_two2' ⟨a, ha⟩ ⟨b, hb⟩ ⟨x, hx⟩ ⟨y, hy⟩ with h | h
  · exact absurd (congrArg Fin.val h) hne
  · simp only [Fin.mk.injEq] at h
    exact h
/-! next hops and labels as ints: 7 stands for none -/
def zz_h (n : Nat) : Int32 := if n < 7 then nI n else -1
theorem zz_h1 {n : Nat} (h : n < 7) : zz_h n = nI n := if_pos h
theorem zz_h0 : zz_h 7 = -1 := rfl
theorem bm_h : ∀ n, n < 8 → (zz_h n).toInt8.toInt32 = zz_h n := by decide +kernel
theorem bm_hb {n : Nat} (h : n < 8) : vp_nar .byte (zz_h n).toInt8.toInt32 = zz_h n := by rw [pk_vb, bm_h n h]
theorem bm_hc {n : Nat} (h : n < 8) : vp_nar .byte (zz_h n) = zz_h n := by rw [vp_nar_byte, bm_h n h]
def lb_f (r d : Nat) : Nat := 16 * (r + 1) + (3 * d + r) % 7 + 1
def lb_e (r d : Nat) : Nat := 16 * r + (3 * d + r) % 7 + 1
def lb_o (n d : Nat) : Nat := if n < 7 ∧ n ≠ d then lb_f n d else 0
theorem lb_init' : ∀ r, r < 7 → ∀ d, d < 7 → ((((16 * (nI r + 1)) + (((3 * nI d) + nI r) - ((3 * nI d) + nI r) / 7 * 7)) + 1).toInt16.toInt32) = nI (lb_f r d) := by decide +kernel
theorem lb_f128 : ∀ r, r < 7 → ∀ d, d < 7 → lb_f r d < 128 := by decide +kernel
theorem lb_init {r d : Nat} (hr : r < 7) (hd : d < 7) : vp_nar .short ((((16 * (nI r + 1)) + (((3 * nI d) + nI r) - ((3 * nI d) + nI r) / 7 * 7)) + 1).toInt16.toInt32) = nI (lb_f r d) := by rw [pk_vs, lb_init' r hr d hd]
theorem lb_ent : ∀ r, r < 7 → ∀ d, d < 7 → nI r * 16 + (nI (lb_f r d) &&& 15) = nI (lb_e r d) ∧ lb_e r d < 112 ∧ ¬ nI (lb_f r d) = 0 ∧ 0 ≤ nI (lb_f r d) := by decide +kernel
theorem lb_inj {r d r' d' : Nat} (hr : r < 7) (hd : d < 7) (hr' : r' < 7) (hd' : d' < 7) (h : lb_e r d = lb_e r' d') : r = r' ∧ d = d' := by
  unfold lb_e at h
  have h1 : r = r' := by omega
  subst h1
  exact ⟨rfl, by omega⟩
theorem lb_neg : ∀ d, d < 7 → ¬ ((-1) - nI d = 0) ∧ ¬ (0 ≤ (-1) - nI d) ∧ (-1) - ((-1) - nI d) = nI d := by decide +kernel
theorem lb_o128 {n d : Nat} (hd : d < 7) : lb_o n d < 128 := by
  unfold lb_o
  by_cases h : n < 7 ∧ n ≠ d
  · rw [if_pos h]; exact lb_f128 n h.1 d hd
  · rw [if_neg h]; decide
theorem lb_o1 {n d : Nat} (h1 : n < 7) (h2 : n ≠ d) : lb_o n d = lb_f n d := if_pos ⟨h1, h2⟩
theorem lb_o0 {n d : Nat} (h : ¬ (n < 7 ∧ n ≠ d)) : lb_o n d = 0 := if_neg h
end
section
/-! ## the reference, part one: router, link, counts, lower, work -/
def zz_L (N : nn_N) (x y : Int32) : Prop := ∃ a b : Nat, a < 7 ∧ b < 7 ∧ 0 < N.1 (7 * a + b) ∧ x = nI a ∧ y = nI b
def zz_E (N : nn_N) (x y : Int32) : Prop := ∃ a b : Nat, nn_E N a b = true ∧ x = nI a ∧ y = nI b
def zz_C (N : nn_N) (x y : Int32) : Prop := ∃ s d : Nat, s < 7 ∧ d < 7 ∧ nn_T N d s < 1000 ∧ x = nI s ∧ y = nI d
def yy_R (N : nn_N) (ap al ao : Nat → Int32) : Prop := (∀ i, i < 49 → ap i = nI (N.1 i) ∧ al i = nI (N.2.1 i)) ∧ (∀ i, i < 7 → ao i = nI (N.2.2 i))
section
variable {N : nn_N} {ap al ao ad ab : Nat → Int32} {post : Int32 → Prop}
theorem yr_t {a : Nat} (ha : a < 7) (h : post 1) : wpY_router post (ap, al, ao, ad, ab) (nI a) := br_f (nI_pos (by omega)) (br_f (iz_lt7 ha) h)
theorem yr_f {x : Int32} (hx : zz_bad x) (h : post 0) : wpY_router post (ap, al, ao, ad, ab) x := by
  rcases hx with hx | hx
  · exact br_t hx h
  · exact br_f (Int32.not_lt.mpr (Int32.le_trans (show (0 : Int32) ≤ nI 7 by decide) hx)) (br_t hx h)
theorem yk_t (hK : nn_K N) (hR : yy_R N ap al ao) {a b : Nat} (ha : a < 7) (hb : b < 7) (h0 : 0 < N.1 (7 * a + b)) (h : post 1) : wpY_link post (ap, al, ao, ad, ab) (nI a) (nI b) := by
  unfold wpY_link
  refine yr_t ha (br_f iz_10 (yr_t hb (br_f iz_10 ⟨zy_in ha hb, br_f ?_ h⟩)))
  rw [zy_cl ha hb, (hR.1 _ (by omega)).1]
  exact nI_nle h0 (by have := (hK.1 a b ha hb).1; omega)
theorem yk_f (hR : yy_R N ap al ao) {x y : Int32} (hn : ¬ zz_L N x y) (h : post 0) : wpY_link post (ap, al, ao, ad, ab) x y := by
  unfold wpY_link
  rcases zz_sp x with hx | ⟨a, ha, rfl⟩
  · exact yr_f hx (br_t rfl h)
  · refine yr_t ha (br_f iz_10 ?_)
    rcases zz_sp y with hy | ⟨b, hb, rfl⟩
    · exact yr_f hy (br_t rfl h)
    · refine yr_t hb (br_f iz_10 ⟨zy_in ha hb, br_t ?_ h⟩)
      rw [zy_cl ha hb, (hR.1 _ (by omega)).1]
      have h0 : N.1 (7 * a + b) = 0 := by
        rcases Nat.eq_zero_or_pos (N.1 (7 * a + b)) with h0 | h0
        · exact h0
        · exact absurd ⟨a, b, ha, hb, h0, rfl, rfl⟩ hn
      rw [h0]
      decide
theorem yc_t (hK : nn_K N) (hR : yy_R N ap al ao) {a b : Nat} (he : nn_E N a b = true) (h : post 1) : wpY_counts post (ap, al, ao, ad, ab) (nI a) (nI b) := by
  obtain ⟨ha, hb, h0, h1, h2, h3⟩ := nn_E1.mp he
  unfold wpY_counts
  refine yk_t hK hR ha hb h0 (br_f iz_10 ⟨zy_in ha hb, br_f ?_ ⟨vp_in_nI ha (by decide), br_f ?_ ⟨vp_in_nI hb (by decide), br_f ?_ h⟩⟩⟩)
  · rw [zy_cl ha hb, (hR.1 _ (by omega)).2]
    exact nI_ne0 (by omega) (by have := (hK.1 a b ha hb).2.2.2; omega)
  · rw [nI_clamp (by omega), hR.2 a ha]
    exact nI_ne0 (by omega) (by have := (hK.2 a ha).2; omega)
  · rw [nI_clamp (by omega), hR.2 b hb]
    exact nI_ne0 (by omega) (by have := (hK.2 b hb).2; omega)
theorem yc_f (hK : nn_K N) (hR : yy_R N ap al ao) {x y : Int32} (hn : ¬ zz_E N x y) (h : post 0) : wpY_counts post (ap, al, ao, ad, ab) x y := by
  unfold wpY_counts
  by_cases hL : zz_L N x y
  · obtain ⟨a, b, ha, hb, h0, rfl, rfl⟩ := hL
    refine yk_t hK hR ha hb h0 (br_f iz_10 ⟨zy_in ha hb, ?_⟩)
    rw [zy_cl ha hb, (hR.1 _ (by omega)).2]
    refine pk_eq (N.2.1 (7 * a + b)) 0 (fun _ => h) (fun h1 => ⟨vp_in_nI ha (by decide), ?_⟩) rfl rfl (by have := (hK.1 a b ha hb).2.2.2; omega)
    rw [nI_clamp (by omega), hR.2 a ha]
    refine pk_eq (N.2.2 a) 0 (fun _ => h) (fun h2 => ⟨vp_in_nI hb (by decide), ?_⟩) rfl rfl (by have := (hK.2 a ha).2; omega)
    rw [nI_clamp (by omega), hR.2 b hb]
    refine pk_eq (N.2.2 b) 0 (fun _ => h) (fun h3 => ?_) rfl rfl (by have := (hK.2 b hb).2; omega)
    exact absurd ⟨a, b, nn_E1.mpr ⟨ha, hb, h0, h1, h2, h3⟩, rfl, rfl⟩ hn
  · exact yk_f hR hL (br_t rfl h)
theorem zz_Ef {a b : Nat} (ha : a < 7) (hb : b < 7) (h : nn_E N a b = false) : ¬ zz_E N (nI a) (nI b) := by
  intro hh
  obtain ⟨a', b', he, e1, e2⟩ := hh
  obtain ⟨ha', hb', _⟩ := nn_E1.mp he
  have e3 := zz_inj ha ha' e1
  have e4 := zz_inj hb hb' e2
  subst e3 e4
  rw [h] at he
  exact absurd he (by decide)
end
section
variable {N : nn_N} {ap al ao ad ab : Nat → Int32} {post : SY → Prop}
def yy_D (B : Nat → Nat) (ad : Nat → Int32) : Prop := ∀ i, i < 49 → ad i = nI (B i)
def yy_B (N : nn_N) (k c : Nat) (B : Nat → Nat) : Prop := bf_S (nn_T N) B ∧ bf_U (nn_T N) k B ∧ bf_D (nn_E N) (nn_w N) (nn_T N) k c B
theorem yl_low (hK : nn_K N) (hR : yy_R N ap al ao) {s r k : Nat} (hs : s < 7) (hr : r < 7) {B : Nat → Nat} (hD : yy_D B ad) (hB : yy_B N k (7 * s + r) B) (hp : ∀ ad' B', yy_D B' ad' → yy_B N k (7 * s + r + 1) B' → post (ap, al, ao, ad', ab)) : wpY_lower post (ap, al, ao, ad, ab) (nI s) (nI r) := by
  have hPP : ∀ d, d < 7 → gr_P (nn_E N) (nn_w N) (nn_o N) d (nn_T N d) := fun d hd => nn_P hK hd
  refine loop_0 (fun n i (f : Nat → Int32) => wY_lower_2 post (nI s) (nI r) n (nI i) ap al ao f ab)
    (fun i f => ∃ B', yy_D B' f ∧ yy_B N k (7 * s + r) B' ∧ (nn_E N s r = true → ∀ d, d < i → nn_T N d r < 1000 → gr_rk (nn_T N d) r ≤ k → B' (7 * s + d) ≤ nn_w N s r + nn_T N d r)) 7 ad
    ⟨B, hD, hB, fun _ d hd => absurd hd (Nat.not_lt_zero d)⟩ ?_ ?_
  · intro n f hI
    obtain ⟨B', h1, ⟨h2, h3, h4⟩, h5⟩ := hI
    refine br_t (iz_le7 (Nat.le_refl 7) (by decide)) (hp f B' h1 ⟨h2, h3, ?_⟩)
    intro s' r' d hs' hr' hd hc he ht hk
    by_cases e : 7 * s' + r' < 7 * s + r
    · exact h4 s' r' d hs' hr' hd e he ht hk
    · have e1 : s' = s := by omega
      have e2 : r' = r := by omega
      subst e1 e2
      exact h5 he d hd ht hk
  · intro n i f hi hI K
    obtain ⟨B', h1, ⟨h2, h3, h4⟩, h5⟩ := hI
    refine br_f (iz_lt7 hi) ?_
    cases he : nn_E N s r with
    | false =>
      refine yc_f hK hR (zz_Ef hs hr he) (br_t rfl (nm_r (nI_1 i) (K f ⟨B', h1, ⟨h2, h3, h4⟩, fun h => ?_⟩)))
      rw [he] at h
      exact absurd h (by decide)
    | true =>
      have b1 := (h2 s i hs hi).2
      have b2 := (h2 r i hr hi).2
      have b3 := (hK.1 s r hs hr).1
      have e1 : f (7 * nI s + nI i).toNatClampNeg = nI (B' (7 * s + i)) := by rw [zy_cl hs hi]; exact h1 _ (by omega)
      have e2 : ap (7 * nI s + nI r).toNatClampNeg + f (7 * nI r + nI i).toNatClampNeg = nI (nn_w N s r + B' (7 * r + i)) := by
        rw [zy_cl hs hr, zy_cl hr hi, h1 _ (by omega), (hR.1 _ (by omega)).1, nI_add]
        rfl
      have hw : nn_w N s r ≤ 9 := b3
      refine yc_t hK hR he (br_f iz_10 ⟨zy_in hs hr, zy_in hr hi, zy_in hs hi, ?_⟩)
      refine pk_le (B' (7 * s + i)) (nn_w N s r + B' (7 * r + i)) (fun hle => ?_) (fun hlt => ?_) e1 e2 (by omega) (by omega)
      · refine nm_r (nI_1 i) (K f ⟨B', h1, ⟨h2, h3, h4⟩, fun _ d hd ht hk => ?_⟩)
        by_cases e : d = i
        · subst e
          have := h3 r d hr hi ht hk
          omega
        · exact h5 he d (by omega) ht hk
      · refine ⟨zy_in hs hr, zy_in hr hi, zy_in hs hi, nm_r (e' := upd f (7 * s + i) (nI (nn_w N s r + B' (7 * r + i)))) (by rw [zy_cl hs hi, e2]) (nm_r (nI_1 i) (K _ ?_))⟩
        obtain ⟨l1, l2⟩ := bf_low hPP (B' := fun j => if j = 7 * s + i then nn_w N s r + B' (7 * r + i) else B' j) hs hr hi he h2 hlt (if_pos rfl) (fun j hj => if_neg hj)
        refine ⟨_, ?_, ⟨l1, fun s' d' a1 a2 a3 a4 => Nat.le_trans (l2 _) (h3 s' d' a1 a2 a3 a4), fun s' r' d' a1 a2 a3 a4 a5 a6 a7 => Nat.le_trans (l2 _) (h4 s' r' d' a1 a2 a3 a4 a5 a6 a7)⟩, fun _ d hd ht hk => ?_⟩
        · intro j hj
          show upd f (7 * s + i) (nI (nn_w N s r + B' (7 * r + i))) j = nI (if j = 7 * s + i then nn_w N s r + B' (7 * r + i) else B' j)
          by_cases e : j = 7 * s + i
          · subst e; rw [pk_us, if_pos rfl]
          · rw [pk_un e, if_neg e]; exact h1 j hj
        · by_cases e : d = i
          · subst e
            have := h3 r d hr hi ht hk
            show (if 7 * s + d = 7 * s + d then nn_w N s r + B' (7 * r + d) else B' (7 * s + d)) ≤ _
            rw [if_pos rfl]
            omega
          · exact Nat.le_trans (l2 _) (h5 he d (by omega) ht hk)
def yy_T (N : nn_N) (ad : Nat → Int32) : Prop := ∀ s d, s < 7 → d < 7 → ad (7 * s + d) = nI (nn_T N d s)
theorem yw_60 (hK : nn_K N) (hR : yy_R N ap al ao) {x1 : Int32} {k : Nat} {J : Int32 → (Nat → Int32) → (Nat → Int32) → (Nat → Int32) → (Nat → Int32) → (Nat → Int32) → Prop} {B : Nat → Nat} (hD : yy_D B ad) (hB : yy_B N k 0 B) (hp : ∀ ad' B', yy_D B' ad' → yy_B N k 49 B' → J (x1 + 1) ap al ao ad' ab) : ∃ n, wY_work_60 post J x1 n 0 ap al ao ad ab := by
  refine loop_0 (fun n i (f : Nat → Int32) => wY_work_60 post J x1 n (nI i) ap al ao f ab)
    (fun i f => ∃ B', yy_D B' f ∧ yy_B N k i B') 49 ad ⟨B, hD, hB⟩ ?_ ?_
  · intro n f hI
    obtain ⟨B', h1, h2⟩ := hI
    exact br_t (nI_le (a := 49) (Nat.le_refl 49) (by decide)) (nm_e (hp f B' h1 h2))
  · intro n i f hi hI K
    obtain ⟨B', h1, h2⟩ := hI
    refine br_f (nI_ge (b := 49) hi (by decide)) ⟨iz_7, iz_7, ?_⟩
    rw [iz_m hi, iz_d hi]
    have e : 7 * (i / 7) + i % 7 = i := by omega
    refine yl_low hK hR (s := i / 7) (r := i % 7) (k := k) (by omega) (by omega) h1 (by rw [e]; exact h2) (fun f' B2 q1 q2 => ?_)
    rw [e] at q2
    exact nm_r (nI_1 i) (K f' ⟨B2, q1, q2⟩)
theorem yw_52 (hK : nn_K N) (hR : yy_R N ap al ao) {B : Nat → Nat} (hD : yy_D B ad) (hS : bf_S (nn_T N) B) (hU : bf_U (nn_T N) 0 B) (hp : ∀ ad', yy_T N ad' → post (ap, al, ao, ad', ab)) : ∃ n, wY_work_52 post n 0 ap al ao ad ab := by
  have hPP : ∀ d, d < 7 → gr_P (nn_E N) (nn_w N) (nn_o N) d (nn_T N d) := fun d hd => nn_P hK hd
  refine loop_0 (fun n i (f : Nat → Int32) => wY_work_52 post n (nI i) ap al ao f ab)
    (fun i f => ∃ B', yy_D B' f ∧ bf_S (nn_T N) B' ∧ bf_U (nn_T N) i B') 6 ad ⟨B, hD, hS, hU⟩ ?_ ?_
  · intro n f hI
    obtain ⟨B', h1, h2, h3⟩ := hI
    refine br_t (nI_le (a := 6) (Nat.le_refl 6) (by decide)) (hp f (fun s d hs hd => ?_))
    rw [h1 _ (by omega), bf_end hPP h2 h3 s d hs hd]
  · intro n i f hi hI K
    obtain ⟨B', h1, h2, h3⟩ := hI
    refine br_f (nI_ge (b := 6) hi (by decide)) ?_
    refine yw_60 hK hR (k := i) h1 ⟨h2, h3, fun s r d _ _ _ hc => absurd hc (Nat.not_lt_zero _)⟩ (fun f' B2 q1 q2 => ?_)
    rw [nI_1]
    exact K f' ⟨B2, q1, q2.1, bf_pass (nn_G hK) hPP q2.2.1 q2.2.2⟩
theorem yw_work (hK : nn_K N) (hR : yy_R N ap al ao) (hp : ∀ ad', yy_T N ad' → post (ap, al, ao, ad', ab)) : wpY_work post (ap, al, ao, ad, ab) := by
  have hPP : ∀ d, d < 7 → gr_P (nn_E N) (nn_w N) (nn_o N) d (nn_T N d) := fun d hd => nn_P hK hd
  refine loop_0 (fun n i (f : Nat → Int32) => wY_work_2 post n (nI i) ap al ao f ab)
    (fun i f => ∀ j, j < i → f j = nI (if j / 7 = j % 7 ∧ N.2.2 (j / 7) ≠ 0 then 0 else 1000)) 49 ad (fun j hj => absurd hj (Nat.not_lt_zero j)) ?_ ?_
  · intro n f hI
    refine br_t (nI_le (a := 49) (Nat.le_refl 49) (by decide)) ?_
    obtain ⟨q1, q2⟩ := bf_0 (B := fun j => if j / 7 = j % 7 ∧ N.2.2 (j / 7) ≠ 0 then 0 else 1000) (nn_G hK) hPP
      (fun s d hs hd e ho => by
        have e1 : (7 * s + d) / 7 = s := by omega
        have e2 : (7 * s + d) % 7 = d := by omega
        show (if (7 * s + d) / 7 = (7 * s + d) % 7 ∧ N.2.2 ((7 * s + d) / 7) ≠ 0 then 0 else 1000) = 0
        rw [e1, e2, if_pos ⟨e, of_decide_eq_true ho⟩])
      (fun s d hs hd hn => by
        have e1 : (7 * s + d) / 7 = s := by omega
        have e2 : (7 * s + d) % 7 = d := by omega
        show (if (7 * s + d) / 7 = (7 * s + d) % 7 ∧ N.2.2 ((7 * s + d) / 7) ≠ 0 then 0 else 1000) = 1000
        rw [e1, e2, if_neg (fun hh => hn ⟨hh.1, decide_eq_true hh.2⟩)])
    exact yw_52 hK hR hI q1 q2 hp
  · intro n i f hi hI K
    have h7 : i / 7 < 7 := by omega
    have hon := (hK.2 (i / 7) h7).2
    have key : ∀ v : Nat, (if i / 7 = i % 7 ∧ N.2.2 (i / 7) ≠ 0 then 0 else 1000) = v → wY_work_2 post n (nI (i + 1)) ap al ao (upd f i (nI v)) ab := by
      intro v hv
      refine K _ (fun j hj => ?_)
      by_cases e : j = i
      · subst e; rw [pk_us, hv]
      · rw [pk_un e]; exact hI j (by omega)
    refine br_f (nI_ge (b := 49) hi (by decide)) ⟨iz_7, iz_7, ?_⟩
    refine pk_eq (i / 7) (i % 7) (fun e => ⟨iz_7, ?_⟩) (fun e => ⟨vp_in_nI hi (by decide), nm_r (e' := upd f i (nI 1000)) (by rw [nI_clamp (by omega)]; rfl) (nm_r (nI_1 i) (key 1000 (if_neg (fun hh => e hh.1))))⟩) (iz_d hi) (iz_m hi)
    rw [iz_d hi]
    refine ⟨vp_in_nI h7 (by decide), ?_⟩
    rw [nI_clamp (by omega), hR.2 _ h7]
    refine pk_eq (N.2.2 (i / 7)) 0 (fun e2 => ⟨vp_in_nI hi (by decide), nm_r (e' := upd f i (nI 1000)) (by rw [nI_clamp (by omega)]; rfl) (nm_r (nI_1 i) (key 1000 (if_neg (fun hh => hh.2 e2))))⟩) (fun e2 => ⟨vp_in_nI hi (by decide), nm_r (e' := upd f i (nI 0)) (by rw [nI_clamp (by omega)]; rfl) (nm_r (nI_1 i) (key 0 (if_pos ⟨e, e2⟩)))⟩) rfl rfl
end
end
section
/-! ## the reference, part two: has, hop, walk, count, passes, route -/
section
variable {N : nn_N} {ap al ao ad ab : Nat → Int32} {post : Int32 → Prop}
theorem yh_t (hT : yy_T N ad) {s d : Nat} (hs : s < 7) (hd : d < 7) (ht : nn_T N d s < 1000) (h : post 1) : wpY_has post (ap, al, ao, ad, ab) (nI s) (nI d) := by
  unfold wpY_has
  refine yr_t hs (br_f iz_10 (yr_t hd (br_f iz_10 ⟨zy_in hs hd, br_f ?_ h⟩)))
  rw [zy_cl hs hd, hT s d hs hd]
  exact nI_ge (b := 1000) ht (by decide)
theorem yh_f (hK : nn_K N) (hT : yy_T N ad) {x y : Int32} (hn : ¬ zz_C N x y) (h : post 0) : wpY_has post (ap, al, ao, ad, ab) x y := by
  unfold wpY_has
  rcases zz_sp x with hx | ⟨s, hs, rfl⟩
  · exact yr_f hx (br_t rfl h)
  · refine yr_t hs (br_f iz_10 ?_)
    rcases zz_sp y with hy | ⟨d, hd, rfl⟩
    · exact yr_f hy (br_t rfl h)
    · refine yr_t hd (br_f iz_10 ⟨zy_in hs hd, br_t ?_ h⟩)
      rw [zy_cl hs hd, hT s d hs hd]
      have h1 : ¬ nn_T N d s < 1000 := fun hh => hn ⟨s, d, hs, hd, hh, rfl, rfl⟩
      have h2 := nn_T0 hK hd (s := s)
      exact nI_le (a := 1000) (by omega) (by omega)
theorem yo_hop (hK : nn_K N) (hR : yy_R N ap al ao) (hT : yy_T N ad) {s d : Nat} (hs : s < 7) (hd : d < 7) (hne : s ≠ d) (ht : nn_T N d s < 1000) (h : post (nI (nn_h N d s))) : wpY_hop post (ap, al, ao, ad, ab) (nI s) (nI d) := by
  obtain ⟨q1, q2, q3, q4⟩ := nn_hs hK hd hne ht
  refine loop_0 (fun n i (_ : Unit) => wY_hop_2 post (nI s) (nI d) ap al ao ad ab n (nI i))
    (fun i _ => i ≤ nn_h N d s) (nn_h N d s) () (Nat.zero_le _) ?_ ?_
  · intro n _ _
    refine br_f (iz_lt7 q1) (yc_t hK hR q2 (br_f iz_10 ⟨zy_in hs q1, zy_in q1 hd, zy_in hs hd, br_t ?_ h⟩))
    rw [zy_cl hs q1, zy_cl q1 hd, zy_cl hs hd, hT _ d q1 hd, hT s d hs hd, (hR.1 _ (by omega)).1, nI_add]
    exact congrArg nI q4
  · intro n i _ hi hI K
    have hi7 : i < 7 := by omega
    refine br_f (iz_lt7 hi7) ?_
    have hp := (gr_f_sp (rt_P (nn_E N) (nn_w N) d (nn_T N d) s) 7).2.1 i hi
    cases he : nn_E N s i with
    | false => exact yc_f hK hR (zz_Ef hs hi7 he) (br_t rfl (nm_r (nI_1 i) (K () hi)))
    | true =>
      refine yc_t hK hR he (br_f iz_10 ⟨zy_in hs hi7, zy_in hi7 hd, zy_in hs hd, br_f ?_ (nm_r (nI_1 i) (K () hi))⟩)
      rw [zy_cl hs hi7, zy_cl hi7 hd, zy_cl hs hd, hT _ d hi7 hd, hT s d hs hd, (hR.1 _ (by omega)).1, nI_add]
      have b1 := (hK.1 s i hs hi7).1
      have b2 := nn_T0 hK hd (s := i)
      intro e
      have e2 : N.1 (7 * s + i) + nn_T N d i = nn_T N d s := (nI_eq (by omega) (by omega)).mp e
      have : rt_P (nn_E N) (nn_w N) d (nn_T N d) s i = true := rt_P1.mpr ⟨hne, ht, he, e2⟩
      rw [hp] at this
      exact absurd this (by decide)
theorem yv_walk (hK : nn_K N) (hR : yy_R N ap al ao) (hT : yy_T N ad) {s d : Nat} (hs : s < 7) (hd : d < 7) (ht : nn_T N d s < 1000) {x : Int32} (h : post (nI (nn_r N d s (min x.toNatClampNeg 6)))) : wpY_walk post (ap, al, ao, ad, ab) (nI s) (nI d) x := by
  refine loop_0 (fun n i (_ : Unit) => wY_walk_6 post (nI d) x ap al ao ad ab n (nI (nn_r N d s i)) (nI i))
    (fun i _ => i ≤ min x.toNatClampNeg 6) (min x.toNatClampNeg 6) () (Nat.zero_le _) ?_ ?_
  · intro n _ _
    by_cases hx : x ≤ nI (min x.toNatClampNeg 6)
    · exact br_t hx h
    · refine br_f hx (br_t ?_ h)
      rw [zz_le (by omega)] at hx
      exact nI_le (a := 6) (by omega) (by omega)
  · intro n i _ hi hI K
    obtain ⟨r1, r2⟩ := nn_in hK hs hd ht i
    refine br_f (by rw [zz_le (by omega)]; omega) (br_f (nI_ge (b := 6) (by omega) (by decide)) ?_)
    by_cases e : nn_r N d s i = d
    · refine br_t (congrArg nI e) ?_
      rw [nn_ge e hI] at h
      rw [e]
      exact h
    · refine br_f (iz_ne r1 hd e) (yo_hop hK hR hT r1 hd e r2 (nm_r (nI_1 i) ?_))
      rw [← nn_rs e]
      exact K () hi
theorem yv_count (hK : nn_K N) (hR : yy_R N ap al ao) (hT : yy_T N ad) {s d : Nat} (hs : s < 7) (hd : d < 7) (ht : nn_T N d s < 1000) (h : post (nI (nn_l N d s))) : wpY_count post (ap, al, ao, ad, ab) (nI s) (nI d) := by
  obtain ⟨l1, l2, l3⟩ := nn_ls (nn_6 hK hs hd ht)
  refine loop_0 (fun n i (_ : Unit) => wY_count_5 post (nI d) ap al ao ad ab n (nI i) (nI (nn_r N d s i)))
    (fun i _ => i ≤ nn_l N d s) (nn_l N d s) () (Nat.zero_le _) ?_ ?_
  · intro n _ _
    by_cases hx : (6 : Int32) ≤ nI (nn_l N d s)
    · exact br_t hx h
    · exact br_f hx (br_t (congrArg nI l2) h)
  · intro n i _ hi hI K
    obtain ⟨r1, r2⟩ := nn_in hK hs hd ht i
    have e := l3 i hi
    refine br_f (nI_ge (b := 6) (by omega) (by decide)) (br_f (iz_ne r1 hd e) (yo_hop hK hR hT r1 hd e r2 (nm_r (nI_1 i) ?_)))
    rw [← nn_rs e]
    exact K () hi
/-- what the reference's passes finds at place j -/
def yy_Q (N : nn_N) (d s : Nat) (x y : Int32) (j : Nat) : Prop := nI (nn_r N d s j) = x ∧ (y < 0 ∨ (j < nn_l N d s ∧ nI (nn_r N d s (j + 1)) = y))
theorem yv_passes (hK : nn_K N) (hR : yy_R N ap al ao) (hT : yy_T N ad) {s d : Nat} (hs : s < 7) (hd : d < 7) (ht : nn_T N d s < 1000) {x y : Int32} (h : post (zb (∃ j, j < nn_l N d s + 1 ∧ yy_Q N d s x y j))) : wpY_passes post (ap, al, ao, ad, ab) (nI s) (nI d) x y := by
  obtain ⟨l1, l2, l3⟩ := nn_ls (nn_6 hK hs hd ht)
  unfold wpY_passes
  refine yv_count hK hR hT hs hd ht ?_
  have h00 : zb (∃ j, j < 0 ∧ yy_Q N d s x y j) = 0 := zb_f (fun hh => by obtain ⟨j, hj, _⟩ := hh; exact absurd hj (Nat.not_lt_zero j))
  have main : ∃ n, wY_passes_14 post (nI s) (nI d) x y (nI (nn_l N d s)) ap al ao ad ab n (zb (∃ j, j < 0 ∧ yy_Q N d s x y j)) (nI 0) := by
    refine loop_0 (fun n i (_ : Unit) => wY_passes_14 post (nI s) (nI d) x y (nI (nn_l N d s)) ap al ao ad ab n (zb (∃ j, j < i ∧ yy_Q N d s x y j)) (nI i))
      (fun i _ => i ≤ nn_l N d s + 1) (nn_l N d s + 1) () (Nat.zero_le _) ?_ ?_
    · intro n _ _
      exact br_t (nI_lt (Nat.lt_succ_self _) (by omega)) ⟨zb_n _, h⟩
    · intro n i _ hi hI K
      have hw : nn_r N d s (min (nI i).toNatClampNeg 6) = nn_r N d s i := by rw [nI_clamp (by omega), Nat.min_eq_left (by omega)]
      refine br_f (nI_nlt (by omega) (by omega)) (yv_walk hK hR hT hs hd ht ?_)
      rw [hw]
      have Kt : (∃ j, j < i + 1 ∧ yy_Q N d s x y j) → ∀ z : Int32, z = nI i + 1 → wY_passes_14 post (nI s) (nI d) x y (nI (nn_l N d s)) ap al ao ad ab n 1 z := by
        intro hh
        have K1 := K () hi
        rw [zb_t hh] at K1
        exact nm_r (nI_1 i) K1
      have Kf : ¬ (∃ j, j < i + 1 ∧ yy_Q N d s x y j) → ∀ z : Int32, z = nI i + 1 → wY_passes_14 post (nI s) (nI d) x y (nI (nn_l N d s)) ap al ao ad ab n 0 z := by
        intro hh
        have K1 := K () hi
        rw [zb_f hh] at K1
        exact nm_r (nI_1 i) K1
      by_cases hf : ∃ j, j < i ∧ yy_Q N d s x y j
      · have hf2 : ∃ j, j < i + 1 ∧ yy_Q N d s x y j := by
          obtain ⟨j, hj, hq⟩ := hf
          exact ⟨j, by omega, hq⟩
        rw [zb_t hf]
        exact br_c (fun _ => br_f iz_10 (Kt hf2)) (fun _ => br_f iz_10 (Kt hf2))
      · have hn : ¬ yy_Q N d s x y i → ¬ (∃ j, j < i + 1 ∧ yy_Q N d s x y j) := by
          intro hq hh
          obtain ⟨j, hj, hq2⟩ := hh
          by_cases e : j = i
          · subst e; exact hq hq2
          · exact hf ⟨j, by omega, hq2⟩
        rw [zb_f hf]
        refine br_c (fun e1 => br_t rfl (br_f iz_10 (br_c (fun e2 => Kt ⟨i, Nat.lt_succ_self i, e1, Or.inl e2⟩) (fun e2 => ?_)))) (fun e1 => br_t rfl (br_t rfl (Kf (hn (fun hq => e1 hq.1)))))
        refine pk_le (nn_l N d s) i (fun hle => Kf (hn (fun hq => ?_))) (fun hlt => ?_) rfl rfl (by omega) (by omega)
        · rcases hq.2 with hq2 | hq2
          · exact e2 hq2
          · have := hq2.1; omega
        · rw [nI_1]
          refine yv_walk hK hR hT hs hd ht ?_
          have hw2 : nn_r N d s (min (nI (i + 1)).toNatClampNeg 6) = nn_r N d s (i + 1) := by rw [nI_clamp (by omega), Nat.min_eq_left (by omega)]
          rw [hw2]
          refine br_c (fun e3 => ?_) (fun e3 => ?_)
          · have := Kt ⟨i, Nat.lt_succ_self i, e1, Or.inr ⟨hlt, e3⟩⟩
            rw [nI_1] at this
            exact this
          · have := Kf (hn (fun hq => by
              rcases hq.2 with hq2 | hq2
              · exact e2 hq2
              · exact e3 hq2.2))
            rw [nI_1] at this
            exact this
  rw [h00] at main
  exact main
theorem yv_route (hK : nn_K N) (hR : yy_R N ap al ao) (hT : yy_T N ad) {s d : Nat} (hs : s < 7) (hd : d < 7) (h : post (nI (nn_c N d s))) : wpY_route post (ap, al, ao, ad, ab) (nI s) (nI d) := by
  unfold wpY_route
  by_cases ht : nn_T N d s < 1000
  · obtain ⟨l1, l2, l3⟩ := nn_ls (nn_6 hK hs hd ht)
    refine yh_t hT hs hd ht (br_f iz_10 (yv_count hK hR hT hs hd ht ?_))
    rw [nn_c1 ht] at h
    refine loop_0 (fun n i (_ : Unit) => wY_route_24 post (nI s) (nI d) (nI (nn_l N d s)) ap al ao ad ab n (nI (rc_c (nn_r N d s) i)) (nI i))
      (fun i _ => i ≤ nn_l N d s + 1) (nn_l N d s + 1) () (Nat.zero_le _) ?_ ?_
    · intro n _ _
      exact br_t (nI_lt (Nat.lt_succ_self _) (by omega)) h
    · intro n i _ hi hI K
      have hw : nn_r N d s (min (nI i).toNatClampNeg 6) = nn_r N d s i := by rw [nI_clamp (by omega), Nat.min_eq_left (by omega)]
      refine br_f (nI_nlt (by omega) (by omega)) (yv_walk hK hR hT hs hd ht ?_)
      rw [hw]
      refine nm_r (e' := nI (rc_c (nn_r N d s) (i + 1))) ?_ (nm_r (nI_1 i) (K () hi))
      have e : nI 8 * nI (rc_c (nn_r N d s) i) + nI (nn_r N d s i) = nI (rc_c (nn_r N d s) (i + 1)) := by rw [pk_mul, nI_add]; rfl
      exact e
  · have hn : ¬ zz_C N (nI s) (nI d) := by
      intro hh
      obtain ⟨s', d', hs', hd', ht', e1, e2⟩ := hh
      have e3 := zz_inj hs hs' e1
      have e4 := zz_inj hd hd' e2
      subst e3 e4
      exact ht ht'
    rw [nn_c0 ht] at h
    exact yh_f hK hT hn (br_t rfl h)
end
end
section
/-! ## stores into the network, and the pure answers that are folds -/
def zz_u (f : Nat → Nat) (a b v : Nat) : Nat → Nat := fun j => if j = 7 * a + b ∨ j = 7 * b + a then v else f j
theorem zz_u1 {f : Nat → Nat} {a b v j : Nat} (h : j = 7 * a + b ∨ j = 7 * b + a) : zz_u f a b v j = v := if_pos h
theorem zz_u0 {f : Nat → Nat} {a b v j : Nat} (h : ¬ (j = 7 * a + b ∨ j = 7 * b + a)) : zz_u f a b v j = f j := if_neg h
theorem zz_uu {g : Nat → Int32} {f : Nat → Nat} {a b v j : Nat} (h : g j = nI (f j)) : upd (upd g (7 * a + b) (nI v)) (7 * b + a) (nI v) j = nI (zz_u f a b v j) := by
  by_cases h1 : j = 7 * b + a
  · rw [zz_u1 (Or.inr h1), h1, pk_us]
  · rw [pk_un h1]
    by_cases h2 : j = 7 * a + b
    · rw [zz_u1 (Or.inl h2), h2, pk_us]
    · rw [pk_un h2, zz_u0 (fun hh => by rcases hh with hh | hh; exact h2 hh; exact h1 hh), h]
theorem zz_us {f : Nat → Nat} {a b v c e : Nat} (ha : a < 7) (hb : b < 7) (hc : c < 7) (he : e < 7) (h : f (7 * c + e) = f (7 * e + c)) : zz_u f a b v (7 * c + e) = zz_u f a b v (7 * e + c) := by
  by_cases h1 : 7 * c + e = 7 * a + b ∨ 7 * c + e = 7 * b + a
  · rw [zz_u1 h1, zz_u1 (by omega)]
  · rw [zz_u0 h1, zz_u0 (by omega), h]
theorem zz_ul {f : Nat → Nat} {a b v j m : Nat} (hv : v ≤ m) (h : f j ≤ m) : zz_u f a b v j ≤ m := by
  by_cases h1 : j = 7 * a + b ∨ j = 7 * b + a
  · rw [zz_u1 h1]; exact hv
  · rw [zz_u0 h1]; exact h
theorem nk_p {N : nn_N} (hK : nn_K N) {a b v : Nat} (ha : a < 7) (hb : b < 7) (hne : a ≠ b) (hv : v ≤ 9) : nn_K (zz_u N.1 a b v, N.2.1, N.2.2) := by
  refine ⟨fun c e hc he => ?_, fun c hc => ⟨?_, (hK.2 c hc).2⟩⟩
  · obtain ⟨k1, k2, k3, k4⟩ := hK.1 c e hc he
    exact ⟨zz_ul hv k1, zz_us ha hb hc he k2, k3, k4⟩
  · show zz_u N.1 a b v (7 * c + c) = 0
    rw [zz_u0 (by omega)]
    exact (hK.2 c hc).1
theorem nk_l {N : nn_N} (hK : nn_K N) {a b z : Nat} (ha : a < 7) (hb : b < 7) (hz : z ≤ 1) : nn_K (N.1, zz_u N.2.1 a b z, N.2.2) := by
  refine ⟨fun c e hc he => ?_, hK.2⟩
  obtain ⟨k1, k2, k3, k4⟩ := hK.1 c e hc he
  exact ⟨k1, k2, zz_us ha hb hc he k3, zz_ul hz k4⟩
theorem nk_o {N : nn_N} (hK : nn_K N) {a z : Nat} (hz : z ≤ 1) : nn_K (N.1, N.2.1, fun j => if j = a then z else N.2.2 j) := by
  refine ⟨hK.1, fun c hc => ⟨(hK.2 c hc).1, ?_⟩⟩
  show (if c = a then z else N.2.2 c) ≤ 1
  by_cases e : c = a
  · rw [if_pos e]; exact hz
  · rw [if_neg e]; exact (hK.2 c hc).2
theorem zz_Lne {N : nn_N} (hK : nn_K N) {a b : Nat} (ha : a < 7) (h0 : 0 < N.1 (7 * a + b)) : a ≠ b := by
  intro e
  subst e
  have := (hK.2 a ha).1
  omega
theorem zz_Cn {N : nn_N} {s d : Nat} (hs : s < 7) (hd : d < 7) (ht : ¬ nn_T N d s < 1000) : ¬ zz_C N (nI s) (nI d) := by
  intro hh
  obtain ⟨s', d', hs', hd', ht', e1, e2⟩ := hh
  have e3 := zz_inj hs hs' e1
  have e4 := zz_inj hd hd' e2
  subst e3 e4
  exact ht ht'
noncomputable def zz_rs (P : Nat → Prop) : Nat → Int32
  | 0 => 0
  | k + 1 => @ite Int32 (P k) (Classical.propDecidable (P k)) (zz_rs P k ||| ((1 : Int32) <<< (nI k &&& 31))) (zz_rs P k)
theorem zz_rst {P : Nat → Prop} {k : Nat} (h : P k) : zz_rs P (k + 1) = zz_rs P k ||| ((1 : Int32) <<< (nI k &&& 31)) := by
  show @ite Int32 (P k) (Classical.propDecidable (P k)) _ _ = _
  rw [if_pos h]
theorem zz_rsf {P : Nat → Prop} {k : Nat} (h : ¬ P k) : zz_rs P (k + 1) = zz_rs P k := by
  show @ite Int32 (P k) (Classical.propDecidable (P k)) _ _ = _
  rw [if_neg h]
def zz_mx (f : Nat → Nat) : Nat → Nat
  | 0 => 0
  | k + 1 => if f k < 1000 ∧ zz_mx f k < f k then f k else zz_mx f k
theorem zz_mx1 {f : Nat → Nat} {k : Nat} (h : f k < 1000 ∧ zz_mx f k < f k) : zz_mx f (k + 1) = f k := if_pos h
theorem zz_mx0 {f : Nat → Nat} {k : Nat} (h : ¬ (f k < 1000 ∧ zz_mx f k < f k)) : zz_mx f (k + 1) = zz_mx f k := if_neg h
theorem zz_mxb (f : Nat → Nat) : ∀ k, zz_mx f k < 1000 := by
  intro k
  induction k with
  | zero => exact Nat.zero_lt_succ 999
  | succ k ih =>
    by_cases h : f k < 1000 ∧ zz_mx f k < f k
    · rw [zz_mx1 h]; exact h.1
    · rw [zz_mx0 h]; exact ih
theorem zz_mxz {f : Nat → Nat} : ∀ k, (∀ j, j < k → ¬ f j < 1000) → zz_mx f k = 0 := by
  intro k
  induction k with
  | zero => intro _; rfl
  | succ k ih =>
    intro h
    rw [zz_mx0 (fun hh => h k (Nat.lt_succ_self k) hh.1)]
    exact ih (fun j hj => h j (by omega))
def zz_P1 (N : nn_N) (x : Int32) (c : Nat) : Prop := ∃ r, r < 7 ∧ x = nI r ∧ c / 7 ≠ c % 7 ∧ c / 7 ≠ r ∧ c % 7 ≠ r ∧ nn_T N (c % 7) (c / 7) < 1000 ∧ ∃ k, nn_r N (c % 7) (c / 7) k = r
def zz_al (N : nn_N) (a b d s : Nat) : Prop := ∃ k, nn_r N d s k ≠ d ∧ ((nn_r N d s k = a ∧ nn_r N d s (k + 1) = b) ∨ (nn_r N d s k = b ∧ nn_r N d s (k + 1) = a))
def zz_P2 (N : nn_N) (a b : Nat) (c : Nat) : Prop := c / 7 ≠ c % 7 ∧ nn_T N (c % 7) (c / 7) < 1000 ∧ zz_al N a b (c % 7) (c / 7)
def zz_P3 (N M : nn_N) (c : Nat) : Prop := nn_c M (c % 7) (c / 7) ≠ nn_c N (c % 7) (c / 7)
end
section
/-! ## the reference's methods -/
section
variable {N : nn_N} {ap al ao ad ab : Nat → Int32} {post : Int32 → SY → Prop}
theorem ym_join_t (hR : yy_R N ap al ao) {a b v : Nat} (ha : a < 7) (hb : b < 7) (hne : a ≠ b) (h1 : 1 ≤ v) (h9 : v ≤ 9) (h : ∀ ap' al', yy_R (zz_u N.1 a b v, zz_u N.2.1 a b 1, N.2.2) ap' al' ao → post 1 (ap', al', ao, ad, ab)) : wpY_join post (ap, al, ao, ad, ab) (nI a) (nI b) (nI v) := by
  unfold wpY_join
  refine br_f (iz_ne ha hb hne) (yr_t ha (br_f iz_10 (yr_t hb (br_f iz_10 (br_f (nI_nlt (b := 1) h1 (by omega)) (br_t (nI_le (b := 9) h9 (by decide)) ?_))))))
  refine ⟨zy_in ha hb, nm_r (e' := upd ap (7 * a + b) (nI v)) (by rw [zy_cl ha hb]) ⟨zy_in hb ha, nm_r (e' := upd (upd ap (7 * a + b) (nI v)) (7 * b + a) (nI v)) (by rw [zy_cl hb ha]) ⟨zy_in ha hb, nm_r (e' := upd al (7 * a + b) (nI 1)) (by rw [zy_cl ha hb]; rfl) ⟨zy_in hb ha, nm_r (e' := upd (upd al (7 * a + b) (nI 1)) (7 * b + a) (nI 1)) (by rw [zy_cl hb ha]; rfl) (h _ _ ⟨fun i hi => ⟨zz_uu (hR.1 i hi).1, zz_uu (hR.1 i hi).2⟩, hR.2⟩)⟩⟩⟩⟩
def zz_J (x y c : Int32) : Prop := ∃ a b v : Nat, a < 7 ∧ b < 7 ∧ a ≠ b ∧ 1 ≤ v ∧ v ≤ 9 ∧ x = nI a ∧ y = nI b ∧ c = nI v
theorem zz_c9 {c : Int32} (h1 : ¬ c < 1) (h9 : c ≤ 9) : ∃ v : Nat, 1 ≤ v ∧ v ≤ 9 ∧ c = nI v := by
  have h0 : ¬ c < 0 := fun hh => h1 (Int32.lt_trans hh (by decide))
  obtain ⟨v, hv, rfl⟩ := nI_of2 (M := 9) (n := 9) (by decide) h0 h9
  refine ⟨v, ?_, hv, rfl⟩
  rcases Nat.eq_zero_or_pos v with e | e
  · subst e; exact absurd (show nI 0 < 1 by decide) h1
  · exact e
theorem ym_join_f {x y c : Int32} (hn : ¬ zz_J x y c) (h : post 0 (ap, al, ao, ad, ab)) : wpY_join post (ap, al, ao, ad, ab) x y c := by
  unfold wpY_join
  refine br_c (fun _ => h) (fun hne => ?_)
  rcases zz_sp x with hx | ⟨a, ha, rfl⟩
  · exact yr_f hx (br_t rfl h)
  · refine yr_t ha (br_f iz_10 ?_)
    rcases zz_sp y with hy | ⟨b, hb, rfl⟩
    · exact yr_f hy (br_t rfl h)
    · refine yr_t hb (br_f iz_10 (br_c (fun _ => h) (fun h1 => br_c (fun h9 => ?_) (fun _ => h))))
      obtain ⟨v, v1, v9, rfl⟩ := zz_c9 h1 h9
      exact absurd ⟨a, b, v, ha, hb, fun e => hne (congrArg nI e), v1, v9, rfl, rfl, rfl⟩ hn
theorem ym_cut_t (hK : nn_K N) (hR : yy_R N ap al ao) {a b : Nat} (ha : a < 7) (hb : b < 7) (h0 : 0 < N.1 (7 * a + b)) (h : ∀ ap', yy_R (zz_u N.1 a b 0, N.2.1, N.2.2) ap' al ao → post 1 (ap', al, ao, ad, ab)) : wpY_cut post (ap, al, ao, ad, ab) (nI a) (nI b) := by
  unfold wpY_cut
  refine yk_t hK hR ha hb h0 (br_f iz_10 ⟨zy_in ha hb, nm_r (e' := upd ap (7 * a + b) (nI 0)) (by rw [zy_cl ha hb]; rfl) ⟨zy_in hb ha, nm_r (e' := upd (upd ap (7 * a + b) (nI 0)) (7 * b + a) (nI 0)) (by rw [zy_cl hb ha]; rfl) (h _ ⟨fun i hi => ⟨zz_uu (hR.1 i hi).1, (hR.1 i hi).2⟩, hR.2⟩)⟩⟩)
theorem ym_cut_f (hR : yy_R N ap al ao) {x y : Int32} (hn : ¬ zz_L N x y) (h : post 0 (ap, al, ao, ad, ab)) : wpY_cut post (ap, al, ao, ad, ab) x y := by
  unfold wpY_cut
  exact yk_f hR hn (br_t rfl h)
theorem ym_setLink_t (hK : nn_K N) (hR : yy_R N ap al ao) {a b z : Nat} (ha : a < 7) (hb : b < 7) (h0 : 0 < N.1 (7 * a + b)) (hz : z ≤ 1) (h : ∀ al', yy_R (N.1, zz_u N.2.1 a b z, N.2.2) ap al' ao → post 1 (ap, al', ao, ad, ab)) : wpY_setLink post (ap, al, ao, ad, ab) (nI a) (nI b) (nI z) := by
  have hz2 : vp_nar .boolean (nI z) = nI z := by
    rcases (show z = 0 ∨ z = 1 by omega) with e | e
    · subst e; rfl
    · subst e; rfl
  unfold wpY_setLink
  refine yk_t hK hR ha hb h0 (br_f iz_10 ⟨zy_in ha hb, nm_r (e' := upd al (7 * a + b) (nI z)) (by rw [zy_cl ha hb, hz2]) ⟨zy_in hb ha, nm_r (e' := upd (upd al (7 * a + b) (nI z)) (7 * b + a) (nI z)) (by rw [zy_cl hb ha, hz2]) (h _ ⟨fun i hi => ⟨(hR.1 i hi).1, zz_uu (hR.1 i hi).2⟩, hR.2⟩)⟩⟩)
theorem ym_setLink_f (hR : yy_R N ap al ao) {x y z : Int32} (hn : ¬ zz_L N x y) (h : post 0 (ap, al, ao, ad, ab)) : wpY_setLink post (ap, al, ao, ad, ab) x y z := by
  unfold wpY_setLink
  exact yk_f hR hn (br_t rfl h)
theorem ym_setRouter_t (hR : yy_R N ap al ao) {a z : Nat} (ha : a < 7) (hz : z ≤ 1) (h : ∀ ao', yy_R (N.1, N.2.1, fun j => if j = a then z else N.2.2 j) ap al ao' → post 1 (ap, al, ao', ad, ab)) : wpY_setRouter post (ap, al, ao, ad, ab) (nI a) (nI z) := by
  have hz2 : vp_nar .boolean (nI z) = nI z := by
    rcases (show z = 0 ∨ z = 1 by omega) with e | e
    · subst e; rfl
    · subst e; rfl
  unfold wpY_setRouter
  refine yr_t ha (br_f iz_10 ⟨vp_in_nI ha (by decide), nm_r (e' := upd ao a (nI z)) (by rw [nI_clamp (by omega), hz2]) (h _ ⟨hR.1, fun i hi => ?_⟩)⟩)
  show upd ao a (nI z) i = nI (if i = a then z else N.2.2 i)
  by_cases e : i = a
  · subst e; rw [pk_us, if_pos rfl]
  · rw [pk_un e, if_neg e]; exact hR.2 i hi
theorem ym_setRouter_f {x z : Int32} (hx : zz_bad x) (h : post 0 (ap, al, ao, ad, ab)) : wpY_setRouter post (ap, al, ao, ad, ab) x z := by
  unfold wpY_setRouter
  exact yr_f hx (br_t rfl h)
theorem ym_dist_t (hK : nn_K N) (hR : yy_R N ap al ao) {s d : Nat} (hs : s < 7) (hd : d < 7) (ht : nn_T N d s < 1000) (h : ∀ ad', post (nI (nn_T N d s)) (ap, al, ao, ad', ab)) : wpY_distance post (ap, al, ao, ad, ab) (nI s) (nI d) := by
  unfold wpY_distance
  refine yw_work hK hR (fun ad' hT => ?_)
  refine yh_t hT hs hd ht (br_f iz_10 ⟨zy_in hs hd, ?_⟩)
  rw [zy_cl hs hd, hT s d hs hd]
  exact h ad'
theorem ym_dist_f (hK : nn_K N) (hR : yy_R N ap al ao) {x y : Int32} (hn : ¬ zz_C N x y) (h : ∀ ad', post (-1) (ap, al, ao, ad', ab)) : wpY_distance post (ap, al, ao, ad, ab) x y := by
  unfold wpY_distance
  refine yw_work hK hR (fun ad' hT => ?_)
  exact yh_f hK hT hn (br_t rfl (h ad'))
theorem ym_next_t (hK : nn_K N) (hR : yy_R N ap al ao) {s d : Nat} (hs : s < 7) (hd : d < 7) (hne : s ≠ d) (ht : nn_T N d s < 1000) (h : ∀ ad', post (nI (nn_h N d s)) (ap, al, ao, ad', ab)) : wpY_nextHop post (ap, al, ao, ad, ab) (nI s) (nI d) := by
  unfold wpY_nextHop
  refine yw_work hK hR (fun ad' hT => ?_)
  exact br_f (iz_ne hs hd hne) (yh_t hT hs hd ht (br_f iz_10 (yo_hop hK hR hT hs hd hne ht (h ad'))))
theorem ym_next_f (hK : nn_K N) (hR : yy_R N ap al ao) {x y : Int32} (hn : ¬ (x ≠ y ∧ zz_C N x y)) (h : ∀ ad', post (-1) (ap, al, ao, ad', ab)) : wpY_nextHop post (ap, al, ao, ad, ab) x y := by
  unfold wpY_nextHop
  refine yw_work hK hR (fun ad' hT => ?_)
  exact br_c (fun _ => h ad') (fun e => yh_f hK hT (fun hc => hn ⟨e, hc⟩) (br_t rfl (h ad')))
theorem ym_hops_t (hK : nn_K N) (hR : yy_R N ap al ao) {s d : Nat} (hs : s < 7) (hd : d < 7) (ht : nn_T N d s < 1000) (h : ∀ ad', post (nI (nn_l N d s)) (ap, al, ao, ad', ab)) : wpY_hops post (ap, al, ao, ad, ab) (nI s) (nI d) := by
  unfold wpY_hops
  refine yw_work hK hR (fun ad' hT => ?_)
  exact yh_t hT hs hd ht (br_f iz_10 (yv_count hK hR hT hs hd ht (h ad')))
theorem ym_hops_f (hK : nn_K N) (hR : yy_R N ap al ao) {x y : Int32} (hn : ¬ zz_C N x y) (h : ∀ ad', post (-1) (ap, al, ao, ad', ab)) : wpY_hops post (ap, al, ao, ad, ab) x y := by
  unfold wpY_hops
  refine yw_work hK hR (fun ad' hT => ?_)
  exact yh_f hK hT hn (br_t rfl (h ad'))
theorem ym_routeAt_t (hK : nn_K N) (hR : yy_R N ap al ao) {s d : Nat} (hs : s < 7) (hd : d < 7) (ht : nn_T N d s < 1000) {x : Int32} (h1 : (x < 0 ∨ nI (nn_l N d s) < x) → ∀ ad', post (-1) (ap, al, ao, ad', ab)) (h2 : ¬ x < 0 → ¬ nI (nn_l N d s) < x → ∀ ad', post (nI (nn_r N d s (min x.toNatClampNeg 6))) (ap, al, ao, ad', ab)) : wpY_routeAt post (ap, al, ao, ad, ab) (nI s) (nI d) x := by
  unfold wpY_routeAt
  refine yw_work hK hR (fun ad' hT => ?_)
  refine yh_t hT hs hd ht (br_f iz_10 (br_c (fun e => h1 (Or.inl e) ad') (fun e => yv_count hK hR hT hs hd ht (br_c (fun e2 => h1 (Or.inr e2) ad') (fun e2 => yv_walk hK hR hT hs hd ht (h2 e e2 ad'))))))
theorem ym_routeAt_f (hK : nn_K N) (hR : yy_R N ap al ao) {x y z : Int32} (hn : ¬ zz_C N x y) (h : ∀ ad', post (-1) (ap, al, ao, ad', ab)) : wpY_routeAt post (ap, al, ao, ad, ab) x y z := by
  unfold wpY_routeAt
  refine yw_work hK hR (fun ad' hT => ?_)
  exact yh_f hK hT hn (br_t rfl (h ad'))
theorem ym_after_t (hK : nn_K N) (hR : yy_R N ap al ao) {s d : Nat} (hs : s < 7) (hd : d < 7) (ht : nn_T N d s < 1000) {x : Int32} (h2 : ∀ ad', post (nI (nn_r N d s (min x.toNatClampNeg 6))) (ap, al, ao, ad', ab)) : wpY_after post (ap, al, ao, ad, ab) (nI s) (nI d) x := by
  unfold wpY_after
  refine yw_work hK hR (fun ad' hT => ?_)
  exact yh_t hT hs hd ht (br_f iz_10 (yv_walk hK hR hT hs hd ht (h2 ad')))
theorem ym_after_f (hK : nn_K N) (hR : yy_R N ap al ao) {x y z : Int32} (hn : ¬ zz_C N x y) (h : ∀ ad', post (-1) (ap, al, ao, ad', ab)) : wpY_after post (ap, al, ao, ad, ab) x y z := by
  unfold wpY_after
  refine yw_work hK hR (fun ad' hT => ?_)
  exact yh_f hK hT hn (br_t rfl (h ad'))
theorem ym_reach (hK : nn_K N) (hR : yy_R N ap al ao) {x : Int32} (h : ∀ ad', post (zz_rs (fun d => nI d ≠ x ∧ zz_C N x (nI d)) 7) (ap, al, ao, ad', ab)) : wpY_reachable post (ap, al, ao, ad, ab) x := by
  unfold wpY_reachable
  refine yw_work hK hR (fun ad' hT => ?_)
  refine loop_0 (fun n i (_ : Unit) => wY_reachable_8 post x ap al ao ad' ab n (zz_rs (fun d => nI d ≠ x ∧ zz_C N x (nI d)) i) (nI i)) (fun _ _ => True) 7 () trivial ?_ ?_
  · intro n _ _
    exact br_t (iz_le7 (Nat.le_refl 7) (by decide)) (h ad')
  · intro n i _ hi _ K
    have K1 := K () trivial
    refine br_f (iz_lt7 hi) (br_c (fun e => ?_) (fun e => ?_))
    · rw [zz_rsf (fun hh => hh.1 e)] at K1
      exact nm_r Int32.or_zero (nm_r (nI_1 i) K1)
    · by_cases hc : zz_C N x (nI i)
      · rw [zz_rst ⟨e, hc⟩] at K1
        obtain ⟨s, d, hs, hd, ht, rfl, e2⟩ := hc
        rw [e2] at K1 ⊢
        have e3 := zz_inj hi hd e2
        subst e3
        exact yh_t hT hs hd ht (br_f iz_10 (nm_e (nm_r (nI_1 i) K1)))
      · rw [zz_rsf (fun hh => hc hh.2)] at K1
        exact yh_f hK hT hc (br_t rfl (nm_r Int32.or_zero (nm_r (nI_1 i) K1)))
theorem ym_far_f (hK : nn_K N) (hR : yy_R N ap al ao) {x : Int32} (hn : ∀ d, d < 7 → ¬ zz_C N x (nI d)) (h : ∀ ad', post (-1) (ap, al, ao, ad', ab)) : wpY_farthest post (ap, al, ao, ad, ab) x := by
  unfold wpY_farthest
  refine yw_work hK hR (fun ad' hT => ?_)
  refine loop_0 (fun n i (_ : Unit) => wY_farthest_8 post x ap al ao ad' ab n (-1) (nI i)) (fun _ _ => True) 7 () trivial ?_ ?_
  · intro n _ _
    exact br_t (iz_le7 (Nat.le_refl 7) (by decide)) (h ad')
  · intro n i _ hi _ K
    exact br_f (iz_lt7 hi) (yh_f hK hT (hn i hi) (br_t rfl (nm_r (nI_1 i) (K () trivial))))
theorem ym_far_t (hK : nn_K N) (hR : yy_R N ap al ao) {s : Nat} (hs : s < 7) (ht : nn_T N s s < 1000) (h : ∀ ad', post (nI (zz_mx (fun d => nn_T N d s) 7)) (ap, al, ao, ad', ab)) : wpY_farthest post (ap, al, ao, ad, ab) (nI s) := by
  unfold wpY_farthest
  refine yw_work hK hR (fun ad' hT => ?_)
  refine loop_0 (fun n i (x : Int32) => wY_farthest_8 post (nI s) ap al ao ad' ab n x (nI i)) (fun i x => (x = -1 ∧ ∀ j, j < i → ¬ nn_T N j s < 1000) ∨ (x = nI (zz_mx (fun d => nn_T N d s) i) ∧ ∃ j, j < i ∧ nn_T N j s < 1000)) 7 (-1) (Or.inl ⟨rfl, fun j hj => absurd hj (Nat.not_lt_zero j)⟩) ?_ ?_
  · intro n x hI
    refine br_t (iz_le7 (Nat.le_refl 7) (by decide)) ?_
    rcases hI with ⟨_, hI⟩ | ⟨hI, _⟩
    · exact absurd ht (hI s hs)
    · rw [hI]; exact h ad'
  · intro n i x hi hI K
    refine br_f (iz_lt7 hi) ?_
    by_cases hc : nn_T N i s < 1000
    · refine yh_t hT hs hi hc (br_f iz_10 ⟨zy_in hs hi, ?_⟩)
      rw [zy_cl hs hi, hT s i hs hi]
      rcases hI with ⟨e, hI⟩ | ⟨e, hI⟩
      · subst e
        refine br_f ?_ ⟨zy_in hs hi, nm_e (nm_r (nI_1 i) (K _ (Or.inr ⟨?_, i, Nat.lt_succ_self i, hc⟩)))⟩
        · rw [Int32.le_iff_toInt_le, nI_toInt (by omega), show (-1 : Int32).toInt = -1 from by decide]
          omega
        · have z0 := zz_mxz (f := fun d => nn_T N d s) i hI
          by_cases hz : nn_T N i s < 1000 ∧ zz_mx (fun d => nn_T N d s) i < nn_T N i s
          · rw [zz_mx1 (f := fun d => nn_T N d s) hz]
          · rw [zz_mx0 (f := fun d => nn_T N d s) hz, z0]
            exact congrArg nI (by omega)
      · subst e
        have hb := zz_mxb (fun d => nn_T N d s) i
        refine pk_le (nn_T N i s) (zz_mx (fun d => nn_T N d s) i) (fun hle => nm_r (nI_1 i) (K _ (Or.inr ⟨?_, i, Nat.lt_succ_self i, hc⟩))) (fun hlt => ⟨zy_in hs hi, nm_e (nm_r (nI_1 i) (K _ (Or.inr ⟨?_, i, Nat.lt_succ_self i, hc⟩)))⟩) rfl rfl (by omega) (by omega)
        · rw [zz_mx0 (f := fun d => nn_T N d s) (fun hh => by have := hh.2; omega)]
        · rw [zz_mx1 (f := fun d => nn_T N d s) ⟨hc, hlt⟩]
    · refine yh_f hK hT (zz_Cn hs hi hc) (br_t rfl (nm_r (nI_1 i) (K _ ?_)))
      rcases hI with ⟨e, hI⟩ | ⟨e, j, hj, hI⟩
      · refine Or.inl ⟨e, fun j hj => ?_⟩
        by_cases ej : j = i
        · subst ej; exact hc
        · exact hI j (by omega)
      · refine Or.inr ⟨?_, j, by omega, hI⟩
        rw [zz_mx0 (f := fun d => nn_T N d s) (fun hh => hc hh.1)]
        exact e
end
end
section
/-! ## the reference's sums: load, linkLoad, impact -/
theorem zq_1 {N : nn_N} (hK : nn_K N) {s d r : Nat} (hs : s < 7) (hd : d < 7) (hr : r < 7) (ht : nn_T N d s < 1000) : (∃ j, j < nn_l N d s + 1 ∧ yy_Q N d s (nI r) (-1) j) ↔ ∃ k, nn_r N d s k = r := by
  obtain ⟨l1, l2, l3⟩ := nn_ls (nn_6 hK hs hd ht)
  constructor
  · intro hh
    obtain ⟨j, hj, hq⟩ := hh
    exact ⟨j, zz_inj (nn_in hK hs hd ht j).1 hr hq.1⟩
  · intro hh
    obtain ⟨k, hk⟩ := hh
    rcases Nat.lt_or_ge k (nn_l N d s + 1) with h | h
    · exact ⟨k, h, congrArg nI hk, Or.inl (by decide)⟩
    · refine ⟨nn_l N d s, Nat.lt_succ_self _, congrArg nI ?_, Or.inl (by decide)⟩
      rw [l2, ← hk]
      exact (nn_ge l2 (by omega)).symm
theorem zq_2 {N : nn_N} (hK : nn_K N) {s d a b : Nat} (hs : s < 7) (hd : d < 7) (ha : a < 7) (hb : b < 7) (ht : nn_T N d s < 1000) : (∃ j, j < nn_l N d s + 1 ∧ yy_Q N d s (nI a) (nI b) j) ↔ ∃ k, nn_r N d s k ≠ d ∧ nn_r N d s k = a ∧ nn_r N d s (k + 1) = b := by
  have h6 := nn_6 hK hs hd ht
  constructor
  · intro hh
    obtain ⟨j, hj, hq1, hq2⟩ := hh
    rcases hq2 with hq2 | hq2
    · exact absurd hq2 (nI_pos (by omega))
    · exact ⟨j, (nn_lk h6).mp hq2.1, zz_inj (nn_in hK hs hd ht j).1 ha hq1, zz_inj (nn_in hK hs hd ht (j + 1)).1 hb hq2.2⟩
  · intro hh
    obtain ⟨k, h1, h2, h3⟩ := hh
    have h4 := (nn_lk h6).mpr h1
    exact ⟨k, by omega, congrArg nI h2, Or.inr ⟨h4, congrArg nI h3⟩⟩
section
variable {N : nn_N} {ap al ao ad ab : Nat → Int32} {post : Int32 → SY → Prop}
theorem ym_load (hK : nn_K N) (hR : yy_R N ap al ao) {x : Int32} (h : ∀ ad', post (nI (zz_n (zz_P1 N x) 49)) (ap, al, ao, ad', ab)) : wpY_load post (ap, al, ao, ad, ab) x := by
  unfold wpY_load
  refine yw_work hK hR (fun ad' hT => ?_)
  refine loop_0 (fun n i (_ : Unit) => wY_load_8 post x ap al ao ad' ab n (nI (zz_n (zz_P1 N x) i)) (nI i)) (fun _ _ => True) 49 () trivial ?_ ?_
  · intro n _ _
    exact br_t (nI_le (a := 49) (Nat.le_refl 49) (by decide)) (h ad')
  · intro n i _ hi _ K
    have K1 : wY_load_8 post x ap al ao ad' ab n (nI (zz_n (zz_P1 N x) (i + 1))) (nI (i + 1)) := K () trivial
    have k0 : ¬ zz_P1 N x i → ∀ y : Int32, y = nI (zz_n (zz_P1 N x) i) + 0 → ∀ z : Int32, z = nI i + 1 → wY_load_8 post x ap al ao ad' ab n y z := by
      intro hn
      rw [zz_n0 hn] at K1
      exact nm_r (iz_a0 _) (nm_r (nI_1 i) K1)
    have k1 : zz_P1 N x i → ∀ y : Int32, y = nI (zz_n (zz_P1 N x) i) + 1 → ∀ z : Int32, z = nI i + 1 → wY_load_8 post x ap al ao ad' ab n y z := by
      intro hn
      rw [zz_n1 hn] at K1
      exact nm_r (nI_1 _) (nm_r (nI_1 i) K1)
    have s7 : i / 7 < 7 := by omega
    have d7 : i % 7 < 7 := by omega
    refine br_f (nI_ge (b := 49) hi (by decide)) ⟨iz_7, nm_r (iz_d hi) ⟨iz_7, nm_r (iz_m hi) ?_⟩⟩
    rcases zz_sp x with hx | ⟨r, hr, rfl⟩
    · refine yr_f hx (br_t rfl (k0 (fun hh => ?_)))
      obtain ⟨r, hr, e, _⟩ := hh
      rw [e] at hx
      exact zz_nb hr hx
    · have hP : zz_P1 N (nI r) i ↔ (i / 7 ≠ i % 7 ∧ i / 7 ≠ r ∧ i % 7 ≠ r ∧ nn_T N (i % 7) (i / 7) < 1000 ∧ ∃ k, nn_r N (i % 7) (i / 7) k = r) := by
        constructor
        · intro hh
          obtain ⟨r', hr', e, hh⟩ := hh
          have e2 := zz_inj hr hr' e
          subst e2
          exact hh
        · intro hh
          exact ⟨r, hr, rfl, hh⟩
      refine yr_t hr (br_f iz_10 ?_)
      refine pk_eq (i / 7) (i % 7) (fun e => k0 (fun hh => (hP.mp hh).1 e)) (fun e1 => ?_) rfl rfl (by omega) (by omega)
      refine pk_eq (i / 7) r (fun e => k0 (fun hh => (hP.mp hh).2.1 e)) (fun e2 => ?_) rfl rfl (by omega) (by omega)
      refine pk_eq (i % 7) r (fun e => k0 (fun hh => (hP.mp hh).2.2.1 e)) (fun e3 => ?_) rfl rfl (by omega) (by omega)
      by_cases ht : nn_T N (i % 7) (i / 7) < 1000
      · refine yh_t hT s7 d7 ht (br_f iz_10 (yv_passes hK hR hT s7 d7 ht ?_))
        by_cases hq : ∃ j, j < nn_l N (i % 7) (i / 7) + 1 ∧ yy_Q N (i % 7) (i / 7) (nI r) (-1) j
        · rw [zb_t hq]
          exact br_f iz_10 (k1 (hP.mpr ⟨e1, e2, e3, ht, (zq_1 hK s7 d7 hr ht).mp hq⟩))
        · rw [zb_f hq]
          exact br_t rfl (k0 (fun hh => hq ((zq_1 hK s7 d7 hr ht).mpr (hP.mp hh).2.2.2.2)))
      · exact yh_f hK hT (zz_Cn s7 d7 ht) (br_t rfl (k0 (fun hh => ht (hP.mp hh).2.2.2.1)))
theorem ym_link_f (hK : nn_K N) (hR : yy_R N ap al ao) {x y : Int32} (hn : ¬ zz_E N x y) (h : ∀ ad', post 0 (ap, al, ao, ad', ab)) : wpY_linkLoad post (ap, al, ao, ad, ab) x y := by
  unfold wpY_linkLoad
  refine yw_work hK hR (fun ad' hT => ?_)
  exact ⟨1, br_f (by decide) (yc_f hK hR hn (br_t rfl (h ad')))⟩
theorem ym_link_t (hK : nn_K N) (hR : yy_R N ap al ao) {a b : Nat} (he : nn_E N a b = true) (h : ∀ ad', post (nI (zz_n (zz_P2 N a b) 49)) (ap, al, ao, ad', ab)) : wpY_linkLoad post (ap, al, ao, ad, ab) (nI a) (nI b) := by
  obtain ⟨ha, hb, _⟩ := nn_E1.mp he
  unfold wpY_linkLoad
  refine yw_work hK hR (fun ad' hT => ?_)
  refine loop_0 (fun n i (_ : Unit) => wY_linkLoad_9 post (nI a) (nI b) ap al ao ad' ab n (nI (zz_n (zz_P2 N a b) i)) (nI i)) (fun _ _ => True) 49 () trivial ?_ ?_
  · intro n _ _
    exact br_t (nI_le (a := 49) (Nat.le_refl 49) (by decide)) (h ad')
  · intro n i _ hi _ K
    have K1 : wY_linkLoad_9 post (nI a) (nI b) ap al ao ad' ab n (nI (zz_n (zz_P2 N a b) (i + 1))) (nI (i + 1)) := K () trivial
    have k0 : ¬ zz_P2 N a b i → ∀ y : Int32, y = nI (zz_n (zz_P2 N a b) i) + 0 → ∀ z : Int32, z = nI i + 1 → wY_linkLoad_9 post (nI a) (nI b) ap al ao ad' ab n y z := by
      intro hn
      rw [zz_n0 hn] at K1
      exact nm_r (iz_a0 _) (nm_r (nI_1 i) K1)
    have k1 : zz_P2 N a b i → ∀ y : Int32, y = nI (zz_n (zz_P2 N a b) i) + 1 → ∀ z : Int32, z = nI i + 1 → wY_linkLoad_9 post (nI a) (nI b) ap al ao ad' ab n y z := by
      intro hn
      rw [zz_n1 hn] at K1
      exact nm_r (nI_1 _) (nm_r (nI_1 i) K1)
    have s7 : i / 7 < 7 := by omega
    have d7 : i % 7 < 7 := by omega
    refine br_f (nI_ge (b := 49) hi (by decide)) (yc_t hK hR he (br_f iz_10 ⟨iz_7, nm_r (iz_d hi) ⟨iz_7, nm_r (iz_m hi) ?_⟩⟩))
    refine pk_eq (i / 7) (i % 7) (fun e => k0 (fun hh => hh.1 e)) (fun e1 => ?_) rfl rfl (by omega) (by omega)
    by_cases ht : nn_T N (i % 7) (i / 7) < 1000
    · refine yh_t hT s7 d7 ht (br_f iz_10 (yv_passes hK hR hT s7 d7 ht ?_))
      by_cases hq : ∃ j, j < nn_l N (i % 7) (i / 7) + 1 ∧ yy_Q N (i % 7) (i / 7) (nI a) (nI b) j
      · rw [zb_t hq]
        refine br_f iz_10 (k1 ⟨e1, ht, ?_⟩)
        obtain ⟨k, q1, q2, q3⟩ := (zq_2 hK s7 d7 ha hb ht).mp hq
        exact ⟨k, q1, Or.inl ⟨q2, q3⟩⟩
      · rw [zb_f hq]
        refine br_t rfl (yv_passes hK hR hT s7 d7 ht ?_)
        by_cases hq' : ∃ j, j < nn_l N (i % 7) (i / 7) + 1 ∧ yy_Q N (i % 7) (i / 7) (nI b) (nI a) j
        · rw [zb_t hq']
          refine br_f iz_10 (k1 ⟨e1, ht, ?_⟩)
          obtain ⟨k, q1, q2, q3⟩ := (zq_2 hK s7 d7 hb ha ht).mp hq'
          exact ⟨k, q1, Or.inr ⟨q2, q3⟩⟩
        · rw [zb_f hq']
          refine br_t rfl (k0 (fun hh => ?_))
          obtain ⟨_, _, k, q1, q2⟩ := hh
          rcases q2 with q2 | q2
          · exact hq ((zq_2 hK s7 d7 ha hb ht).mpr ⟨k, q1, q2.1, q2.2⟩)
          · exact hq' ((zq_2 hK s7 d7 hb ha ht).mpr ⟨k, q1, q2.1, q2.2⟩)
    · exact yh_f hK hT (zz_Cn s7 d7 ht) (br_t rfl (k0 (fun hh => ht hh.2.1)))
def yy_F (N : nn_N) (ab : Nat → Int32) : Prop := ∀ c, c < 49 → ab c = nI (nn_c N (c % 7) (c / 7))
theorem ym_imp_f (hR : yy_R N ap al ao) {x y : Int32} (hn : ¬ zz_L N x y) (h : post 0 (ap, al, ao, ad, ab)) : wpY_impact post (ap, al, ao, ad, ab) x y := by
  unfold wpY_impact
  exact yk_f hR hn (br_t rfl h)
theorem ym_imp_85 {M : nn_N} (hN : nn_K N) (hK : nn_K M) (hR : yy_R M ap al ao) (hT : yy_T M ad) (hF : yy_F N ab) {a b z : Nat} (ha : a < 7) (hb : b < 7) (h0 : 0 < M.1 (7 * a + b)) (hz : z ≤ 1) (h : ∀ al', yy_R (M.1, zz_u M.2.1 a b z, M.2.2) ap al' ao → post (nI (zz_n (zz_P3 N M) 49)) (ap, al', ao, ad, ab)) : ∃ n, wY_impact_85 post (nI a) (nI b) (nI z) ap al ao ad ab n 0 0 := by
  refine loop_0 (fun n i (_ : Unit) => wY_impact_85 post (nI a) (nI b) (nI z) ap al ao ad ab n (nI (zz_n (zz_P3 N M) i)) (nI i)) (fun _ _ => True) 49 () trivial ?_ ?_
  · intro n _ _
    exact br_t (nI_le (a := 49) (Nat.le_refl 49) (by decide)) (ym_setLink_t hK hR ha hb h0 hz h)
  · intro n i _ hi _ K
    have K1 : wY_impact_85 post (nI a) (nI b) (nI z) ap al ao ad ab n (nI (zz_n (zz_P3 N M) (i + 1))) (nI (i + 1)) := K () trivial
    have s7 : i / 7 < 7 := by omega
    have d7 : i % 7 < 7 := by omega
    refine br_f (nI_ge (b := 49) hi (by decide)) ⟨iz_7, iz_7, ?_⟩
    rw [iz_m hi, iz_d hi]
    refine yv_route hK hR hT s7 d7 ⟨vp_in_nI hi (by decide), ?_⟩
    rw [nI_clamp (by omega), hF i hi]
    have c1 := nn_cl hK s7 d7
    have c2 := nn_cl hN s7 d7
    refine pk_eq (nn_c M (i % 7) (i / 7)) (nn_c N (i % 7) (i / 7)) (fun e => ?_) (fun e => ?_) rfl rfl (by omega) (by omega)
    · rw [zz_n0 (fun hh => hh e)] at K1
      exact nm_r (iz_a0 _) (nm_r (nI_1 i) K1)
    · rw [zz_n1 (P := zz_P3 N M) e] at K1
      exact nm_r (nI_1 _) (nm_r (nI_1 i) K1)
theorem ym_imp_71 (hK : nn_K N) (hR : yy_R N ap al ao) (hF : yy_F N ab) {a b z y : Nat} (ha : a < 7) (hb : b < 7) (h0 : 0 < N.1 (7 * a + b)) (hz : z ≤ 1) (hy : y ≤ 1) (h : ∀ al' ad', yy_R (N.1, zz_u (zz_u N.2.1 a b z) a b y, N.2.2) ap al' ao → post (nI (zz_n (zz_P3 N (N.1, zz_u N.2.1 a b z, N.2.2)) 49)) (ap, al', ao, ad', ab)) : wY_impact_71 post (nI a) (nI b) (nI y) (nI z) (nI b) (nI a) ap al ao ad ab := by
  unfold wY_impact_71
  refine ym_setLink_t hK hR ha hb h0 hz (fun al' hR' => ?_)
  refine yw_work (nk_l hK ha hb hz) hR' (fun ad' hT => ?_)
  exact ym_imp_85 hK (nk_l hK ha hb hz) hR' hT hF ha hb h0 hy (fun al'' hR'' => h al'' ad' hR'')
theorem ym_imp_t (hK : nn_K N) (hR : yy_R N ap al ao) {a b z : Nat} (ha : a < 7) (hb : b < 7) (h0 : 0 < N.1 (7 * a + b)) (hz : z = 1 - N.2.1 (7 * a + b)) (h : ∀ al' ad' ab', yy_R (N.1, zz_u (zz_u N.2.1 a b z) a b (N.2.1 (7 * a + b)), N.2.2) ap al' ao → post (nI (zz_n (zz_P3 N (N.1, zz_u N.2.1 a b z, N.2.2)) 49)) (ap, al', ao, ad', ab')) : wpY_impact post (ap, al, ao, ad, ab) (nI a) (nI b) := by
  unfold wpY_impact
  refine yk_t hK hR ha hb h0 (br_f iz_10 (yw_work hK hR (fun ad' hT => ?_)))
  refine loop_0 (fun n i (f : Nat → Int32) => wY_impact_17 post (nI a) (nI b) n (nI i) ap al ao ad' f) (fun i f => ∀ c, c < i → f c = nI (nn_c N (c % 7) (c / 7))) 49 ab (fun c hc => absurd hc (Nat.not_lt_zero c)) ?_ ?_
  · intro n f hI
    have hl := (hK.1 a b ha hb).2.2.2
    refine br_t (nI_le (a := 49) (Nat.le_refl 49) (by decide)) ⟨zy_in ha hb, nm_r (e' := nI (N.2.1 (7 * a + b))) (by rw [zy_cl ha hb]; exact (hR.1 _ (by omega)).2) ?_⟩
    refine pk_eq (N.2.1 (7 * a + b)) 0 (fun e => ?_) (fun e => ?_) rfl rfl (by omega)
    · have ez : z = 1 := by omega
      subst ez
      exact ym_imp_71 hK hR hI ha hb h0 (z := 1) (by omega) hl (fun al' ad' hR' => h al' ad' f hR')
    · have ez : z = 0 := by omega
      subst ez
      exact ym_imp_71 hK hR hI ha hb h0 (z := 0) (by omega) hl (fun al' ad' hR' => h al' ad' f hR')
  · intro n i f hi hI K
    have s7 : i / 7 < 7 := by omega
    have d7 : i % 7 < 7 := by omega
    refine br_f (nI_ge (b := 49) hi (by decide)) ⟨iz_7, iz_7, ?_⟩
    rw [iz_m hi, iz_d hi]
    refine yv_route hK hR hT s7 d7 ⟨vp_in_nI hi (by decide), nm_r (e' := upd f i (nI (nn_c N (i % 7) (i / 7)))) (by rw [nI_clamp (by omega)]) (nm_r (nI_1 i) (K _ (fun c hc => ?_)))⟩
    by_cases e : c = i
    · subst e; rw [pk_us]
    · rw [pk_un e]; exact hI c (by omega)
end
end
section
/-! ## the component, part one: pairs, links, counts, nearest, measure -/
def xx_R (N : nn_N) (fr : Int32) (ac au al : Nat → Int32) : Prop := ∃ q : Nat, ∃ m : Nat → Nat, q < 128 ∧ (∀ a, a < 7 → m a < 128) ∧ fr = nI q ∧ (∀ i, i < 49 → ac i = nI (N.1 i)) ∧ (∀ a, a < 7 → au a = nI (m a)) ∧ (∀ a, a < 7 → q.testBit a = nn_o N a) ∧ (∀ a b, a < 7 → b < 7 → (m a).testBit b = (decide (0 < N.1 (7 * a + b)) && decide (N.2.1 (7 * a + b) ≠ 0))) ∧ (∀ r d, r < 7 → d < 7 → al (7 * r + d) = nI (lb_f r d))
def zz_Pr (x y : Int32) : Prop := ∃ a b : Nat, a < 7 ∧ b < 7 ∧ a ≠ b ∧ x = nI a ∧ y = nI b
section
variable {N : nn_N} {fr fk fa fl : Int32} {ac au ad ah al ol oR ap ab : Nat → Int32} {post : Int32 → Prop}
theorem xr_t {a : Nat} (ha : a < 7) (h : post 1) : wpX_isRouter post (nI a) := br_f (nI_pos (by omega)) (br_f (iz_lt7 ha) h)
theorem xr_f {x : Int32} (hx : zz_bad x) (h : post 0) : wpX_isRouter post x := by
  rcases hx with hx | hx
  · exact br_t hx h
  · exact br_f (Int32.not_lt.mpr (Int32.le_trans (show (0 : Int32) ≤ nI 7 by decide) hx)) (br_t hx h)
theorem xp_t {a b : Nat} (ha : a < 7) (hb : b < 7) (hne : a ≠ b) (h : post 1) : wpX_isPair post (nI a) (nI b) := by
  unfold wpX_isPair
  exact xr_t ha (br_f iz_10 (xr_t hb (br_f iz_10 (br_f (iz_ne ha hb hne) h))))
theorem xp_f {x y : Int32} (hn : ¬ zz_Pr x y) (h : post 0) : wpX_isPair post x y := by
  unfold wpX_isPair
  rcases zz_sp x with hx | ⟨a, ha, rfl⟩
  · exact xr_f hx (br_t rfl h)
  · refine xr_t ha (br_f iz_10 ?_)
    rcases zz_sp y with hy | ⟨b, hb, rfl⟩
    · exact xr_f hy (br_t rfl h)
    · refine xr_t hb (br_f iz_10 (br_c (fun _ => h) (fun e => ?_)))
      exact absurd ⟨a, b, ha, hb, fun e2 => e (congrArg nI e2), rfl, rfl⟩ hn
theorem xk_t (hK : nn_K N) (hR : xx_R N fr ac au al) {a b : Nat} (ha : a < 7) (hb : b < 7) (h0 : 0 < N.1 (7 * a + b)) (h : post 1) : wpX_linked post (fr, fk, fa, fl, ac, au, ad, ah, al, ol, oR, ap, ab) (nI a) (nI b) := by
  obtain ⟨q, m, r1, r2, r3, r4, r5, r6, r7, r8⟩ := hR
  unfold wpX_linked
  refine xp_t ha hb (zz_Lne hK ha h0) (br_f iz_10 ⟨zx_in ha hb, br_f ?_ h⟩)
  rw [zx_cl ha hb, r4 _ (by omega)]
  exact nI_nle h0 (by have := (hK.1 a b ha hb).1; omega)
theorem xk_f (hR : xx_R N fr ac au al) {x y : Int32} (hn : ¬ zz_L N x y) (h : post 0) : wpX_linked post (fr, fk, fa, fl, ac, au, ad, ah, al, ol, oR, ap, ab) x y := by
  obtain ⟨q, m, r1, r2, r3, r4, r5, r6, r7, r8⟩ := hR
  unfold wpX_linked
  by_cases hp : zz_Pr x y
  · obtain ⟨a, b, ha, hb, hne, rfl, rfl⟩ := hp
    refine xp_t ha hb hne (br_f iz_10 ⟨zx_in ha hb, br_t ?_ h⟩)
    rw [zx_cl ha hb, r4 _ (by omega)]
    have h0 : N.1 (7 * a + b) = 0 := by
      rcases Nat.eq_zero_or_pos (N.1 (7 * a + b)) with h0 | h0
      · exact h0
      · exact absurd ⟨a, b, ha, hb, h0, rfl, rfl⟩ hn
    rw [h0]
    decide
  · exact xp_f hp (br_t rfl h)
theorem xc_t (hR : xx_R N fr ac au al) {a b : Nat} (he : nn_E N a b = true) (h : post 1) : wpX_counts post (fr, fk, fa, fl, ac, au, ad, ah, al, ol, oR, ap, ab) (nI a) (nI b) := by
  obtain ⟨ha, hb, h0, h1, h2, h3⟩ := nn_E1.mp he
  obtain ⟨q, m, r1, r2, r3, r4, r5, r6, r7, r8⟩ := hR
  subst r3
  refine br_f ?_ (br_f iz_10 ⟨vp_in_nI ha (by decide), br_f ?_ h⟩)
  · rw [bm_two q r1 a ha b hb, r6 a ha, r6 b hb]
    unfold nn_o
    rw [decide_eq_true h2, decide_eq_true h3]
    decide
  · rw [nI_clamp (by omega), r5 a ha, bm_one _ (r2 a ha) b hb, r7 a b ha hb, decide_eq_true h0, decide_eq_true h1]
    decide
theorem xc_f (hR : xx_R N fr ac au al) {a b : Nat} (ha : a < 7) (hb : b < 7) (he : nn_E N a b = false) (h : post 0) : wpX_counts post (fr, fk, fa, fl, ac, au, ad, ah, al, ol, oR, ap, ab) (nI a) (nI b) := by
  obtain ⟨q, m, r1, r2, r3, r4, r5, r6, r7, r8⟩ := hR
  subst r3
  refine br_c (fun _ => br_t rfl h) (fun e => br_f iz_10 ⟨vp_in_nI ha (by decide), br_t ?_ h⟩)
  rw [bm_two q r1 a ha b hb, r6 a ha, r6 b hb] at e
  rw [nI_clamp (by omega), r5 a ha, bm_one _ (r2 a ha) b hb, r7 a b ha hb]
  cases hx : (decide (0 < N.1 (7 * a + b)) && decide (N.2.1 (7 * a + b) ≠ 0)) with
  | false => rfl
  | true =>
    rw [Bool.and_eq_true, decide_eq_true_eq, decide_eq_true_eq] at hx
    have e2 := (Bool.not_eq_false _).mp e
    rw [Bool.and_eq_true] at e2
    have he2 : nn_E N a b = true := nn_E1.mpr ⟨ha, hb, hx.1, hx.2, of_decide_eq_true e2.1, of_decide_eq_true e2.2⟩
    rw [he] at he2
    exact absurd he2 (by decide)
theorem xn_near {d q : Nat} {a : Nat → Nat} (hd : d < 7) (hq : q < 128) (hA : ∀ s, s < 7 → ad (7 * s + d) = nI (a s)) (hb : ∀ s, s < 7 → a s ≤ 10000) (hn : (∀ u, u < 7 → q.testBit u = false → 10000 ≤ a u) → post (-1)) (ht : ∀ b, b < 7 → q.testBit b = false → a b < 10000 → (∀ u, u < 7 → q.testBit u = false → a u < 10000 → a b ≤ a u) → post (nI b)) : wpX_nearest post (fr, fk, fa, fl, ac, au, ad, ah, al, ol, oR, ap, ab) (nI d) (nI q) := by
  refine loop_0 (fun n i (x : Int32) => wX_nearest_5 post (nI d) (nI q) fr fk fa fl ac au ad ah al ol oR ap ab n x (nI i)) (fun i x => (x = -1 ∧ ∀ u, u < i → q.testBit u = false → 10000 ≤ a u) ∨ (∃ b, x = nI b ∧ b < i ∧ q.testBit b = false ∧ a b < 10000 ∧ ∀ u, u < i → q.testBit u = false → a u < 10000 → a b ≤ a u)) 7 (-1) (Or.inl ⟨rfl, fun j hj => absurd hj (Nat.not_lt_zero j)⟩) ?_ ?_
  · intro n x hI
    refine br_t (iz_le7 (Nat.le_refl 7) (by decide)) ?_
    rcases hI with ⟨e, hI⟩ | ⟨b, e, b1, b2, b3, b4⟩
    · subst e; exact hn hI
    · subst e; exact ht b b1 b2 b3 b4
  · intro n i x hi hI K
    have hai := hb i hi
    refine br_f (iz_lt7 hi) ⟨zx_in hi hd, nm_r (e' := nI (a i)) (by rw [zx_cl hi hd]; exact hA i hi) ?_⟩
    cases hq2 : q.testBit i with
    | true =>
      refine br_f (by rw [bm_one q hq i hi, hq2]; decide) (nm_r (nI_1 i) (K x ?_))
      rcases hI with ⟨e, hI⟩ | ⟨b, e, b1, b2, b3, b4⟩
      · refine Or.inl ⟨e, fun u hu hu2 => ?_⟩
        by_cases eu : u = i
        · subst eu; rw [hq2] at hu2; exact absurd hu2 (by decide)
        · exact hI u (by omega) hu2
      · refine Or.inr ⟨b, e, by omega, b2, b3, fun u hu hu2 hu3 => ?_⟩
        by_cases eu : u = i
        · subst eu; rw [hq2] at hu2; exact absurd hu2 (by decide)
        · exact b4 u (by omega) hu2 hu3
    | false =>
      refine br_t ((bm_one q hq i hi).mpr hq2) ?_
      refine pk_le 10000 (a i) (fun hle => nm_r (nI_1 i) (K x ?_)) (fun hlt => ?_) rfl rfl (by omega) (by omega)
      · rcases hI with ⟨e, hI⟩ | ⟨b, e, b1, b2, b3, b4⟩
        · refine Or.inl ⟨e, fun u hu hu2 => ?_⟩
          by_cases eu : u = i
          · subst eu; exact hle
          · exact hI u (by omega) hu2
        · refine Or.inr ⟨b, e, by omega, b2, b3, fun u hu hu2 hu3 => ?_⟩
          by_cases eu : u = i
          · subst eu; omega
          · exact b4 u (by omega) hu2 hu3
      · rcases hI with ⟨e, hI⟩ | ⟨b, e, b1, b2, b3, b4⟩
        · subst e
          refine br_t (by decide) (nm_r (nI_1 i) (K (nI i) (Or.inr ⟨i, rfl, Nat.lt_succ_self i, hq2, hlt, fun u hu hu2 hu3 => ?_⟩)))
          by_cases eu : u = i
          · subst eu; exact Nat.le_refl _
          · have := hI u (by omega) hu2
            omega
        · subst e
          have b7 : b < 7 := by omega
          have e1 : ad (nI b * 7 + nI d).toNatClampNeg = nI (a b) := by rw [zx_cl b7 hd]; exact hA b b7
          refine br_f (nI_pos (by omega)) ⟨zx_in b7 hd, ?_⟩
          refine pk_le (a b) (a i) (fun hle => nm_r (nI_1 i) (K (nI b) (Or.inr ⟨b, rfl, by omega, b2, b3, fun u hu hu2 hu3 => ?_⟩))) (fun hgt => nm_r (nI_1 i) (K (nI i) (Or.inr ⟨i, rfl, Nat.lt_succ_self i, hq2, hlt, fun u hu hu2 hu3 => ?_⟩))) e1 rfl (by omega) (by omega)
          · by_cases eu : u = i
            · subst eu; exact hle
            · exact b4 u (by omega) hu2 hu3
          · by_cases eu : u = i
            · subst eu; exact Nat.le_refl _
            · have := b4 u (by omega) hu2 hu3
              omega
end
def xm_a (N : nn_N) (a : Nat → Nat) (m i s : Nat) : Nat := if s < i ∧ (s ≠ m ∧ nn_E N s m = true ∧ nn_w N s m + a m < a s) then nn_w N s m + a m else a s
theorem xm_a1 {N : nn_N} {a : Nat → Nat} {m i s : Nat} (h : s < i ∧ (s ≠ m ∧ nn_E N s m = true ∧ nn_w N s m + a m < a s)) : xm_a N a m i s = nn_w N s m + a m := if_pos h
theorem xm_a0 {N : nn_N} {a : Nat → Nat} {m i s : Nat} (h : ¬ (s < i ∧ (s ≠ m ∧ nn_E N s m = true ∧ nn_w N s m + a m < a s))) : xm_a N a m i s = a s := if_neg h
theorem xm_as {N : nn_N} {a : Nat → Nat} {m i s : Nat} (h : s ≠ i) : xm_a N a m (i + 1) s = xm_a N a m i s := by
  by_cases hc : s < i ∧ (s ≠ m ∧ nn_E N s m = true ∧ nn_w N s m + a m < a s)
  · rw [xm_a1 hc, xm_a1 ⟨by omega, hc.2⟩]
  · rw [xm_a0 hc, xm_a0 (fun hh => hc ⟨by omega, hh.2⟩)]
theorem xm_ai {N : nn_N} {a : Nat → Nat} {m i : Nat} : xm_a N a m i i = a i := xm_a0 (fun hh => Nat.lt_irrefl i hh.1)
theorem xm_am {N : nn_N} {a : Nat → Nat} {m i : Nat} : xm_a N a m i m = a m := xm_a0 (fun hh => hh.2.1 rfl)
section
variable {N : nn_N} {fr fk fa fl : Int32} {ac au ad ah al ol oR ap ab : Nat → Int32} {post : SX → Prop}
def xm_o (d : Nat) (f g : Nat → Int32) : Prop := ∀ s e, s < 7 → e < 7 → e ≠ d → f (7 * s + e) = g (7 * s + e)
theorem xm_ou {d s : Nat} {f g : Nat → Int32} {v : Int32} (hd : d < 7) (h : xm_o d f g) : xm_o d (upd f (7 * s + d) v) g := by
  intro s' e hs' he hne
  rw [pk_un (by omega)]
  exact h s' e hs' he hne
theorem xm_86 (hK : nn_K N) (hR : xx_R N fr ac au al) {J : Int32 → Int32 → (Nat → Int32) → (Nat → Int32) → (Nat → Int32) → (Nat → Int32) → (Nat → Int32) → (Nat → Int32) → (Nat → Int32) → (Nat → Int32) → (Nat → Int32) → Prop} {d m : Nat} {x2 x3 : Int32} {a : Nat → Nat} (hd : d < 7) (hm : m < 7) (hA : ∀ s, s < 7 → ad (7 * s + d) = nI (a s)) (hb : ∀ s, s < 7 → a s ≤ 10000) (hp : ∀ ad', (∀ s, s < 7 → ad' (7 * s + d) = nI (xm_a N a m 7 s)) → xm_o d ad' ad → J x2 (x3 + 1) ac au ad' ah al ol oR ap ab) : ∃ n, wX_measure_86 post J (nI d) x2 x3 (nI m) fr fk fa fl n 0 ac au ad ah al ol oR ap ab := by
  refine loop_0 (fun n i (f : Nat → Int32) => wX_measure_86 post J (nI d) x2 x3 (nI m) fr fk fa fl n (nI i) ac au f ah al ol oR ap ab) (fun i f => (∀ s, s < 7 → f (7 * s + d) = nI (xm_a N a m i s)) ∧ xm_o d f ad) 7 ad ⟨fun s hs => ?_, fun _ _ _ _ _ => rfl⟩ ?_ ?_
  · rw [hA s hs, xm_a0 (fun hh => absurd hh.1 (Nat.not_lt_zero s))]
  · intro n f hI
    exact br_t (iz_le7 (Nat.le_refl 7) (by decide)) (nm_e (hp f hI.1 hI.2))
  · intro n i f hi hI K
    obtain ⟨i1, i2⟩ := hI
    have hbi := hb i hi
    have hbm := hb m hm
    have hw : nn_w N i m ≤ 9 := (hK.1 i m hi hm).1
    have hac : ac (7 * i + m) = nI (nn_w N i m) := by
      obtain ⟨q, mm, r1, r2, r3, r4, _⟩ := hR
      exact r4 _ (by omega)
    have stay : ¬ (i ≠ m ∧ nn_E N i m = true ∧ nn_w N i m + a m < a i) → wX_measure_86 post J (nI d) x2 x3 (nI m) fr fk fa fl n (nI (i + 1)) ac au f ah al ol oR ap ab := by
      intro hn
      refine K f ⟨fun s hs => ?_, i2⟩
      by_cases e : s = i
      · subst e
        rw [i1 s hs, xm_ai, xm_a0 (fun hh => hn hh.2)]
      · rw [i1 s hs, xm_as e]
    refine br_f (iz_lt7 hi) ⟨zx_in hi hm, zx_in hm hd, nm_r (e' := nI (nn_w N i m + a m)) (by rw [zx_cl hi hm, zx_cl hm hd, hac, i1 m hm, xm_am, nI_add]) ?_⟩
    refine pk_eq i m (fun e => nm_r (nI_1 i) (stay (fun hh => hh.1 e))) (fun e => ?_) rfl rfl (by omega) (by omega)
    cases he : nn_E N i m with
    | false =>
      refine xc_f hR hi hm he (br_t rfl (nm_r (nI_1 i) (stay (fun hh => ?_))))
      have := hh.2.1
      rw [he] at this
      exact absurd this (by decide)
    | true =>
      have e1 : f (nI i * 7 + nI d).toNatClampNeg = nI (a i) := by rw [zx_cl hi hd, i1 i hi, xm_ai]
      refine xc_t hR he (br_f iz_10 ⟨zx_in hi hd, ?_⟩)
      refine pk_le (a i) (nn_w N i m + a m) (fun hle => nm_r (nI_1 i) (stay (fun hh => by have := hh.2.2; omega))) (fun hlt => ⟨zx_in hi hd, nm_r (e' := upd f (7 * i + d) (nI (nn_w N i m + a m))) (by rw [zx_cl hi hd]) (nm_r (nI_1 i) (K _ ⟨fun s hs => ?_, xm_ou hd i2⟩))⟩) e1 rfl (by omega) (by omega)
      by_cases es : s = i
      · subst es
        rw [pk_us, xm_a1 ⟨Nat.lt_succ_self s, e, he, hlt⟩]
      · rw [pk_un (by omega), i1 s hs, xm_as es]
theorem xm_56 (hK : nn_K N) (hR : xx_R N fr ac au al) {d : Nat} (hd : d < 7) (ho : nn_o N d = true) (hA : ∀ s, s < 7 → ad (7 * s + d) = nI (if s = d then 0 else 10000)) (hp : ∀ ad', (∀ s, s < 7 → ad' (7 * s + d) = nI (gr_x (nn_T N d s))) → xm_o d ad' ad → post (fr, fk, fa, fl, ac, au, ad', ah, al, ol, oR, ap, ab)) : ∃ n, wX_measure_56 post (nI d) fr fk fa fl n 0 0 ac au ad ah al ol oR ap ab := by
  have hG := nn_G hK
  have hPP := nn_P hK hd
  refine loop_0 (fun n i (s : Int32 × (Nat → Int32)) => wX_measure_56 post (nI d) fr fk fa fl n s.1 (nI i) ac au s.2 ah al ol oR ap ab) (fun i s => ∃ q a, s.1 = nI q ∧ q < 128 ∧ (∀ v, v < 7 → s.2 (7 * v + d) = nI (a v)) ∧ xm_o d s.2 ad ∧ dj_I (nn_E N) (nn_w N) d (nn_T N d) a (fun u => q.testBit u) ∧ i ≤ gr_c (fun u => q.testBit u) 7) 7 (0, ad) ⟨0, fun s => if s = d then 0 else 10000, rfl, by decide, hA, fun _ _ _ _ _ => rfl, ?_, Nat.zero_le _⟩ ?_ ?_
  · refine ⟨if_pos rfl, fun s hs => ?_, fun s hs h => ?_, fun s hs h => ?_, fun s r h => ?_⟩
    · show (if s = d then 0 else 10000) ≤ 10000
      by_cases e : s = d
      · rw [if_pos e]; omega
      · rw [if_neg e]; omega
    · have h' : (if s = d then 0 else 10000) < 10000 := h
      by_cases e : s = d
      · subst e
        have := hPP.2.1 ho
        exact ⟨by omega, by omega⟩
      · rw [if_neg e] at h'; omega
    · have h' : (0 : Nat).testBit s = true := h
      rw [Nat.zero_testBit] at h'
      exact absurd h' (by decide)
    · have h' : (0 : Nat).testBit r = true := h
      rw [Nat.zero_testBit] at h'
      exact absurd h' (by decide)
  · intro n s hI
    obtain ⟨q, a, e1, hq, hA2, hO, hJ, hc⟩ := hI
    refine br_t (iz_le7 (Nat.le_refl 7) (by decide)) (hp s.2 (fun v hv => ?_) hO)
    have hS := gr_c_all 7 hc v hv
    obtain ⟨t1, t2⟩ := hJ.2.2.2.1 v hv hS
    rw [hA2 v hv, t2, gr_x1 t1]
  · intro n i s hi hI K
    obtain ⟨q, a, e1, hq, hA2, hO, hJ, hc⟩ := hI
    refine br_f (iz_lt7 hi) ?_
    rw [e1]
    refine xn_near hd hq hA2 hJ.2.1 (fun hall => ?_) (fun b hb hq2 ha hmin => ?_)
    · refine br_f (by decide) (hp s.2 (fun v hv => ?_) hO)
      rw [hA2 v hv, dj_none hG hPP ho hd hJ hall v hv]
    · obtain ⟨t1, t2⟩ := dj_next hG hPP ho hd hJ hb hq2 ha hmin
      refine br_t (nI_pos' (by omega)) (nm_r (bm_set q hq b hb).1 ?_)
      refine xm_86 hK hR hd hb hA2 hJ.2.1 (fun ad' h1 h2 => ?_)
      rw [nI_1]
      refine K (nI (q ||| 2 ^ b), ad') ⟨q ||| 2 ^ b, xm_a N a b 7, rfl, (bm_set q hq b hb).2, h1, fun v e hv he hne => ?_, ?_, ?_⟩
      · exact (h2 v e hv he hne).trans (hO v e hv he hne)
      · refine dj_step hG hPP hd hJ hb t1 t2 (fun v hv hc2 => xm_a1 ⟨hv, hc2⟩) (fun v hv hc2 => xm_a0 (fun hh => hc2 hh.2)) (fun v hv => ?_)
        have hv' : (q ||| 2 ^ b).testBit v = true := hv
        rw [Nat.testBit_or, Nat.testBit_two_pow, Bool.or_eq_true, decide_eq_true_eq] at hv'
        rcases hv' with hv' | hv'
        · exact Or.inl hv'
        · exact Or.inr hv'.symm
      · have hlt : gr_c (fun u => q.testBit u) 7 < gr_c (fun u => (q ||| 2 ^ b).testBit u) 7 := by
          refine gr_c_lt 7 (fun v hv hv2 => ?_) b hb ?_ hq2
          · show (q ||| 2 ^ b).testBit v = true
            have hv3 : q.testBit v = true := hv2
            rw [Nat.testBit_or, hv3]; rfl
          · show (q ||| 2 ^ b).testBit b = true
            rw [Nat.testBit_or, Nat.testBit_two_pow, decide_eq_true rfl, Bool.or_true]
        omega
theorem xm_meas (hK : nn_K N) (hR : xx_R N fr ac au al) {d : Nat} (hd : d < 7) (hp : ∀ ad', (∀ s, s < 7 → ad' (7 * s + d) = nI (gr_x (nn_T N d s))) → xm_o d ad' ad → post (fr, fk, fa, fl, ac, au, ad', ah, al, ol, oR, ap, ab)) : wpX_measure post (fr, fk, fa, fl, ac, au, ad, ah, al, ol, oR, ap, ab) (nI d) := by
  refine loop_0 (fun n i (f : Nat → Int32) => wX_measure_2 post (nI d) fr fk fa fl n (nI i) ac au f ah al ol oR ap ab) (fun i f => (∀ s, s < i → s < 7 → f (7 * s + d) = nI 10000) ∧ xm_o d f ad) 7 ad ⟨fun s hs => absurd hs (Nat.not_lt_zero s), fun _ _ _ _ _ => rfl⟩ ?_ ?_
  · intro n f hI
    obtain ⟨i1, i2⟩ := hI
    refine br_t (iz_le7 (Nat.le_refl 7) (by decide)) ?_
    obtain ⟨q, m, r1, r2, r3, r4, r5, r6, r7, r8⟩ := id hR
    subst r3
    cases ho : nn_o N d with
    | false =>
      refine br_t (by rw [bm_one q r1 d hd, r6 d hd, ho]) (hp f (fun s hs => ?_) i2)
      rw [i1 s hs hs, (nn_P hK hd).2.2.1 ho s]
      rfl
    | true =>
      refine br_f (by rw [bm_one q r1 d hd, r6 d hd, ho]; decide) ⟨zx_in hd hd, nm_r (e' := upd f (7 * d + d) (nI 0)) (by rw [zx_cl hd hd]; rfl) ?_⟩
      refine xm_56 hK hR hd ho (fun s hs => ?_) (fun ad' h1 h2 => hp ad' h1 (fun v e hv he hne => ?_))
      · by_cases e : s = d
        · rw [e, pk_us, if_pos rfl]
        · rw [pk_un (by omega), if_neg e]; exact i1 s hs hs
      · rw [h2 v e hv he hne]
        exact xm_ou hd i2 v e hv he hne
  · intro n i f hi hI K
    obtain ⟨i1, i2⟩ := hI
    refine br_f (iz_lt7 hi) ⟨zx_in hi hd, nm_r (e' := upd f (7 * i + d) (nI 10000)) (by rw [zx_cl hi hd]; rfl) (nm_r (nI_1 i) (K _ ⟨fun s hs hs7 => ?_, xm_ou hd i2⟩))⟩
    by_cases e : s = i
    · rw [e, pk_us]
    · rw [pk_un (by omega)]; exact i1 s (by omega) hs7
end
end
section
/-! ## the component, part two: chooseHop, bind, learn, connected -/
def xx_D (N : nn_N) (ad : Nat → Int32) : Prop := ∀ s d, s < 7 → d < 7 → ad (7 * s + d) = nI (gr_x (nn_T N d s))
def xx_H (N : nn_N) (ah : Nat → Int32) : Prop := ∀ s d, s < 7 → d < 7 → ah (7 * s + d) = zz_h (nn_h N d s)
def xx_O (N : nn_N) (c : Nat) (ol oR ap : Nat → Int32) : Prop := ∀ r d, r < 7 → d < 7 → 7 * r + d < c → ol (lb_e r d) = nI (lb_o (nn_h N d r) d) ∧ oR (lb_e r d) = zz_h (nn_h N d r) ∧ ap (7 * r + d) = nI (lb_o (nn_h N d r) d)
def xx_T (N : nn_N) (ad ah ol oR ap : Nat → Int32) : Prop := xx_D N ad ∧ xx_H N ah ∧ xx_O N 49 ol oR ap
def xx_k (N : nn_N) (fk : Int32) (ad ah ol oR ap : Nat → Int32) : Prop := fk = 0 ∨ (¬ fk = 0 ∧ xx_T N ad ah ol oR ap)
section
variable {N : nn_N} {fr fk fa fl : Int32} {ac au ad ah al ol oR ap ab : Nat → Int32} {post : Int32 → Prop}
theorem xh_hop (hK : nn_K N) (hR : xx_R N fr ac au al) (hD : xx_D N ad) {s d : Nat} (hs : s < 7) (hd : d < 7) (h : post (zz_h (nn_h N d s))) : wpX_chooseHop post (fr, fk, fa, fl, ac, au, ad, ah, al, ol, oR, ap, ab) (nI s) (nI d) := by
  have hac : ∀ i, i < 7 → ac (7 * s + i) = nI (nn_w N s i) := by
    obtain ⟨q, mm, r1, r2, r3, r4, _⟩ := hR
    exact fun i hi => r4 _ (by omega)
  have hx := gr_xl (nn_T N d s)
  refine ⟨zx_in hs hd, nm_r (e' := nI (gr_x (nn_T N d s))) (by rw [zx_cl hs hd]; exact hD s d hs hd) ?_⟩
  refine loop_0 (fun n i (_ : Unit) => wX_chooseHop_15 post (nI s) (nI d) (nI (gr_x (nn_T N d s))) fr fk fa fl ac au ad ah al ol oR ap ab n (nI i)) (fun i _ => i ≤ nn_h N d s) (nn_h N d s) () (Nat.zero_le _) ?_ ?_
  · intro n _ _
    rcases nn_h8 hK hd (s := s) with h7 | h7
    · obtain ⟨p1, p2, p3, p4⟩ := rt_P1.mp ((gr_f_sp (rt_P (nn_E N) (nn_w N) d (nn_T N d) s) 7).2.2 h7)
      have p3' : nn_E N s (nn_h N d s) = true := p3
      have p4' : nn_w N s (nn_h N d s) + nn_T N d (nn_h N d s) = nn_T N d s := p4
      rw [zz_h1 h7] at h
      have hx1 := gr_x1 p2
      have hne : nn_h N d s ≠ s := fun e => nn_ne hK p3' e.symm
      refine br_f (iz_lt7 h7) (br_f (iz_ne hs hd p1) (br_f (by rw [hx1]; exact nI_ge (b := 10000) (by omega) (by decide)) (br_f (iz_ne h7 hs hne) (xc_t hR p3' (br_f iz_10 ?_)))))
      refine br_f iz_10 ⟨zx_in hs h7, zx_in h7 hd, br_t ?_ h⟩
      rw [zx_cl hs h7, zx_cl h7 hd, hac _ h7, hD _ d h7 hd, nI_add, gr_x1 (by omega), hx1, p4']
    · rw [h7] at h ⊢
      exact br_t (iz_le7 (Nat.le_refl 7) (by decide)) h
  · intro n i _ hi hI K
    have h7 : nn_h N d s ≤ 7 := by
      rcases nn_h8 hK hd (s := s) with h7 | h7 <;> omega
    have hi7 : i < 7 := by omega
    have hp := (gr_f_sp (rt_P (nn_E N) (nn_w N) d (nn_T N d) s) 7).2.1 i hi
    refine br_f (iz_lt7 hi7) ?_
    by_cases e1 : s = d
    · exact br_t (congrArg nI e1) (br_t rfl (nm_r (nI_1 i) (K () hi)))
    · refine br_f (iz_ne hs hd e1) ?_
      refine pk_le 10000 (gr_x (nn_T N d s)) (fun _ => br_t rfl (nm_r (nI_1 i) (K () hi))) (fun hlt => ?_) rfl rfl (by omega) (by omega)
      refine pk_eq i s (fun _ => br_t rfl (nm_r (nI_1 i) (K () hi))) (fun e2 => ?_) rfl rfl (by omega) (by omega)
      cases he : nn_E N s i with
      | false => exact xc_f hR hs hi7 he (br_t rfl (br_t rfl (nm_r (nI_1 i) (K () hi))))
      | true =>
        refine xc_t hR he (br_f iz_10 (br_f iz_10 ⟨zx_in hs hi7, zx_in hi7 hd, br_f ?_ (nm_r (nI_1 i) (K () hi))⟩))
        rw [zx_cl hs hi7, zx_cl hi7 hd, hac _ hi7, hD _ d hi7 hd, nI_add]
        have hw : nn_w N s i ≤ 9 := (hK.1 s i hs hi7).1
        have hx2 := gr_xl (nn_T N d i)
        intro e
        have e3 := (nI_eq (by omega) (by omega)).mp e
        have ht : nn_T N d s < 1000 := by
          by_cases ht : nn_T N d s < 1000
          · exact ht
          · rw [gr_x2 ht] at hlt; omega
        rw [gr_x1 ht] at e3
        have ht2 : nn_T N d i < 1000 := by
          by_cases ht2 : nn_T N d i < 1000
          · exact ht2
          · rw [gr_x2 ht2] at e3; omega
        rw [gr_x1 ht2] at e3
        have : rt_P (nn_E N) (nn_w N) d (nn_T N d) s i = true := rt_P1.mpr ⟨e1, ht, he, e3⟩
        rw [hp] at this
        exact absurd this (by decide)
end
section
variable {N : nn_N} {fr fk fa fl : Int32} {ac au ad ah al ol oR ap ab : Nat → Int32} {post : SX → Prop}
theorem xb_36 (hR : xx_R N fr ac au al) {r d h l : Nat} (hr : r < 7) (hd : d < 7) (hh : h < 8) (hl : l < 128) (hp : post (fr, fk, fa, fl, ac, au, ad, ah, al, upd ol (lb_e r d) (nI l), upd oR (lb_e r d) (zz_h h), upd ap (7 * r + d) (nI l), ab)) : wX_bindOne_36 post (nI r) (nI d) (zz_h h) (nI l) fr fk fa fl ac au ad ah al ol oR ap ab := by
  obtain ⟨q, m, r1, r2, r3, r4, r5, r6, r7, r8⟩ := hR
  obtain ⟨t1, t2, _⟩ := lb_ent r hr d hd
  exact ⟨zx_in hr hd, nm_r (e' := upd ap (7 * r + d) (nI l)) (by rw [zx_cl hr hd, bm_short hl]) ⟨zx_in hr hd, nm_r (e' := nI (lb_e r d)) (by rw [zx_cl hr hd, r8 r d hr hd]; exact t1) ⟨vp_in_nI t2 (by decide), nm_r (e' := upd ol (lb_e r d) (nI l)) (by rw [nI_clamp (by omega), bm_short hl]) ⟨vp_in_nI t2 (by decide), nm_r (e' := upd oR (lb_e r d) (zz_h h)) (by rw [nI_clamp (by omega), bm_hb hh]) hp⟩⟩⟩⟩
theorem xb_one (hK : nn_K N) (hR : xx_R N fr ac au al) (hH : xx_H N ah) {r d : Nat} (hr : r < 7) (hd : d < 7) (hp : post (fr, fk, fa, fl, ac, au, ad, ah, al, upd ol (lb_e r d) (nI (lb_o (nn_h N d r) d)), upd oR (lb_e r d) (zz_h (nn_h N d r)), upd ap (7 * r + d) (nI (lb_o (nn_h N d r) d)), ab)) : wpX_bindOne post (fr, fk, fa, fl, ac, au, ad, ah, al, ol, oR, ap, ab) (nI r) (nI d) := by
  refine ⟨zx_in hr hd, nm_r (e' := zz_h (nn_h N d r)) (by rw [zx_cl hr hd]; exact hH r d hr hd) ?_⟩
  rcases nn_h8 hK hd (s := r) with h7 | h7
  · have hz := zz_h1 h7
    refine br_f (by rw [hz]; exact nI_pos (by omega)) ?_
    refine pk_eq (nn_h N d r) d (fun e => ?_) (fun e => ⟨by rw [hz]; exact zx_in h7 hd, ?_⟩) hz rfl (by omega) (by omega)
    · rw [lb_o0 (fun hh => hh.2 e)] at hp
      exact xb_36 hR hr hd (by omega) (by decide) hp
    · have hal : al (zz_h (nn_h N d r) * 7 + nI d).toNatClampNeg = nI (lb_o (nn_h N d r) d) := by
        obtain ⟨q, m, r1, r2, r3, r4, r5, r6, r7, r8⟩ := hR
        rw [hz, zx_cl h7 hd, r8 _ d h7 hd, lb_o1 h7 e]
      rw [hal]
      exact xb_36 hR hr hd (by omega) (lb_o128 hd) hp
  · refine br_t (by rw [h7]; decide) ?_
    rw [lb_o0 (fun hh => by have := hh.1; omega)] at hp
    exact xb_36 hR hr hd (by omega) (by decide) hp
theorem xb_O {r d : Nat} (hr : r < 7) (hd : d < 7) (h : xx_O N (7 * r + d) ol oR ap) : xx_O N (7 * r + d + 1) (upd ol (lb_e r d) (nI (lb_o (nn_h N d r) d))) (upd oR (lb_e r d) (zz_h (nn_h N d r))) (upd ap (7 * r + d) (nI (lb_o (nn_h N d r) d))) := by
  intro r' d' hr' hd' hc
  by_cases e : r' = r ∧ d' = d
  · obtain ⟨e1, e2⟩ := e
    subst e1 e2
    rw [pk_us, pk_us, pk_us]
    exact ⟨rfl, rfl, rfl⟩
  · have hne : lb_e r' d' ≠ lb_e r d := fun hh => e (lb_inj hr' hd' hr hd hh)
    rw [pk_un hne, pk_un hne, pk_un (by omega)]
    exact h r' d' hr' hd' (by omega)
theorem xb_38 (hK : nn_K N) (hR : xx_R N fr ac au al) (hH : xx_H N ah) {J : Int32 → Int32 → Int32 → Int32 → Int32 → (Nat → Int32) → (Nat → Int32) → (Nat → Int32) → (Nat → Int32) → (Nat → Int32) → (Nat → Int32) → (Nat → Int32) → (Nat → Int32) → (Nat → Int32) → Prop} {r : Nat} (hr : r < 7) (hO : xx_O N (7 * r) ol oR ap) (hp : ∀ ol' oR' ap', xx_O N (7 * r + 7) ol' oR' ap' → J (nI r + 1) fr fk fa fl ac au ad ah al ol' oR' ap' ab) : ∃ n, wX_bind_38 post J (nI r) n 0 fr fk fa fl ac au ad ah al ol oR ap ab := by
  refine loop_0 (fun n i (s : (Nat → Int32) × (Nat → Int32) × (Nat → Int32)) => wX_bind_38 post J (nI r) n (nI i) fr fk fa fl ac au ad ah al s.1 s.2.1 s.2.2 ab) (fun i s => xx_O N (7 * r + i) s.1 s.2.1 s.2.2) 7 (ol, oR, ap) hO ?_ ?_
  · intro n s hI
    exact br_t (iz_le7 (Nat.le_refl 7) (by decide)) (nm_e (hp _ _ _ hI))
  · intro n i s hi hI K
    refine br_f (iz_lt7 hi) (xb_one hK hR hH hr hi ?_)
    exact nm_r (nI_1 i) (K (_, _, _) (xb_O hr hi hI))
theorem xb_bind (hK : nn_K N) (hR : xx_R N fr ac au al) (hH : xx_H N ah) (hp : ∀ ol' oR' ap', xx_O N 49 ol' oR' ap' → post (fr, fk, fa, fl, ac, au, ad, ah, al, ol', oR', ap', ab)) : wpX_bind post (fr, fk, fa, fl, ac, au, ad, ah, al, ol, oR, ap, ab) := by
  refine loop_0 (fun n i (s : (Nat → Int32) × (Nat → Int32)) => wX_bind_2 post fr fk fa fl n (nI i) ac au ad ah al s.1 s.2 ap ab) (fun _ _ => True) 112 (ol, oR) trivial ?_ ?_
  · intro n s _
    refine br_t (nI_le (a := 112) (Nat.le_refl 112) (by decide)) ?_
    refine loop_0 (fun n i (s : (Nat → Int32) × (Nat → Int32) × (Nat → Int32)) => wX_bind_30 post n (nI i) fr fk fa fl ac au ad ah al s.1 s.2.1 s.2.2 ab) (fun i s => xx_O N (7 * i) s.1 s.2.1 s.2.2) 7 (s.1, s.2, ap) (fun _ _ _ _ hc => absurd hc (Nat.not_lt_zero _)) ?_ ?_
    · intro n s hI
      exact br_t (iz_le7 (Nat.le_refl 7) (by decide)) (hp _ _ _ hI)
    · intro n i s hi hI K
      refine br_f (iz_lt7 hi) (xb_38 hK hR hH hi hI (fun ol' oR' ap' h => ?_))
      rw [nI_1]
      exact K (ol', oR', ap') h
  · intro n i s hi _ K
    exact br_f (nI_ge (b := 112) hi (by decide)) ⟨vp_in_nI hi (by decide), nm_e ⟨vp_in_nI hi (by decide), nm_e (nm_r (nI_1 i) (K (_, _) trivial))⟩⟩
theorem xl_34 (hK : nn_K N) (hR : xx_R N fr ac au al) (hD : xx_D N ad) (hp : ∀ ah' ol' oR' ap', xx_T N ad ah' ol' oR' ap' → post (fr, fk, fa, fl, ac, au, ad, ah', al, ol', oR', ap', ab)) : ∃ n, wX_learn_34 post fr fk fa fl n 0 ac au ad ah al ol oR ap ab := by
  refine loop_0 (fun n i (f : Nat → Int32) => wX_learn_34 post fr fk fa fl n (nI i) ac au ad f al ol oR ap ab) (fun i f => ∀ s d, s < i → s < 7 → d < 7 → f (7 * s + d) = zz_h (nn_h N d s)) 7 ah (fun s d hs => absurd hs (Nat.not_lt_zero s)) ?_ ?_
  · intro n f hI
    have hH : xx_H N f := fun s d hs hd => hI s d hs hs hd
    exact br_t (iz_le7 (Nat.le_refl 7) (by decide)) (xb_bind hK hR hH (fun ol' oR' ap' h => hp f ol' oR' ap' ⟨hD, hH, h⟩))
  · intro n i f hi hI K
    refine br_f (iz_lt7 hi) ?_
    refine loop_0 (fun m j (g : Nat → Int32) => wX_learn_42 post (wX_learn_34 post fr fk fa fl n) (nI i) fr fk fa fl m (nI j) ac au ad g al ol oR ap ab) (fun j g => (∀ s d, s < i → s < 7 → d < 7 → g (7 * s + d) = zz_h (nn_h N d s)) ∧ ∀ d, d < j → d < 7 → g (7 * i + d) = zz_h (nn_h N d i)) 7 f ⟨hI, fun d hd => absurd hd (Nat.not_lt_zero d)⟩ ?_ ?_
    · intro m g hJ
      refine br_t (iz_le7 (Nat.le_refl 7) (by decide)) (nm_r (nI_1 i) (K g (fun s d hs hs7 hd => ?_)))
      by_cases e : s = i
      · subst e; exact hJ.2 d hd hd
      · exact hJ.1 s d (by omega) hs7 hd
    · intro m j g hj hJ K2
      have h8 : nn_h N j i < 8 := by
        rcases nn_h8 hK hj (s := i) with h7 | h7 <;> omega
      refine br_f (iz_lt7 hj) (xh_hop hK hR hD hi hj ⟨zx_in hi hj, nm_r (e' := upd g (7 * i + j) (zz_h (nn_h N j i))) (by rw [zx_cl hi hj, bm_hb h8]) (nm_r (nI_1 j) (K2 _ ⟨fun s d hs hs7 hd => ?_, fun d hd hd7 => ?_⟩))⟩)
      · rw [pk_un (by omega)]; exact hJ.1 s d hs hs7 hd
      · by_cases e : d = j
        · rw [e, pk_us]
        · rw [pk_un (by omega)]; exact hJ.2 d (by omega) hd7
theorem xl_learn (hK : nn_K N) (hR : xx_R N fr ac au al) (hk : xx_k N fk ad ah ol oR ap) (hp : ∀ fk' ad' ah' ol' oR' ap', ¬ fk' = 0 → xx_T N ad' ah' ol' oR' ap' → post (fr, fk', fa, fl, ac, au, ad', ah', al, ol', oR', ap', ab)) : wpX_learn post (fr, fk, fa, fl, ac, au, ad, ah, al, ol, oR, ap, ab) := by
  rcases hk with hk | ⟨hk, hT⟩
  · refine br_t hk ?_
    refine loop_0 (fun n i (f : Nat → Int32) => wX_learn_15 post n (nI i) fr 1 fa fl ac au f ah al ol oR ap ab) (fun i f => ∀ s d, s < 7 → d < 7 → d < i → f (7 * s + d) = nI (gr_x (nn_T N d s))) 7 ad (fun s d _ _ hd => absurd hd (Nat.not_lt_zero d)) ?_ ?_
    · intro n f hI
      refine br_t (iz_le7 (Nat.le_refl 7) (by decide)) ?_
      exact xl_34 hK hR (fun s d hs hd => hI s d hs hd hd) (fun ah' ol' oR' ap' h => hp 1 f ah' ol' oR' ap' iz_10 h)
    · intro n i f hi hI K
      refine br_f (iz_lt7 hi) (xm_meas hK hR hi (fun f' h1 h2 => nm_r (nI_1 i) (K f' (fun s d hs hd hdi => ?_))))
      by_cases e : d = i
      · subst e; exact h1 s hs
      · rw [h2 s d hs hd e]; exact hI s d hs hd (by omega)
  · exact br_f hk (hp fk ad ah ol oR ap hk hT)
end
section
variable {N : nn_N} {fr fk fa fl : Int32} {ac au ad ah al ol oR ap ab : Nat → Int32} {post : Int32 → SX → Prop}
theorem xg_t (hK : nn_K N) (hR : xx_R N fr ac au al) (hk : xx_k N fk ad ah ol oR ap) {s d : Nat} (hs : s < 7) (hd : d < 7) (ht : nn_T N d s < 1000) (hp : ∀ fk' ad' ah' ol' oR' ap', ¬ fk' = 0 → xx_T N ad' ah' ol' oR' ap' → post 1 (fr, fk', fa, fl, ac, au, ad', ah', al, ol', oR', ap', ab)) : wpX_connected post (fr, fk, fa, fl, ac, au, ad, ah, al, ol, oR, ap, ab) (nI s) (nI d) := by
  unfold wpX_connected
  refine xr_t hs (br_f iz_10 (xr_t hd (br_f iz_10 (xl_learn hK hR hk (fun fk' ad' ah' ol' oR' ap' h1 h2 => ⟨zx_in hs hd, br_f ?_ (hp fk' ad' ah' ol' oR' ap' h1 h2)⟩)))))
  rw [zx_cl hs hd, h2.1 s d hs hd, gr_x1 ht]
  exact nI_ge (b := 10000) (by omega) (by decide)
theorem xg_f (hK : nn_K N) (hR : xx_R N fr ac au al) (hk : xx_k N fk ad ah ol oR ap) {x y : Int32} (hn : ¬ zz_C N x y) (hp : ∀ fk' ad' ah' ol' oR' ap', xx_k N fk' ad' ah' ol' oR' ap' → post 0 (fr, fk', fa, fl, ac, au, ad', ah', al, ol', oR', ap', ab)) : wpX_connected post (fr, fk, fa, fl, ac, au, ad, ah, al, ol, oR, ap, ab) x y := by
  unfold wpX_connected
  rcases zz_sp x with hx | ⟨s, hs, rfl⟩
  · exact xr_f hx (br_t rfl (hp _ _ _ _ _ _ hk))
  · refine xr_t hs (br_f iz_10 ?_)
    rcases zz_sp y with hy | ⟨d, hd, rfl⟩
    · exact xr_f hy (br_t rfl (hp _ _ _ _ _ _ hk))
    · refine xr_t hd (br_f iz_10 (xl_learn hK hR hk (fun fk' ad' ah' ol' oR' ap' h1 h2 => ⟨zx_in hs hd, br_t ?_ (hp fk' ad' ah' ol' oR' ap' (Or.inr ⟨h1, h2⟩))⟩)))
      rw [zx_cl hs hd, h2.1 s d hs hd, gr_x2 (fun hh => hn ⟨s, d, hs, hd, hh, rfl, rfl⟩)]
      decide
end
end
section
/-! ## the component, part three: packets -/
def xx_p (d t : Nat) (fa fl : Int32) : Prop := fa = nI t ∧ ((t = d ∧ fl = 0) ∨ (t ≠ d ∧ (fl = (-1) - nI d ∨ fl = nI (lb_f t d))))
section
variable {N : nn_N} {fr fk fa fl : Int32} {ac au ad ah al ol oR ap ab : Nat → Int32}
theorem xt_launch {post : SX → Prop} {s d : Nat} (hs : s < 7) (hd : d < 7) (hp : ∀ fa' fl', xx_p d s fa' fl' → post (fr, fk, fa', fl', ac, au, ad, ah, al, ol, oR, ap, ab)) : wpX_launch post (fr, fk, fa, fl, ac, au, ad, ah, al, ol, oR, ap, ab) (nI s) (nI d) := by
  by_cases e : s = d
  · exact br_t (congrArg nI e) (hp _ _ ⟨rfl, Or.inl ⟨e, rfl⟩⟩)
  · exact br_f (iz_ne hs hd e) (nm_e (hp _ _ ⟨rfl, Or.inr ⟨e, Or.inl rfl⟩⟩))
theorem xt_fd {post : Int32 → SX → Prop} {d t : Nat} (hP : xx_p d t fa fl) (e : t = d) (hp : post 0 (fr, fk, fa, fl, ac, au, ad, ah, al, ol, oR, ap, ab)) : wpX_forward post (fr, fk, fa, fl, ac, au, ad, ah, al, ol, oR, ap, ab) := by
  rcases hP.2 with h | h
  · exact br_t h.2 hp
  · exact absurd e h.1
theorem xt_fs (hK : nn_K N) {post : Int32 → SX → Prop} (hT : xx_T N ad ah ol oR ap) {d t : Nat} (hd : d < 7) (ht : t < 7) (hc : nn_T N d t < 1000) (hP : xx_p d t fa fl) (e : t ≠ d) (hp : ∀ fa' fl', xx_p d (nn_h N d t) fa' fl' → post 1 (fr, fk, fa', fl', ac, au, ad, ah, al, ol, oR, ap, ab)) : wpX_forward post (fr, fk, fa, fl, ac, au, ad, ah, al, ol, oR, ap, ab) := by
  obtain ⟨q1, q2, q3, q4⟩ := nn_hs hK hd e hc
  obtain ⟨d1, d2, d3⟩ := hT
  obtain ⟨o1, o2, o3⟩ := d3 t d ht hd (by omega)
  have hn : xx_p d (nn_h N d t) (nI (nn_h N d t)) (nI (lb_o (nn_h N d t) d)) := by
    refine ⟨rfl, ?_⟩
    by_cases e2 : nn_h N d t = d
    · exact Or.inl ⟨e2, by rw [lb_o0 (fun hh => hh.2 e2)]; rfl⟩
    · exact Or.inr ⟨e2, Or.inr (by rw [lb_o1 q1 e2])⟩
  have hz := zz_h1 q1
  obtain ⟨e1, h⟩ := hP
  subst e1
  rcases h with h | ⟨_, h | h⟩
  · exact absurd h.1 e
  · subst h
    obtain ⟨n1, n2, n3⟩ := lb_neg d hd
    refine br_f n1 (br_f n2 (nm_r n3 ⟨zx_in ht hd, nm_r (e' := nI (lb_o (nn_h N d t) d)) (by rw [zx_cl ht hd]; exact o3) ⟨zx_in ht hd, nm_r (e' := nI (nn_h N d t)) (by rw [zx_cl ht hd, d2 t d ht hd]; exact hz) (hp _ _ hn)⟩⟩))
  · subst h
    obtain ⟨t1, t2, t3, t4⟩ := lb_ent t ht d hd
    refine br_f t3 (br_t t4 (nm_r t1 ⟨vp_in_nI t2 (by decide), nm_r (e' := nI (lb_o (nn_h N d t) d)) (by rw [nI_clamp (by omega)]; exact o1) ⟨vp_in_nI t2 (by decide), nm_r (e' := nI (nn_h N d t)) (by rw [nI_clamp (by omega), o2]; exact hz) (hp _ _ hn)⟩⟩))
variable {post : Int32 → SX → Prop}
theorem xh_hops_t (hK : nn_K N) (hR : xx_R N fr ac au al) (hk : xx_k N fk ad ah ol oR ap) {s d : Nat} (hs : s < 7) (hd : d < 7) (hc : nn_T N d s < 1000) (hp : ∀ fk' fa' fl' ad' ah' ol' oR' ap', ¬ fk' = 0 → xx_T N ad' ah' ol' oR' ap' → post (nI (nn_l N d s)) (fr, fk', fa', fl', ac, au, ad', ah', al, ol', oR', ap', ab)) : wpX_hops post (fr, fk, fa, fl, ac, au, ad, ah, al, ol, oR, ap, ab) (nI s) (nI d) := by
  obtain ⟨l1, l2, l3⟩ := nn_ls (nn_6 hK hs hd hc)
  unfold wpX_hops
  refine xg_t hK hR hk hs hd hc (fun fk' ad' ah' ol' oR' ap' h1 hT => br_f iz_10 (xt_launch hs hd (fun fa' fl' hP => ?_)))
  refine loop_0 (fun n i (z : Int32 × Int32) => wX_hops_22 post n (nI i) (nI i) fr fk' z.1 z.2 ac au ad' ah' al ol' oR' ap' ab) (fun i z => xx_p d (nn_r N d s i) z.1 z.2) (nn_l N d s) (fa', fl') hP ?_ ?_
  · intro n z hI
    exact br_f (iz_lt7 (by omega)) (xt_fd hI l2 (br_t rfl (hp _ _ _ _ _ _ _ _ h1 hT)))
  · intro n i z hi hI K
    obtain ⟨r1, r2⟩ := nn_in hK hs hd hc i
    have e := l3 i hi
    refine br_f (iz_lt7 (by omega)) (xt_fs hK hT hd r1 r2 hI e (fun fa2 fl2 hP2 => br_f iz_10 (nm_r (nI_1 i) (nm_r (nI_1 i) (K (fa2, fl2) ?_)))))
    rw [nn_rs e]
    exact hP2
theorem xh_hops_f (hK : nn_K N) (hR : xx_R N fr ac au al) (hk : xx_k N fk ad ah ol oR ap) {x y : Int32} (hn : ¬ zz_C N x y) (hp : ∀ fk' ad' ah' ol' oR' ap', xx_k N fk' ad' ah' ol' oR' ap' → post (-1) (fr, fk', fa, fl, ac, au, ad', ah', al, ol', oR', ap', ab)) : wpX_hops post (fr, fk, fa, fl, ac, au, ad, ah, al, ol, oR, ap, ab) x y := by
  unfold wpX_hops
  exact xg_f hK hR hk hn (fun fk' ad' ah' ol' oR' ap' h => br_t rfl (hp _ _ _ _ _ _ h))
theorem xh_after_t (hK : nn_K N) (hR : xx_R N fr ac au al) (hk : xx_k N fk ad ah ol oR ap) {s d : Nat} {x : Int32} (hs : s < 7) (hd : d < 7) (hc : nn_T N d s < 1000) (hp : ∀ fk' fa' fl' ad' ah' ol' oR' ap', ¬ fk' = 0 → xx_T N ad' ah' ol' oR' ap' → post (nI (nn_r N d s (min x.toNatClampNeg 6))) (fr, fk', fa', fl', ac, au, ad', ah', al, ol', oR', ap', ab)) : wpX_after post (fr, fk, fa, fl, ac, au, ad, ah, al, ol, oR, ap, ab) (nI s) (nI d) x := by
  have h67 : nn_r N d s (min x.toNatClampNeg 7) = nn_r N d s (min x.toNatClampNeg 6) := by
    by_cases hx : x.toNatClampNeg ≤ 6
    · rw [Nat.min_eq_left hx, Nat.min_eq_left (by omega)]
    · have h6 := nn_6 hK hs hd hc
      rw [nn_ge h6 (by omega), nn_ge h6 (by omega)]
  unfold wpX_after
  refine xg_t hK hR hk hs hd hc (fun fk' ad' ah' ol' oR' ap' h1 hT => br_f iz_10 (xt_launch hs hd (fun fa' fl' hP => ?_)))
  refine loop_0 (fun n i (z : Int32 × Int32) => wX_after_20 post x n (nI i) fr fk' z.1 z.2 ac au ad' ah' al ol' oR' ap' ab) (fun i z => xx_p d (nn_r N d s i) z.1 z.2) (min x.toNatClampNeg 7) (fa', fl') hP ?_ ?_
  · intro n z hI
    have hq : post z.1 (fr, fk', z.1, z.2, ac, au, ad', ah', al, ol', oR', ap', ab) := by
      have := hp fk' z.1 z.2 ad' ah' ol' oR' ap' h1 hT
      rw [← h67, ← hI.1] at this
      exact this
    by_cases h7 : (7 : Int32) ≤ nI (min x.toNatClampNeg 7)
    · exact br_t h7 hq
    · refine br_f h7 (br_t ?_ hq)
      rw [zz_le (by omega)]
      have h7' : ¬ 7 ≤ min x.toNatClampNeg 7 := fun hh => h7 (iz_le7 hh (by omega))
      omega
  · intro n i z hi hI K
    obtain ⟨r1, r2⟩ := nn_in hK hs hd hc i
    refine br_f (iz_lt7 (by omega)) (br_f (by rw [zz_le (by omega)]; omega) ?_)
    by_cases e : nn_r N d s i = d
    · refine xt_fd hI e (nm_r (nI_1 i) (K (z.1, z.2) ?_))
      rw [nn_rd e]
      rw [e] at hI
      exact hI
    · refine xt_fs hK hT hd r1 r2 hI e (fun fa2 fl2 hP2 => nm_r (nI_1 i) (K (fa2, fl2) ?_))
      rw [nn_rs e]
      exact hP2
theorem xh_after_f (hK : nn_K N) (hR : xx_R N fr ac au al) (hk : xx_k N fk ad ah ol oR ap) {x y z : Int32} (hn : ¬ zz_C N x y) (hp : ∀ fk' ad' ah' ol' oR' ap', xx_k N fk' ad' ah' ol' oR' ap' → post (-1) (fr, fk', fa, fl, ac, au, ad', ah', al, ol', oR', ap', ab)) : wpX_after post (fr, fk, fa, fl, ac, au, ad, ah, al, ol, oR, ap, ab) x y z := by
  unfold wpX_after
  exact xg_f hK hR hk hn (fun fk' ad' ah' ol' oR' ap' h => br_t rfl (hp _ _ _ _ _ _ h))
theorem xh_routeAt_t (hK : nn_K N) (hR : xx_R N fr ac au al) (hk : xx_k N fk ad ah ol oR ap) {s d : Nat} {x : Int32} (hs : s < 7) (hd : d < 7) (hc : nn_T N d s < 1000) (hp1 : (x < 0 ∨ nI (nn_l N d s) < x) → ∀ fk' fa' fl' ad' ah' ol' oR' ap', ¬ fk' = 0 → xx_T N ad' ah' ol' oR' ap' → post (-1) (fr, fk', fa', fl', ac, au, ad', ah', al, ol', oR', ap', ab)) (hp2 : ¬ x < 0 → ¬ nI (nn_l N d s) < x → ∀ fk' fa' fl' ad' ah' ol' oR' ap', ¬ fk' = 0 → xx_T N ad' ah' ol' oR' ap' → post (nI (nn_r N d s (min x.toNatClampNeg 6))) (fr, fk', fa', fl', ac, au, ad', ah', al, ol', oR', ap', ab)) : wpX_routeAt post (fr, fk, fa, fl, ac, au, ad, ah, al, ol, oR, ap, ab) (nI s) (nI d) x := by
  obtain ⟨l1, l2, l3⟩ := nn_ls (nn_6 hK hs hd hc)
  unfold wpX_routeAt
  refine xh_hops_t hK hR hk hs hd hc (fun fk' fa' fl' ad' ah' ol' oR' ap' h1 hT => br_f (nI_pos (by omega)) (br_c (fun e => hp1 (Or.inl e) _ _ _ _ _ _ _ _ h1 hT) (fun e => br_c (fun e2 => ?_) (fun e2 => hp1 (Or.inr (Int32.not_le.mp e2)) _ _ _ _ _ _ _ _ h1 hT))))
  exact xh_after_t hK hR (Or.inr ⟨h1, hT⟩) hs hd hc (fun fk2 fa2 fl2 ad2 ah2 ol2 oR2 ap2 h2 hT2 => hp2 e (Int32.not_lt.mpr e2) _ _ _ _ _ _ _ _ h2 hT2)
theorem xh_routeAt_f (hK : nn_K N) (hR : xx_R N fr ac au al) (hk : xx_k N fk ad ah ol oR ap) {x y z : Int32} (hn : ¬ zz_C N x y) (hp : ∀ fk' ad' ah' ol' oR' ap', xx_k N fk' ad' ah' ol' oR' ap' → post (-1) (fr, fk', fa, fl, ac, au, ad', ah', al, ol', oR', ap', ab)) : wpX_routeAt post (fr, fk, fa, fl, ac, au, ad, ah, al, ol, oR, ap, ab) x y z := by
  unfold wpX_routeAt
  exact xh_hops_f hK hR hk hn (fun fk' ad' ah' ol' oR' ap' h => br_t (by decide) (hp _ _ _ _ _ _ h))
theorem xt_comes (hK : nn_K N) (hT : xx_T N ad ah ol oR ap) {s d r : Nat} (hs : s < 7) (hd : d < 7) (hr : r < 7) (hc : nn_T N d s < 1000) (hsr : s ≠ r) (hp : ∀ fa' fl', post (zb (∃ k, nn_r N d s k = r)) (fr, fk, fa', fl', ac, au, ad, ah, al, ol, oR, ap, ab)) : wpX_comesThrough post (fr, fk, fa, fl, ac, au, ad, ah, al, ol, oR, ap, ab) (nI s) (nI d) (nI r) := by
  obtain ⟨l1, l2, l3⟩ := nn_ls (nn_6 hK hs hd hc)
  unfold wpX_comesThrough
  refine xt_launch hs hd (fun fa' fl' hP => ?_)
  refine loop_0 (fun n i (z : Int32 × Int32) => wX_comesThrough_9 post (nI r) n (nI i) fr fk z.1 z.2 ac au ad ah al ol oR ap ab) (fun i z => xx_p d (nn_r N d s i) z.1 z.2 ∧ ∀ j, j < i + 1 → nn_r N d s j ≠ r) (nn_l N d s) (fa', fl') ⟨hP, fun j hj => ?_⟩ ?_ ?_
  · have e : j = 0 := by omega
    subst e
    exact hsr
  · intro n z hI
    refine br_f (iz_lt7 (by omega)) (xt_fd hI.1 l2 (br_t rfl ?_))
    have hn : ¬ ∃ k, nn_r N d s k = r := by
      intro hh
      obtain ⟨k, hk⟩ := hh
      rcases Nat.lt_or_ge k (nn_l N d s + 1) with h | h
      · exact hI.2 k h hk
      · refine hI.2 (nn_l N d s) (Nat.lt_succ_self _) ?_
        rw [l2, ← hk]
        exact (nn_ge l2 (by omega)).symm
    have := hp z.1 z.2
    rw [zb_f hn] at this
    exact this
  · intro n i z hi hI K
    obtain ⟨r1, r2⟩ := nn_in hK hs hd hc i
    have e := l3 i hi
    have es := nn_rs e
    have q1 := (nn_in hK hs hd hc (i + 1)).1
    refine br_f (iz_lt7 (by omega)) (xt_fs hK hT hd r1 r2 hI.1 e (fun fa2 fl2 hP2 => br_f iz_10 ?_))
    rw [← es] at hP2
    refine pk_eq (nn_r N d s (i + 1)) r (fun e2 => ?_) (fun e2 => nm_r (nI_1 i) (K (fa2, fl2) ⟨hP2, fun j hj => ?_⟩)) hP2.1 rfl (by omega) (by omega)
    · have := hp fa2 fl2
      rw [zb_t ⟨i + 1, e2⟩] at this
      exact this
    · by_cases ej : j = i + 1
      · rw [ej]; exact e2
      · exact hI.2 j (by omega)
theorem xt_along (hK : nn_K N) (hT : xx_T N ad ah ol oR ap) {s d a b : Nat} (hs : s < 7) (hd : d < 7) (ha : a < 7) (hb : b < 7) (hne : a ≠ b) (hc : nn_T N d s < 1000) (hp : ∀ fa' fl', post (zb (zz_al N a b d s)) (fr, fk, fa', fl', ac, au, ad, ah, al, ol, oR, ap, ab)) : wpX_goesAlong post (fr, fk, fa, fl, ac, au, ad, ah, al, ol, oR, ap, ab) (nI s) (nI d) (((1 : Int32) <<< (nI a &&& 31)) ||| ((1 : Int32) <<< (nI b &&& 31))) := by
  obtain ⟨l1, l2, l3⟩ := nn_ls (nn_6 hK hs hd hc)
  unfold wpX_goesAlong
  refine xt_launch hs hd (fun fa' fl' hP => ?_)
  refine loop_0 (fun n i (z : Int32 × Int32) => wX_goesAlong_12 post (((1 : Int32) <<< (nI a &&& 31)) ||| ((1 : Int32) <<< (nI b &&& 31))) n (nI (nn_r N d s i)) (nI i) fr fk z.1 z.2 ac au ad ah al ol oR ap ab) (fun i z => xx_p d (nn_r N d s i) z.1 z.2 ∧ ∀ j, j < i → ¬ ((nn_r N d s j = a ∧ nn_r N d s (j + 1) = b) ∨ (nn_r N d s j = b ∧ nn_r N d s (j + 1) = a))) (nn_l N d s) (fa', fl') ⟨hP, fun j hj => absurd hj (Nat.not_lt_zero j)⟩ ?_ ?_
  · intro n z hI
    refine br_f (iz_lt7 (by omega)) (xt_fd hI.1 l2 (br_t rfl ?_))
    have hn : ¬ zz_al N a b d s := by
      intro hh
      obtain ⟨k, k1, k2⟩ := hh
      exact hI.2 k ((nn_lk (nn_6 hK hs hd hc)).mpr k1) k2
    have := hp z.1 z.2
    rw [zb_f hn] at this
    exact this
  · intro n i z hi hI K
    obtain ⟨r1, r2⟩ := nn_in hK hs hd hc i
    have e := l3 i hi
    have es := nn_rs e
    have q1 := (nn_in hK hs hd hc (i + 1)).1
    refine br_f (iz_lt7 (by omega)) (xt_fs hK hT hd r1 r2 hI.1 e (fun fa2 fl2 hP2 => br_f iz_10 ?_))
    rw [← es] at hP2
    have hfa := hP2.1
    subst hfa
    refine ek_if (bm_two2 ha hb r1 q1 hne) (fun e2 => ?_) (fun e2 => nm_r (nI_1 i) (K (nI (nn_r N d s (i + 1)), fl2) ⟨hP2, fun j hj => ?_⟩))
    · have := hp (nI (nn_r N d s (i + 1))) fl2
      rw [zb_t ⟨i, e, e2⟩] at this
      exact this
    · by_cases ej : j = i
      · rw [ej]; exact e2
      · exact hI.2 j (by omega)
end
end
section
/-! ## the component's answers: distance, nextHop, load, linkLoad, reachable, farthest -/
abbrev xx_Z : Type := Int32 × Int32 × Int32 × (Nat → Int32) × (Nat → Int32) × (Nat → Int32) × (Nat → Int32) × (Nat → Int32)
theorem zz_P1i {N : nn_N} {r i : Nat} (hr : r < 7) : zz_P1 N (nI r) i ↔ (i / 7 ≠ i % 7 ∧ i / 7 ≠ r ∧ i % 7 ≠ r ∧ nn_T N (i % 7) (i / 7) < 1000 ∧ ∃ k, nn_r N (i % 7) (i / 7) k = r) := by
  constructor
  · intro hh
    obtain ⟨r', hr', e, hh⟩ := hh
    have e2 := zz_inj hr hr' e
    subst e2
    exact hh
  · intro hh
    exact ⟨r, hr, rfl, hh⟩
section
variable {N : nn_N} {fr fk fa fl : Int32} {ac au ad ah al ol oR ap ab : Nat → Int32} {post : Int32 → SX → Prop}
theorem xs_dist_t (hK : nn_K N) (hR : xx_R N fr ac au al) (hk : xx_k N fk ad ah ol oR ap) {s d : Nat} (hs : s < 7) (hd : d < 7) (hc : nn_T N d s < 1000) (hp : ∀ fk' ad' ah' ol' oR' ap', xx_k N fk' ad' ah' ol' oR' ap' → post (nI (nn_T N d s)) (fr, fk', fa, fl, ac, au, ad', ah', al, ol', oR', ap', ab)) : wpX_distance post (fr, fk, fa, fl, ac, au, ad, ah, al, ol, oR, ap, ab) (nI s) (nI d) := by
  unfold wpX_distance
  refine xg_t hK hR hk hs hd hc (fun fk' ad' ah' ol' oR' ap' h1 hT => br_f iz_10 ⟨zx_in hs hd, ?_⟩)
  rw [zx_cl hs hd, hT.1 s d hs hd, gr_x1 hc]
  exact hp _ _ _ _ _ _ (Or.inr ⟨h1, hT⟩)
theorem xs_dist_f (hK : nn_K N) (hR : xx_R N fr ac au al) (hk : xx_k N fk ad ah ol oR ap) {x y : Int32} (hn : ¬ zz_C N x y) (hp : ∀ fk' ad' ah' ol' oR' ap', xx_k N fk' ad' ah' ol' oR' ap' → post (-1) (fr, fk', fa, fl, ac, au, ad', ah', al, ol', oR', ap', ab)) : wpX_distance post (fr, fk, fa, fl, ac, au, ad, ah, al, ol, oR, ap, ab) x y := by
  unfold wpX_distance
  exact xg_f hK hR hk hn (fun fk' ad' ah' ol' oR' ap' h => br_t rfl (hp _ _ _ _ _ _ h))
theorem xs_next_t (hK : nn_K N) (hR : xx_R N fr ac au al) (hk : xx_k N fk ad ah ol oR ap) {s d : Nat} (hs : s < 7) (hd : d < 7) (hc : nn_T N d s < 1000) (hp : ∀ fk' ad' ah' ol' oR' ap', xx_k N fk' ad' ah' ol' oR' ap' → post (zz_h (nn_h N d s)) (fr, fk', fa, fl, ac, au, ad', ah', al, ol', oR', ap', ab)) : wpX_nextHop post (fr, fk, fa, fl, ac, au, ad, ah, al, ol, oR, ap, ab) (nI s) (nI d) := by
  unfold wpX_nextHop
  refine xg_t hK hR hk hs hd hc (fun fk' ad' ah' ol' oR' ap' h1 hT => br_f iz_10 ⟨zx_in hs hd, ?_⟩)
  rw [zx_cl hs hd, hT.2.1 s d hs hd]
  exact hp _ _ _ _ _ _ (Or.inr ⟨h1, hT⟩)
theorem xs_next_f (hK : nn_K N) (hR : xx_R N fr ac au al) (hk : xx_k N fk ad ah ol oR ap) {x y : Int32} (hn : ¬ zz_C N x y) (hp : ∀ fk' ad' ah' ol' oR' ap', xx_k N fk' ad' ah' ol' oR' ap' → post (-1) (fr, fk', fa, fl, ac, au, ad', ah', al, ol', oR', ap', ab)) : wpX_nextHop post (fr, fk, fa, fl, ac, au, ad, ah, al, ol, oR, ap, ab) x y := by
  unfold wpX_nextHop
  exact xg_f hK hR hk hn (fun fk' ad' ah' ol' oR' ap' h => br_t rfl (hp _ _ _ _ _ _ h))
theorem xs_load (hK : nn_K N) (hR : xx_R N fr ac au al) (hk : xx_k N fk ad ah ol oR ap) {x : Int32} (hp : ∀ fk' fa' fl' ad' ah' ol' oR' ap', xx_k N fk' ad' ah' ol' oR' ap' → post (nI (zz_n (zz_P1 N x) 49)) (fr, fk', fa', fl', ac, au, ad', ah', al, ol', oR', ap', ab)) : wpX_load post (fr, fk, fa, fl, ac, au, ad, ah, al, ol, oR, ap, ab) x := by
  unfold wpX_load
  rcases zz_sp x with hx | ⟨r, hr, rfl⟩
  · refine xr_f hx (br_t rfl ?_)
    have hz : zz_n (zz_P1 N x) 49 = 0 := by
      refine zz_nz 49 (fun i _ hh => ?_)
      obtain ⟨r, hr, e, _⟩ := hh
      rw [e] at hx
      exact zz_nb hr hx
    have := hp fk fa fl ad ah ol oR ap hk
    rw [hz] at this
    exact this
  · refine xr_t hr (br_f iz_10 ?_)
    refine loop_0 (fun n i (z : xx_Z) => wX_load_13 post (nI r) n (nI (zz_n (zz_P1 N (nI r)) i)) (nI i) fr z.1 z.2.1 z.2.2.1 ac au z.2.2.2.1 z.2.2.2.2.1 al z.2.2.2.2.2.1 z.2.2.2.2.2.2.1 z.2.2.2.2.2.2.2 ab) (fun _ z => xx_k N z.1 z.2.2.2.1 z.2.2.2.2.1 z.2.2.2.2.2.1 z.2.2.2.2.2.2.1 z.2.2.2.2.2.2.2) 49 (fk, fa, fl, ad, ah, ol, oR, ap) hk ?_ ?_
    · intro n z hI
      exact br_t (nI_le (a := 49) (Nat.le_refl 49) (by decide)) (hp _ _ _ _ _ _ _ _ hI)
    · intro n i z hi hI K
      obtain ⟨fk, fa, fl, ad, ah, ol, oR, ap⟩ := z
      have k0 : ¬ zz_P1 N (nI r) i → ∀ fk' fa' fl' ad' ah' ol' oR' ap', xx_k N fk' ad' ah' ol' oR' ap' → ∀ y : Int32, y = nI i + 1 → wX_load_13 post (nI r) n (nI (zz_n (zz_P1 N (nI r)) i)) y fr fk' fa' fl' ac au ad' ah' al ol' oR' ap' ab := by
        intro hn fk' fa' fl' ad' ah' ol' oR' ap' h
        have K1 : wX_load_13 post (nI r) n (nI (zz_n (zz_P1 N (nI r)) (i + 1))) (nI (i + 1)) fr fk' fa' fl' ac au ad' ah' al ol' oR' ap' ab := K (fk', fa', fl', ad', ah', ol', oR', ap') h
        rw [zz_n0 hn] at K1
        exact nm_r (nI_1 i) K1
      have k1 : zz_P1 N (nI r) i → ∀ fk' fa' fl' ad' ah' ol' oR' ap', xx_k N fk' ad' ah' ol' oR' ap' → ∀ w : Int32, w = nI (zz_n (zz_P1 N (nI r)) i) + 1 → ∀ y : Int32, y = nI i + 1 → wX_load_13 post (nI r) n w y fr fk' fa' fl' ac au ad' ah' al ol' oR' ap' ab := by
        intro hn fk' fa' fl' ad' ah' ol' oR' ap' h
        have K1 : wX_load_13 post (nI r) n (nI (zz_n (zz_P1 N (nI r)) (i + 1))) (nI (i + 1)) fr fk' fa' fl' ac au ad' ah' al ol' oR' ap' ab := K (fk', fa', fl', ad', ah', ol', oR', ap') h
        rw [zz_n1 hn] at K1
        exact nm_r (nI_1 _) (nm_r (nI_1 i) K1)
      have s7 : i / 7 < 7 := by omega
      have d7 : i % 7 < 7 := by omega
      have hP := zz_P1i (N := N) (i := i) hr
      refine br_f (nI_ge (b := 49) hi (by decide)) ⟨iz_7, nm_r (iz_d hi) ⟨iz_7, nm_r (iz_m hi) ?_⟩⟩
      refine pk_eq (i / 7) (i % 7) (fun e => k0 (fun hh => (hP.mp hh).1 e) _ _ _ _ _ _ _ _ hI) (fun e1 => ?_) rfl rfl (by omega) (by omega)
      refine pk_eq (i / 7) r (fun e => k0 (fun hh => (hP.mp hh).2.1 e) _ _ _ _ _ _ _ _ hI) (fun e2 => ?_) rfl rfl (by omega) (by omega)
      refine pk_eq (i % 7) r (fun e => k0 (fun hh => (hP.mp hh).2.2.1 e) _ _ _ _ _ _ _ _ hI) (fun e3 => ?_) rfl rfl (by omega) (by omega)
      by_cases ht : nn_T N (i % 7) (i / 7) < 1000
      · refine xg_t hK hR hI s7 d7 ht (fun fk' ad' ah' ol' oR' ap' h1 hT => br_f iz_10 (xt_comes hK hT s7 d7 hr ht e2 (fun fa' fl' => ?_)))
        by_cases hq : ∃ k, nn_r N (i % 7) (i / 7) k = r
        · rw [zb_t hq]
          exact br_f iz_10 (k1 (hP.mpr ⟨e1, e2, e3, ht, hq⟩) _ _ _ _ _ _ _ _ (Or.inr ⟨h1, hT⟩))
        · rw [zb_f hq]
          exact br_t rfl (k0 (fun hh => hq (hP.mp hh).2.2.2.2) _ _ _ _ _ _ _ _ (Or.inr ⟨h1, hT⟩))
      · exact xg_f hK hR hI (zz_Cn s7 d7 ht) (fun fk' ad' ah' ol' oR' ap' h => br_t rfl (k0 (fun hh => ht (hP.mp hh).2.2.2.1) _ _ _ _ _ _ _ _ h))
theorem xs_link_t (hK : nn_K N) (hR : xx_R N fr ac au al) (hk : xx_k N fk ad ah ol oR ap) {a b : Nat} (he : nn_E N a b = true) (hp : ∀ fk' fa' fl' ad' ah' ol' oR' ap', xx_k N fk' ad' ah' ol' oR' ap' → post (nI (zz_n (zz_P2 N a b) 49)) (fr, fk', fa', fl', ac, au, ad', ah', al, ol', oR', ap', ab)) : wpX_linkLoad post (fr, fk, fa, fl, ac, au, ad, ah, al, ol, oR, ap, ab) (nI a) (nI b) := by
  obtain ⟨ha, hb, h0, _⟩ := nn_E1.mp he
  have hne := nn_ne hK he
  unfold wpX_linkLoad
  refine xk_t hK hR ha hb h0 (br_f iz_10 (xc_t hR he (br_f iz_10 ?_)))
  refine loop_0 (fun n i (z : xx_Z) => wX_linkLoad_25 post (nI a) (nI b) n (nI (zz_n (zz_P2 N a b) i)) (nI i) fr z.1 z.2.1 z.2.2.1 ac au z.2.2.2.1 z.2.2.2.2.1 al z.2.2.2.2.2.1 z.2.2.2.2.2.2.1 z.2.2.2.2.2.2.2 ab) (fun _ z => xx_k N z.1 z.2.2.2.1 z.2.2.2.2.1 z.2.2.2.2.2.1 z.2.2.2.2.2.2.1 z.2.2.2.2.2.2.2) 49 (fk, fa, fl, ad, ah, ol, oR, ap) hk ?_ ?_
  · intro n z hI
    exact br_t (nI_le (a := 49) (Nat.le_refl 49) (by decide)) (hp _ _ _ _ _ _ _ _ hI)
  · intro n i z hi hI K
    obtain ⟨fk, fa, fl, ad, ah, ol, oR, ap⟩ := z
    have k0 : ¬ zz_P2 N a b i → ∀ fk' fa' fl' ad' ah' ol' oR' ap', xx_k N fk' ad' ah' ol' oR' ap' → ∀ y : Int32, y = nI i + 1 → wX_linkLoad_25 post (nI a) (nI b) n (nI (zz_n (zz_P2 N a b) i)) y fr fk' fa' fl' ac au ad' ah' al ol' oR' ap' ab := by
      intro hn fk' fa' fl' ad' ah' ol' oR' ap' h
      have K1 : wX_linkLoad_25 post (nI a) (nI b) n (nI (zz_n (zz_P2 N a b) (i + 1))) (nI (i + 1)) fr fk' fa' fl' ac au ad' ah' al ol' oR' ap' ab := K (fk', fa', fl', ad', ah', ol', oR', ap') h
      rw [zz_n0 hn] at K1
      exact nm_r (nI_1 i) K1
    have k1 : zz_P2 N a b i → ∀ fk' fa' fl' ad' ah' ol' oR' ap', xx_k N fk' ad' ah' ol' oR' ap' → ∀ w : Int32, w = nI (zz_n (zz_P2 N a b) i) + 1 → ∀ y : Int32, y = nI i + 1 → wX_linkLoad_25 post (nI a) (nI b) n w y fr fk' fa' fl' ac au ad' ah' al ol' oR' ap' ab := by
      intro hn fk' fa' fl' ad' ah' ol' oR' ap' h
      have K1 : wX_linkLoad_25 post (nI a) (nI b) n (nI (zz_n (zz_P2 N a b) (i + 1))) (nI (i + 1)) fr fk' fa' fl' ac au ad' ah' al ol' oR' ap' ab := K (fk', fa', fl', ad', ah', ol', oR', ap') h
      rw [zz_n1 hn] at K1
      exact nm_r (nI_1 _) (nm_r (nI_1 i) K1)
    have s7 : i / 7 < 7 := by omega
    have d7 : i % 7 < 7 := by omega
    refine br_f (nI_ge (b := 49) hi (by decide)) ⟨iz_7, nm_r (iz_d hi) ⟨iz_7, nm_r (iz_m hi) ?_⟩⟩
    refine pk_eq (i / 7) (i % 7) (fun e => k0 (fun hh => hh.1 e) _ _ _ _ _ _ _ _ hI) (fun e1 => ?_) rfl rfl (by omega) (by omega)
    by_cases ht : nn_T N (i % 7) (i / 7) < 1000
    · refine xg_t hK hR hI s7 d7 ht (fun fk' ad' ah' ol' oR' ap' h1 hT => br_f iz_10 (xt_along hK hT s7 d7 ha hb hne ht (fun fa' fl' => ?_)))
      by_cases hq : zz_al N a b (i % 7) (i / 7)
      · rw [zb_t hq]
        exact br_f iz_10 (k1 ⟨e1, ht, hq⟩ _ _ _ _ _ _ _ _ (Or.inr ⟨h1, hT⟩))
      · rw [zb_f hq]
        exact br_t rfl (k0 (fun hh => hq hh.2.2) _ _ _ _ _ _ _ _ (Or.inr ⟨h1, hT⟩))
    · exact xg_f hK hR hI (zz_Cn s7 d7 ht) (fun fk' ad' ah' ol' oR' ap' h => br_t rfl (k0 (fun hh => ht hh.2.1) _ _ _ _ _ _ _ _ h))
theorem xs_link_f (hK : nn_K N) (hR : xx_R N fr ac au al) {x y : Int32} (hn : ¬ zz_E N x y) (hp : post 0 (fr, fk, fa, fl, ac, au, ad, ah, al, ol, oR, ap, ab)) : wpX_linkLoad post (fr, fk, fa, fl, ac, au, ad, ah, al, ol, oR, ap, ab) x y := by
  unfold wpX_linkLoad
  by_cases hL : zz_L N x y
  · obtain ⟨a, b, ha, hb, h0, rfl, rfl⟩ := hL
    refine xk_t hK hR ha hb h0 (br_f iz_10 ?_)
    cases he : nn_E N a b with
    | true => exact absurd ⟨a, b, he, rfl, rfl⟩ hn
    | false => exact xc_f hR ha hb he (br_t rfl hp)
  · exact xk_f hR hL (br_t rfl hp)
theorem xs_reach (hK : nn_K N) (hR : xx_R N fr ac au al) (hk : xx_k N fk ad ah ol oR ap) {x : Int32} (hp : ∀ fk' ad' ah' ol' oR' ap', xx_k N fk' ad' ah' ol' oR' ap' → post (zz_rs (fun d => nI d ≠ x ∧ zz_C N x (nI d)) 7) (fr, fk', fa, fl, ac, au, ad', ah', al, ol', oR', ap', ab)) : wpX_reachable post (fr, fk, fa, fl, ac, au, ad, ah, al, ol, oR, ap, ab) x := by
  unfold wpX_reachable
  refine loop_0 (fun n i (z : Int32 × (Nat → Int32) × (Nat → Int32) × (Nat → Int32) × (Nat → Int32) × (Nat → Int32)) => wX_reachable_4 post x n (zz_rs (fun d => nI d ≠ x ∧ zz_C N x (nI d)) i) (nI i) fr z.1 fa fl ac au z.2.1 z.2.2.1 al z.2.2.2.1 z.2.2.2.2.1 z.2.2.2.2.2 ab) (fun _ z => xx_k N z.1 z.2.1 z.2.2.1 z.2.2.2.1 z.2.2.2.2.1 z.2.2.2.2.2) 7 (fk, ad, ah, ol, oR, ap) hk ?_ ?_
  · intro n z hI
    exact br_t (iz_le7 (Nat.le_refl 7) (by decide)) (hp _ _ _ _ _ _ hI)
  · intro n i z hi hI K
    obtain ⟨fk, ad, ah, ol, oR, ap⟩ := z
    have k0 : ¬ (nI i ≠ x ∧ zz_C N x (nI i)) → ∀ fk' ad' ah' ol' oR' ap', xx_k N fk' ad' ah' ol' oR' ap' → ∀ y : Int32, y = nI i + 1 → wX_reachable_4 post x n (zz_rs (fun d => nI d ≠ x ∧ zz_C N x (nI d)) i) y fr fk' fa fl ac au ad' ah' al ol' oR' ap' ab := by
      intro hn fk' ad' ah' ol' oR' ap' h
      have K1 : wX_reachable_4 post x n (zz_rs (fun d => nI d ≠ x ∧ zz_C N x (nI d)) (i + 1)) (nI (i + 1)) fr fk' fa fl ac au ad' ah' al ol' oR' ap' ab := K (fk', ad', ah', ol', oR', ap') h
      rw [zz_rsf hn] at K1
      exact nm_r (nI_1 i) K1
    refine br_f (iz_lt7 hi) (br_c (fun e => k0 (fun hh => hh.1 e) _ _ _ _ _ _ hI) (fun e => ?_))
    by_cases hc : zz_C N x (nI i)
    · have k1 : ∀ fk' ad' ah' ol' oR' ap', xx_k N fk' ad' ah' ol' oR' ap' → ∀ w : Int32, w = zz_rs (fun d => nI d ≠ x ∧ zz_C N x (nI d)) i ||| ((1 : Int32) <<< (nI i &&& 31)) → ∀ y : Int32, y = nI i + 1 → wX_reachable_4 post x n w y fr fk' fa fl ac au ad' ah' al ol' oR' ap' ab := by
        intro fk' ad' ah' ol' oR' ap' h
        have K1 : wX_reachable_4 post x n (zz_rs (fun d => nI d ≠ x ∧ zz_C N x (nI d)) (i + 1)) (nI (i + 1)) fr fk' fa fl ac au ad' ah' al ol' oR' ap' ab := K (fk', ad', ah', ol', oR', ap') h
        rw [zz_rst ⟨e, hc⟩] at K1
        exact nm_e (nm_r (nI_1 i) K1)
      obtain ⟨s, d, hs, hd, ht, ex, ed⟩ := hc
      have ed' := zz_inj hi hd ed
      subst ed'
      subst ex
      exact xg_t hK hR hI hs hi ht (fun fk' ad' ah' ol' oR' ap' h1 hT => br_f iz_10 (k1 _ _ _ _ _ _ (Or.inr ⟨h1, hT⟩)))
    · exact xg_f hK hR hI hc (fun fk' ad' ah' ol' oR' ap' h => br_t rfl (k0 (fun hh => hc hh.2) _ _ _ _ _ _ h))
theorem xs_far_f (hK : nn_K N) (hR : xx_R N fr ac au al) (hk : xx_k N fk ad ah ol oR ap) {x : Int32} (hn : ¬ zz_C N x x) (hp : ∀ fk' ad' ah' ol' oR' ap', xx_k N fk' ad' ah' ol' oR' ap' → post (-1) (fr, fk', fa, fl, ac, au, ad', ah', al, ol', oR', ap', ab)) : wpX_farthest post (fr, fk, fa, fl, ac, au, ad, ah, al, ol, oR, ap, ab) x := by
  unfold wpX_farthest
  exact xg_f hK hR hk hn (fun fk' ad' ah' ol' oR' ap' h => br_t rfl (hp _ _ _ _ _ _ h))
theorem xs_far_t (hK : nn_K N) (hR : xx_R N fr ac au al) (hk : xx_k N fk ad ah ol oR ap) {s : Nat} (hs : s < 7) (hc : nn_T N s s < 1000) (hp : ∀ fk' ad' ah' ol' oR' ap', xx_k N fk' ad' ah' ol' oR' ap' → post (nI (zz_mx (fun d => nn_T N d s) 7)) (fr, fk', fa, fl, ac, au, ad', ah', al, ol', oR', ap', ab)) : wpX_farthest post (fr, fk, fa, fl, ac, au, ad, ah, al, ol, oR, ap, ab) (nI s) := by
  unfold wpX_farthest
  refine xg_t hK hR hk hs hs hc (fun fk' ad' ah' ol' oR' ap' h1 hT => br_f iz_10 ?_)
  refine loop_0 (fun n i (_ : Unit) => wX_farthest_15 post (nI s) fr fk' fa fl ac au ad' ah' al ol' oR' ap' ab n (nI (zz_mx (fun d => nn_T N d s) i)) (nI i)) (fun _ _ => True) 7 () trivial ?_ ?_
  · intro n _ _
    exact br_t (iz_le7 (Nat.le_refl 7) (by decide)) (hp _ _ _ _ _ _ (Or.inr ⟨h1, hT⟩))
  · intro n i _ hi _ K
    have K1 : wX_farthest_15 post (nI s) fr fk' fa fl ac au ad' ah' al ol' oR' ap' ab n (nI (zz_mx (fun d => nn_T N d s) (i + 1))) (nI (i + 1)) := K () trivial
    have hb := zz_mxb (fun d => nn_T N d s) i
    have hx := gr_xl (nn_T N i s)
    refine br_f (iz_lt7 hi) ⟨zx_in hs hi, nm_r (e' := nI (gr_x (nn_T N i s))) (by rw [zx_cl hs hi]; exact hT.1 s i hs hi) ?_⟩
    by_cases hc2 : nn_T N i s < 1000
    · rw [gr_x1 hc2]
      refine br_f (nI_ge (b := 10000) (by omega) (by decide)) ?_
      refine pk_le (nn_T N i s) (zz_mx (fun d => nn_T N d s) i) (fun hle => ?_) (fun hlt => ?_) rfl rfl (by omega) (by omega)
      · rw [zz_mx0 (f := fun d => nn_T N d s) (fun hh => by have := hh.2; omega)] at K1
        exact nm_r (nI_1 i) K1
      · rw [zz_mx1 (f := fun d => nn_T N d s) ⟨hc2, hlt⟩] at K1
        exact nm_r (nI_1 i) K1
    · rw [gr_x2 hc2]
      rw [zz_mx0 (f := fun d => nn_T N d s) (fun hh => hc2 hh.1)] at K1
      exact br_t (by decide) (nm_r (nI_1 i) K1)
end
end
section
/-! ## the component's stores: turn, join, cut, setLink, setRouter; routeDiffers, impact; both constructors -/
def zz_pr (a b c e : Nat) : Prop := (c = a ∧ e = b) ∨ (c = b ∧ e = a)
section
variable {N : nn_N} {fr fk fa fl : Int32} {ac au ad ah al ol oR ap ab : Nat → Int32}
theorem xu_turn {M : nn_N} {ac' : Nat → Int32} {post : SX → Prop} (hR : xx_R N fr ac au al) {a b : Nat} (ha : a < 7) (hb : b < 7) (hne : a ≠ b) {t : Bool} {x : Int32} (hx : x = 0 ↔ t = false) (hac : ∀ i, i < 49 → ac' i = nI (M.1 i)) (ho : M.2.2 = N.2.2) (h1 : ∀ c e, c < 7 → e < 7 → zz_pr a b c e → (decide (0 < M.1 (7 * c + e)) && decide (M.2.1 (7 * c + e) ≠ 0)) = t) (h2 : ∀ c e, c < 7 → e < 7 → ¬ zz_pr a b c e → (decide (0 < M.1 (7 * c + e)) && decide (M.2.1 (7 * c + e) ≠ 0)) = (decide (0 < N.1 (7 * c + e)) && decide (N.2.1 (7 * c + e) ≠ 0))) (hp : ∀ au', xx_R M fr ac' au' al → post (fr, 0, fa, fl, ac', au', ad, ah, al, ol, oR, ap, ab)) : wpX_turn post (fr, fk, fa, fl, ac', au, ad, ah, al, ol, oR, ap, ab) (nI a) (nI b) x := by
  obtain ⟨q, m, r1, r2, r3, r4, r5, r6, r7, r8⟩ := hR
  have ca : (nI a).toNatClampNeg = a := nI_clamp (by omega)
  have cb : (nI b).toNatClampNeg = b := nI_clamp (by omega)
  have ma := r2 a ha
  have mb := r2 b hb
  have key : ∀ g : Nat → Nat → Nat, (∀ p, p < 128 → ∀ i, i < 7 → g p i < 128) → (∀ p, p < 128 → ∀ i, i < 7 → ∀ j, j < 7 → (g p i).testBit j = if j = i then t else p.testBit j) → post (fr, 0, fa, fl, ac', upd (upd au a (nI (g (m a) b))) b (nI (g (m b) a)), ad, ah, al, ol, oR, ap, ab) := by
    intro g g1 g2
    refine hp _ ⟨q, fun c => if c = b then g (m b) a else if c = a then g (m a) b else m c, r1, fun c hc => ?_, r3, hac, fun c hc => ?_, fun c hc => ?_, fun c e hc he => ?_, r8⟩
    · show (if c = b then g (m b) a else if c = a then g (m a) b else m c) < 128
      by_cases e1 : c = b
      · rw [if_pos e1]; exact g1 _ mb a ha
      · rw [if_neg e1]
        by_cases e2 : c = a
        · rw [if_pos e2]; exact g1 _ ma b hb
        · rw [if_neg e2]; exact r2 c hc
    · show upd (upd au a (nI (g (m a) b))) b (nI (g (m b) a)) c = nI (if c = b then g (m b) a else if c = a then g (m a) b else m c)
      by_cases e1 : c = b
      · rw [if_pos e1, e1, pk_us]
      · rw [if_neg e1, pk_un e1]
        by_cases e2 : c = a
        · rw [if_pos e2, e2, pk_us]
        · rw [if_neg e2, pk_un e2]; exact r5 c hc
    · rw [r6 c hc]
      unfold nn_o
      rw [ho]
    · show (if c = b then g (m b) a else if c = a then g (m a) b else m c).testBit e = _
      by_cases e1 : c = b
      · rw [if_pos e1, g2 _ mb a ha e he]
        by_cases e3 : e = a
        · rw [if_pos e3, h1 c e hc he (Or.inr ⟨e1, e3⟩)]
        · rw [if_neg e3, h2 c e hc he (fun hh => by rcases hh with hh | hh; exact hne (hh.1.symm.trans e1); exact e3 hh.2), ← r7 c e hc he, e1]
      · rw [if_neg e1]
        by_cases e2 : c = a
        · rw [if_pos e2, g2 _ ma b hb e he]
          by_cases e3 : e = b
          · rw [if_pos e3, h1 c e hc he (Or.inl ⟨e2, e3⟩)]
          · rw [if_neg e3, h2 c e hc he (fun hh => by rcases hh with hh | hh; exact e3 hh.2; exact e1 hh.1), ← r7 c e hc he, e2]
        · rw [if_neg e2, h2 c e hc he (fun hh => by rcases hh with hh | hh; exact e2 hh.1; exact e1 hh.1), r7 c e hc he]
  cases t with
  | false =>
    have hx0 := hx.mpr rfl
    have key' := key (fun p i => p &&& (127 - 2 ^ i)) (fun p hp i hi => (bm_clr p hp i hi).2) (fun p hp i hi j hj => by
      show (p &&& (127 - 2 ^ i)).testBit j = _
      rw [bm_cb p hp i hi j hj]
      by_cases e : j = i
      · rw [if_pos e, e]; simp
      · rw [if_neg e]; simp [e])
    refine br_t hx0 ⟨vp_in_nI ha (by decide), vp_in_nI ha (by decide), nm_r (e' := upd au a (nI (m a &&& (127 - 2 ^ b)))) ?_ (br_t hx0 ⟨vp_in_nI hb (by decide), vp_in_nI hb (by decide), nm_r (e' := upd (upd au a (nI (m a &&& (127 - 2 ^ b)))) b (nI (m b &&& (127 - 2 ^ a)))) ?_ key'⟩)⟩
    · rw [ca, r5 a ha, (bm_clr _ ma b hb).1, bm_byte (bm_clr _ ma b hb).2]
    · rw [cb, pk_un (fun e => hne e.symm), r5 b hb, (bm_clr _ mb a ha).1, bm_byte (bm_clr _ mb a ha).2]
  | true =>
    have hx0 : ¬ x = 0 := fun e => absurd (hx.mp e) (by decide)
    have key' := key (fun p i => p ||| 2 ^ i) (fun p hp i hi => (bm_set p hp i hi).2) (fun p hp i hi j hj => by
      show (p ||| 2 ^ i).testBit j = _
      rw [bm_sb p hp i hi j hj]
      by_cases e : j = i
      · rw [if_pos e, e]; simp
      · rw [if_neg e]; simp [e])
    refine br_f hx0 ⟨vp_in_nI ha (by decide), vp_in_nI ha (by decide), nm_r (e' := upd au a (nI (m a ||| 2 ^ b))) ?_ (br_f hx0 ⟨vp_in_nI hb (by decide), vp_in_nI hb (by decide), nm_r (e' := upd (upd au a (nI (m a ||| 2 ^ b))) b (nI (m b ||| 2 ^ a))) ?_ key'⟩)⟩
    · rw [ca, r5 a ha, (bm_set _ ma b hb).1, bm_byte (bm_set _ ma b hb).2]
    · rw [cb, pk_un (fun e => hne e.symm), r5 b hb, (bm_set _ mb a ha).1, bm_byte (bm_set _ mb a ha).2]
theorem zz_ix {a b c e : Nat} (ha : a < 7) (hb : b < 7) (hc : c < 7) (he : e < 7) : zz_pr a b c e ↔ (7 * c + e = 7 * a + b ∨ 7 * c + e = 7 * b + a) := by
  unfold zz_pr
  omega
theorem xu_set {post : SX → Prop} (hK : nn_K N) (hR : xx_R N fr ac au al) {a b z : Nat} (ha : a < 7) (hb : b < 7) (h0 : 0 < N.1 (7 * a + b)) {x : Int32} (hx : x = 0 ↔ z = 0) (hp : ∀ au', xx_R (N.1, zz_u N.2.1 a b z, N.2.2) fr ac au' al → post (fr, 0, fa, fl, ac, au', ad, ah, al, ol, oR, ap, ab)) : wpX_turn post (fr, fk, fa, fl, ac, au, ad, ah, al, ol, oR, ap, ab) (nI a) (nI b) x := by
  have hac : ∀ i, i < 49 → ac i = nI (N.1 i) := by
    obtain ⟨q, m, r1, r2, r3, r4, _⟩ := hR
    exact r4
  refine xu_turn (M := (N.1, zz_u N.2.1 a b z, N.2.2)) hR ha hb (zz_Lne hK ha h0) (t := decide (z ≠ 0)) ?_ hac rfl (fun c e hc he hh => ?_) (fun c e hc he hh => ?_) hp
  · rw [hx, decide_eq_false_iff_not, Decidable.not_not]
  · show (decide (0 < N.1 (7 * c + e)) && decide (zz_u N.2.1 a b z (7 * c + e) ≠ 0)) = decide (z ≠ 0)
    have hp1 : 0 < N.1 (7 * c + e) := by
      rcases hh with hh | hh
      · rw [hh.1, hh.2]; exact h0
      · rw [hh.1, hh.2, (hK.1 b a hb ha).2.1]; exact h0
    rw [zz_u1 ((zz_ix ha hb hc he).mp hh), decide_eq_true hp1, Bool.true_and]
  · show (decide (0 < N.1 (7 * c + e)) && decide (zz_u N.2.1 a b z (7 * c + e) ≠ 0)) = _
    rw [zz_u0 (fun h => hh ((zz_ix ha hb hc he).mpr h))]
end
section
variable {N : nn_N} {fr fk fa fl : Int32} {ac au ad ah al ol oR ap ab : Nat → Int32} {post : Int32 → SX → Prop}
theorem xm_join_t (hR : xx_R N fr ac au al) {a b v : Nat} (ha : a < 7) (hb : b < 7) (hne : a ≠ b) (h1 : 1 ≤ v) (h9 : v ≤ 9) (hp : ∀ ac' au', xx_R (zz_u N.1 a b v, zz_u N.2.1 a b 1, N.2.2) fr ac' au' al → post 1 (fr, 0, fa, fl, ac', au', ad, ah, al, ol, oR, ap, ab)) : wpX_join post (fr, fk, fa, fl, ac, au, ad, ah, al, ol, oR, ap, ab) (nI a) (nI b) (nI v) := by
  have hac : ∀ i, i < 49 → ac i = nI (N.1 i) := by
    obtain ⟨q, m, r1, r2, r3, r4, _⟩ := hR
    exact r4
  unfold wpX_join
  refine xp_t ha hb hne (br_f iz_10 (br_f (nI_nlt (b := 1) h1 (by omega)) (br_t (nI_le (b := 9) h9 (by decide)) ⟨zx_in ha hb, nm_r (e' := upd ac (7 * a + b) (nI v)) (by rw [zx_cl ha hb, bm_byte (by omega)]) ⟨zx_in hb ha, nm_r (e' := upd (upd ac (7 * a + b) (nI v)) (7 * b + a) (nI v)) (by rw [zx_cl hb ha, bm_byte (by omega)]) ?_⟩⟩)))
  refine xu_turn (M := (zz_u N.1 a b v, zz_u N.2.1 a b 1, N.2.2)) hR ha hb hne (t := true) (by decide) (fun i hi => zz_uu (hac i hi)) rfl (fun c e hc he hh => ?_) (fun c e hc he hh => ?_) (fun au' h => hp _ au' h)
  · show (decide (0 < zz_u N.1 a b v (7 * c + e)) && decide (zz_u N.2.1 a b 1 (7 * c + e) ≠ 0)) = true
    have hi := (zz_ix ha hb hc he).mp hh
    rw [zz_u1 hi, zz_u1 hi, decide_eq_true (show 0 < v by omega)]
    decide
  · show (decide (0 < zz_u N.1 a b v (7 * c + e)) && decide (zz_u N.2.1 a b 1 (7 * c + e) ≠ 0)) = _
    have hi : ¬ (7 * c + e = 7 * a + b ∨ 7 * c + e = 7 * b + a) := fun h => hh ((zz_ix ha hb hc he).mpr h)
    rw [zz_u0 hi, zz_u0 hi]
theorem xm_join_f {x y c : Int32} (hn : ¬ zz_J x y c) (h : post 0 (fr, fk, fa, fl, ac, au, ad, ah, al, ol, oR, ap, ab)) : wpX_join post (fr, fk, fa, fl, ac, au, ad, ah, al, ol, oR, ap, ab) x y c := by
  unfold wpX_join
  by_cases hp : zz_Pr x y
  · obtain ⟨a, b, ha, hb, hne, rfl, rfl⟩ := hp
    refine xp_t ha hb hne (br_f iz_10 (br_c (fun _ => h) (fun h1 => br_c (fun h9 => ?_) (fun _ => h))))
    obtain ⟨v, v1, v9, rfl⟩ := zz_c9 h1 h9
    exact absurd ⟨a, b, v, ha, hb, hne, v1, v9, rfl, rfl, rfl⟩ hn
  · exact xp_f hp (br_t rfl h)
theorem xm_cut_t (hK : nn_K N) (hR : xx_R N fr ac au al) {a b : Nat} (ha : a < 7) (hb : b < 7) (h0 : 0 < N.1 (7 * a + b)) (hp : ∀ ac' au', xx_R (zz_u N.1 a b 0, N.2.1, N.2.2) fr ac' au' al → post 1 (fr, 0, fa, fl, ac', au', ad, ah, al, ol, oR, ap, ab)) : wpX_cut post (fr, fk, fa, fl, ac, au, ad, ah, al, ol, oR, ap, ab) (nI a) (nI b) := by
  have hac : ∀ i, i < 49 → ac i = nI (N.1 i) := by
    obtain ⟨q, m, r1, r2, r3, r4, _⟩ := hR
    exact r4
  unfold wpX_cut
  refine xk_t hK hR ha hb h0 (br_f iz_10 ⟨zx_in ha hb, nm_r (e' := upd ac (7 * a + b) (nI 0)) (by rw [zx_cl ha hb, bm_b0]; rfl) ⟨zx_in hb ha, nm_r (e' := upd (upd ac (7 * a + b) (nI 0)) (7 * b + a) (nI 0)) (by rw [zx_cl hb ha, bm_b0]; rfl) ?_⟩⟩)
  refine xu_turn (M := (zz_u N.1 a b 0, N.2.1, N.2.2)) hR ha hb (zz_Lne hK ha h0) (t := false) (by decide) (fun i hi => zz_uu (hac i hi)) rfl (fun c e hc he hh => ?_) (fun c e hc he hh => ?_) (fun au' h => hp _ au' h)
  · show (decide (0 < zz_u N.1 a b 0 (7 * c + e)) && decide (N.2.1 (7 * c + e) ≠ 0)) = false
    rw [zz_u1 ((zz_ix ha hb hc he).mp hh)]
    rfl
  · show (decide (0 < zz_u N.1 a b 0 (7 * c + e)) && decide (N.2.1 (7 * c + e) ≠ 0)) = _
    rw [zz_u0 (fun h => hh ((zz_ix ha hb hc he).mpr h))]
theorem xm_cut_f (hR : xx_R N fr ac au al) {x y : Int32} (hn : ¬ zz_L N x y) (h : post 0 (fr, fk, fa, fl, ac, au, ad, ah, al, ol, oR, ap, ab)) : wpX_cut post (fr, fk, fa, fl, ac, au, ad, ah, al, ol, oR, ap, ab) x y := by
  unfold wpX_cut
  exact xk_f hR hn (br_t rfl h)
theorem xm_setLink_t (hK : nn_K N) (hR : xx_R N fr ac au al) {a b z : Nat} (ha : a < 7) (hb : b < 7) (h0 : 0 < N.1 (7 * a + b)) {x : Int32} (hx : x = 0 ↔ z = 0) (hp : ∀ au', xx_R (N.1, zz_u N.2.1 a b z, N.2.2) fr ac au' al → post 1 (fr, 0, fa, fl, ac, au', ad, ah, al, ol, oR, ap, ab)) : wpX_setLink post (fr, fk, fa, fl, ac, au, ad, ah, al, ol, oR, ap, ab) (nI a) (nI b) x := by
  unfold wpX_setLink
  exact xk_t hK hR ha hb h0 (br_f iz_10 (xu_set hK hR ha hb h0 hx hp))
theorem xm_setLink_f (hR : xx_R N fr ac au al) {x y z : Int32} (hn : ¬ zz_L N x y) (h : post 0 (fr, fk, fa, fl, ac, au, ad, ah, al, ol, oR, ap, ab)) : wpX_setLink post (fr, fk, fa, fl, ac, au, ad, ah, al, ol, oR, ap, ab) x y z := by
  unfold wpX_setLink
  exact xk_f hR hn (br_t rfl h)
theorem xm_setRouter_t (hR : xx_R N fr ac au al) {a z : Nat} (ha : a < 7) {x : Int32} (hx : x = 0 ↔ z = 0) (hp : ∀ fr', xx_R (N.1, N.2.1, fun j => if j = a then z else N.2.2 j) fr' ac au al → post 1 (fr', 0, fa, fl, ac, au, ad, ah, al, ol, oR, ap, ab)) : wpX_setRouter post (fr, fk, fa, fl, ac, au, ad, ah, al, ol, oR, ap, ab) (nI a) x := by
  obtain ⟨q, m, r1, r2, r3, r4, r5, r6, r7, r8⟩ := hR
  subst r3
  have key : ∀ q', q' < 128 → (∀ c, c < 7 → q'.testBit c = if c = a then decide (z ≠ 0) else q.testBit c) → xx_R (N.1, N.2.1, fun j => if j = a then z else N.2.2 j) (nI q') ac au al := by
    intro q' h1 h2
    refine ⟨q', m, h1, r2, rfl, r4, r5, fun c hc => ?_, r7, r8⟩
    rw [h2 c hc]
    show _ = decide ((if c = a then z else N.2.2 c) ≠ 0)
    by_cases e : c = a
    · rw [if_pos e, if_pos e]
    · rw [if_neg e, if_neg e]; exact r6 c hc
  unfold wpX_setRouter
  refine xr_t ha (br_f iz_10 (br_c (fun e => ?_) (fun e => ?_)))
  · obtain ⟨c1, c2⟩ := bm_clr q r1 a ha
    refine nm_r c1 (hp _ (key _ c2 (fun c hc => ?_)))
    rw [bm_cb q r1 a ha c hc, decide_eq_false (fun hh => hh (hx.mp e))]
    by_cases e2 : c = a
    · rw [if_pos e2, e2]; simp
    · rw [if_neg e2]; simp [e2]
  · obtain ⟨c1, c2⟩ := bm_set q r1 a ha
    refine nm_r c1 (hp _ (key _ c2 (fun c hc => ?_)))
    have hz : z ≠ 0 := fun hh => e (hx.mpr hh)
    rw [bm_sb q r1 a ha c hc, decide_eq_true hz]
    by_cases e2 : c = a
    · rw [if_pos e2, e2]; simp
    · rw [if_neg e2]; simp [e2]
theorem xm_setRouter_f {x z : Int32} (hx : zz_bad x) (h : post 0 (fr, fk, fa, fl, ac, au, ad, ah, al, ol, oR, ap, ab)) : wpX_setRouter post (fr, fk, fa, fl, ac, au, ad, ah, al, ol, oR, ap, ab) x z := by
  unfold wpX_setRouter
  exact xr_f hx (br_t rfl h)
end
end
section
/-! ## routeDiffers, impact, both constructors -/
theorem zz_self {N M : nn_N} (hN : nn_K N) (hM : nn_K M) (ho : M.2.2 = N.2.2) {s : Nat} (hs : s < 7) : nn_c M s s = nn_c N s s := by
  obtain ⟨n1, n2⟩ := nn_ss hN hs
  obtain ⟨m1, m2⟩ := nn_ss hM hs
  rw [ho] at m1 m2
  by_cases h : N.2.2 s = 0
  · have e1 := n2 h s hs
    have e2 := m2 h s hs
    rw [nn_c0 (by omega), nn_c0 (by omega)]
  · have e1 := n1 h
    have e2 := m1 h
    refine (nn_ceq hM hN hs hs (by omega) (by omega)).mpr (fun k => ?_)
    rw [nn_ge (N := M) (d := s) (s := s) (k := 0) rfl (Nat.zero_le k), nn_ge (N := N) (d := s) (s := s) (k := 0) rfl (Nat.zero_le k)]
section
variable {N M : nn_N} {fr fk fa fl : Int32} {ac au ad ah al ol oR ap ab : Nat → Int32}
theorem xd_differs {post : Int32 → Prop} (hN : nn_K N) (hM : nn_K M) (ho : M.2.2 = N.2.2) (hB : xx_H N ab) (hH : xx_H M ah) {s d : Nat} (hs : s < 7) (hd : d < 7) (hp : post (zb (nn_c M d s ≠ nn_c N d s))) : wpX_routeDiffers post (fr, fk, fa, fl, ac, au, ad, ah, al, ol, oR, ap, ab) (nI s) (nI d) := by
  by_cases e : s = d
  · subst e
    rw [zb_f (fun hh => hh (zz_self hN hM ho hs))] at hp
    exact ⟨1, br_f (by decide) (br_t rfl hp)⟩
  · have b0 := hB s d hs hd
    have h0 := hH s d hs hd
    by_cases tN : nn_T N d s < 1000
    · obtain ⟨qn1, qn2, qn3, qn4⟩ := nn_hs hN hd e tN
      by_cases tM : nn_T M d s < 1000
      · obtain ⟨l1, l2, l3⟩ := nn_ls (nn_6 hN hs hd tN)
        have hce := nn_ceq hM hN hs hd tM tN
        refine loop_0 (fun n i (_ : Unit) => wX_routeDiffers_5 post (nI d) fr fk fa fl ac au ad ah al ol oR ap ab n (nI (nn_r N d s i)) (nI i)) (fun i _ => ∀ j, j < i + 1 → nn_r M d s j = nn_r N d s j) (nn_l N d s) () (fun j hj => ?_) ?_ ?_
        · have ej : j = 0 := by omega
          subst ej
          rfl
        · intro n _ hI
          refine br_f (iz_lt7 (by omega)) (br_t (congrArg nI l2) ?_)
          have hall : nn_c M d s = nn_c N d s := by
            refine hce.mpr (fun k => ?_)
            rcases Nat.lt_or_ge k (nn_l N d s + 1) with h | h
            · exact hI k h
            · have hm : nn_r M d s (nn_l N d s) = d := by rw [hI _ (Nat.lt_succ_self _)]; exact l2
              rw [nn_ge hm (by omega), nn_ge l2 (by omega)]
          rw [zb_f (fun hh => hh hall)] at hp
          exact hp
        · intro n i _ hi hI K
          have ei := l3 i hi
          obtain ⟨r1, r2⟩ := nn_in hN hs hd tN i
          have hr2 : nn_T M d (nn_r N d s i) < 1000 := by
            rw [← hI i (Nat.lt_succ_self i)]
            exact (nn_in hM hs hd tM i).2
          have eN := nn_rs ei
          have eM : nn_r M d s (i + 1) = nn_h M d (nn_r N d s i) := by
            have eM0 : nn_r M d s i ≠ d := by rw [hI i (Nat.lt_succ_self i)]; exact ei
            rw [nn_rs eM0, hI i (Nat.lt_succ_self i)]
          obtain ⟨p1, _⟩ := nn_hs hN hd ei r2
          obtain ⟨p2, _⟩ := nn_hs hM hd ei hr2
          refine br_f (iz_lt7 (by omega)) (br_f (iz_ne r1 hd ei) ⟨zx_in r1 hd, nm_r (e' := nI (nn_h N d (nn_r N d s i))) (by rw [zx_cl r1 hd, hB _ d r1 hd, zz_h1 p1]) ⟨zx_in r1 hd, ?_⟩⟩)
          refine pk_eq (nn_h N d (nn_r N d s i)) (nn_h M d (nn_r N d s i)) (fun e2 => br_t (nI_pos' (by omega)) (nm_r (nI_1 i) ?_)) (fun e2 => ?_) rfl (by rw [zx_cl r1 hd, hH _ d r1 hd, zz_h1 p2]) (by omega) (by omega)
          · rw [← eN]
            refine K () (fun j hj => ?_)
            by_cases ej : j = i + 1
            · rw [ej, eM, eN, e2]
            · exact hI j (by omega)
          · have hne : nn_c M d s ≠ nn_c N d s := by
              intro hh
              have := hce.mp hh (i + 1)
              rw [eM, eN] at this
              exact e2 this.symm
            rw [zb_t hne] at hp
            exact hp
      · rw [zz_h1 qn1] at b0
        rw [nn_h7 (fun hh => tM hh.2), zz_h0] at h0
        have hne : nn_c M d s ≠ nn_c N d s := by
          have := (nn_cb hN hs hd tN).1
          rw [nn_c0 tM]
          omega
        rw [zb_t hne] at hp
        refine ⟨1, br_f (by decide) (br_f (iz_ne hs hd e) ⟨zx_in hs hd, nm_r (e' := nI (nn_h N d s)) (by rw [zx_cl hs hd, b0]) ⟨zx_in hs hd, br_f ?_ hp⟩⟩)⟩
        rw [zx_cl hs hd, h0]
        intro e2
        have := nI_pos (n := nn_h N d s) (by omega)
        rw [e2] at this
        exact this (by decide)
    · rw [nn_h7 (fun hh => tN hh.2), zz_h0] at b0
      by_cases tM : nn_T M d s < 1000
      · obtain ⟨qm1, _⟩ := nn_hs hM hd e tM
        rw [zz_h1 qm1] at h0
        have hne : nn_c M d s ≠ nn_c N d s := by
          have := (nn_cb hM hs hd tM).1
          rw [nn_c0 tN]
          omega
        rw [zb_t hne] at hp
        refine ⟨1, br_f (by decide) (br_f (iz_ne hs hd e) ⟨zx_in hs hd, nm_r (e' := -1) (by rw [zx_cl hs hd, b0]) ⟨zx_in hs hd, br_f ?_ hp⟩⟩)⟩
        rw [zx_cl hs hd, h0]
        intro e2
        have := nI_pos (n := nn_h M d s) (by omega)
        rw [← e2] at this
        exact this (by decide)
      · rw [nn_h7 (fun hh => tM hh.2), zz_h0] at h0
        have heq : nn_c M d s = nn_c N d s := by rw [nn_c0 tN, nn_c0 tM]
        rw [zb_f (fun hh => hh heq)] at hp
        refine ⟨1, br_f (by decide) (br_f (iz_ne hs hd e) ⟨zx_in hs hd, nm_r (e' := -1) (by rw [zx_cl hs hd, b0]) ⟨zx_in hs hd, br_t ?_ (br_f (by decide) hp)⟩⟩)⟩
        rw [zx_cl hs hd, h0]
theorem xi_85 {post : Int32 → SX → Prop} (hN : nn_K N) (hM : nn_K M) (ho : M.2.2 = N.2.2) (hR : xx_R M fr ac au al) (hB : xx_H N ab) (hH : xx_H M ah) {a b z : Nat} (ha : a < 7) (hb : b < 7) (h0 : 0 < M.1 (7 * a + b)) {x : Int32} (hx : x = 0 ↔ z = 0) (hp : ∀ au', xx_R (M.1, zz_u M.2.1 a b z, M.2.2) fr ac au' al → post (nI (zz_n (zz_P3 N M) 49)) (fr, 0, fa, fl, ac, au', ad, ah, al, ol, oR, ap, ab)) : ∃ n, wX_impact_85 post (nI a) (nI b) x fr fk fa fl ac au ad ah al ol oR ap ab n 0 0 := by
  refine loop_0 (fun n i (_ : Unit) => wX_impact_85 post (nI a) (nI b) x fr fk fa fl ac au ad ah al ol oR ap ab n (nI (zz_n (zz_P3 N M) i)) (nI i)) (fun _ _ => True) 49 () trivial ?_ ?_
  · intro n _ _
    exact br_t (nI_le (a := 49) (Nat.le_refl 49) (by decide)) (xu_set hM hR ha hb h0 hx hp)
  · intro n i _ hi _ K
    have K1 : wX_impact_85 post (nI a) (nI b) x fr fk fa fl ac au ad ah al ol oR ap ab n (nI (zz_n (zz_P3 N M) (i + 1))) (nI (i + 1)) := K () trivial
    have s7 : i / 7 < 7 := by omega
    have d7 : i % 7 < 7 := by omega
    refine br_f (nI_ge (b := 49) hi (by decide)) ⟨iz_7, iz_7, ?_⟩
    rw [iz_m hi, iz_d hi]
    refine xd_differs hN hM ho hB hH s7 d7 ?_
    by_cases hq : nn_c M (i % 7) (i / 7) ≠ nn_c N (i % 7) (i / 7)
    · rw [zb_t hq]
      rw [zz_n1 (P := zz_P3 N M) hq] at K1
      exact br_f iz_10 (nm_r (nI_1 _) (nm_r (nI_1 i) K1))
    · rw [zb_f hq]
      rw [zz_n0 (P := zz_P3 N M) hq] at K1
      exact br_t rfl (nm_r (iz_a0 _) (nm_r (nI_1 i) K1))
end
section
variable {N : nn_N} {fr fk fa fl : Int32} {ac au ad ah al ol oR ap ab : Nat → Int32} {post : Int32 → SX → Prop}
theorem xi_72 (hK : nn_K N) (hR : xx_R N fr ac au al) (hB : xx_H N ab) {a b z y : Nat} (ha : a < 7) (hb : b < 7) (h0 : 0 < N.1 (7 * a + b)) (hz : z ≤ 1) {x3 z0 : Int32} (hx : x3 = 0 ↔ y = 0) (hz0 : z0 = 0 ↔ z = 0) (hp : ∀ fk' au' ad' ah' ol' oR' ap', fk' = 0 → xx_R (N.1, zz_u (zz_u N.2.1 a b z) a b y, N.2.2) fr ac au' al → post (nI (zz_n (zz_P3 N (N.1, zz_u N.2.1 a b z, N.2.2)) 49)) (fr, fk', fa, fl, ac, au', ad', ah', al, ol', oR', ap', ab)) : wX_impact_72 post (nI a) (nI b) x3 z0 (nI b) (nI a) fr fk fa fl ac au ad ah al ol oR ap ab := by
  unfold wX_impact_72
  have hM := nk_l hK ha hb hz
  refine xu_set hK hR ha hb h0 hz0 (fun au' hR' => ?_)
  refine xl_learn hM hR' (Or.inl rfl) (fun fk' ad' ah' ol' oR' ap' h1 hT => ?_)
  exact xi_85 hK hM rfl hR' hB hT.2.1 ha hb h0 hx (fun au'' hR'' => hp 0 au'' ad' ah' ol' oR' ap' rfl hR'')
theorem xi_imp_t (hK : nn_K N) (hR : xx_R N fr ac au al) (hk : xx_k N fk ad ah ol oR ap) {a b z : Nat} (ha : a < 7) (hb : b < 7) (h0 : 0 < N.1 (7 * a + b)) (hz : z = 1 - N.2.1 (7 * a + b)) (hp : ∀ fk' au' ad' ah' ol' oR' ap' ab', fk' = 0 → xx_R (N.1, zz_u (zz_u N.2.1 a b z) a b (N.2.1 (7 * a + b)), N.2.2) fr ac au' al → post (nI (zz_n (zz_P3 N (N.1, zz_u N.2.1 a b z, N.2.2)) 49)) (fr, fk', fa, fl, ac, au', ad', ah', al, ol', oR', ap', ab')) : wpX_impact post (fr, fk, fa, fl, ac, au, ad, ah, al, ol, oR, ap, ab) (nI a) (nI b) := by
  have hl := (hK.1 a b ha hb).2.2.2
  unfold wpX_impact
  refine xk_t hK hR ha hb h0 (br_f iz_10 (xl_learn hK hR hk (fun fk' ad' ah' ol' oR' ap' h1 hT => ?_)))
  refine loop_0 (fun n i (f : Nat → Int32) => wX_impact_17 post (nI a) (nI b) fr fk' fa fl n (nI i) ac au ad' ah' al ol' oR' ap' f) (fun i f => ∀ s d, s < 7 → d < 7 → 7 * s + d < i → f (7 * s + d) = zz_h (nn_h N d s)) 49 ab (fun s d _ _ hc => absurd hc (Nat.not_lt_zero _)) ?_ ?_
  · intro n f hI
    have hB : xx_H N f := fun s d hs hd => hI s d hs hd (by omega)
    have hbit : ((au a >>> (nI b &&& 31)) &&& 1 = 0) ↔ N.2.1 (7 * a + b) = 0 := by
      obtain ⟨q, m, r1, r2, r3, r4, r5, r6, r7, r8⟩ := hR
      rw [r5 a ha, bm_one _ (r2 a ha) b hb, r7 a b ha hb, decide_eq_true h0, Bool.true_and, decide_eq_false_iff_not, Decidable.not_not]
    refine br_t (nI_le (a := 49) (Nat.le_refl 49) (by decide)) ⟨vp_in_nI ha (by decide), ?_⟩
    rw [nI_clamp (show a < 2 ^ 31 by omega)]
    refine ek_if hbit (fun e => ?_) (fun e => ?_)
    · refine br_t rfl (xi_72 hK hR hB ha hb h0 (z := z) (y := N.2.1 (7 * a + b)) (by omega) ?_ ?_ (fun fk2 au2 ad2 ah2 ol2 oR2 ap2 e2 hR2 => hp _ _ _ _ _ _ _ _ e2 hR2))
      · exact ⟨fun _ => e, fun _ => rfl⟩
      · exact ⟨fun h => absurd h iz_10, fun h => by omega⟩
    · refine br_f iz_10 (xi_72 hK hR hB ha hb h0 (z := z) (y := N.2.1 (7 * a + b)) (by omega) ?_ ?_ (fun fk2 au2 ad2 ah2 ol2 oR2 ap2 e2 hR2 => hp _ _ _ _ _ _ _ _ e2 hR2))
      · exact ⟨fun h => absurd h iz_10, fun h => absurd h e⟩
      · exact ⟨fun _ => by omega, fun _ => rfl⟩
  · intro n i f hi hI K
    have s7 : i / 7 < 7 := by omega
    have d7 : i % 7 < 7 := by omega
    have h8 : nn_h N (i % 7) (i / 7) < 8 := by
      rcases nn_h8 hK d7 (s := i / 7) with h7 | h7 <;> omega
    have hah : ah' i = zz_h (nn_h N (i % 7) (i / 7)) := by
      have := hT.2.1 (i / 7) (i % 7) s7 d7
      rw [show 7 * (i / 7) + i % 7 = i by omega] at this
      exact this
    refine br_f (nI_ge (b := 49) hi (by decide)) ⟨vp_in_nI hi (by decide), vp_in_nI hi (by decide), nm_r (e' := upd f i (zz_h (nn_h N (i % 7) (i / 7)))) (by rw [nI_clamp (by omega), hah, bm_hc h8]) (nm_r (nI_1 i) (K _ (fun s d hs hd hc => ?_)))⟩
    by_cases e : 7 * s + d = i
    · rw [e, pk_us, show i % 7 = d by omega, show i / 7 = s by omega]
    · rw [pk_un e]; exact hI s d hs hd (by omega)
theorem xi_imp_f (hR : xx_R N fr ac au al) {x y : Int32} (hn : ¬ zz_L N x y) (h : post 0 (fr, fk, fa, fl, ac, au, ad, ah, al, ol, oR, ap, ab)) : wpX_impact post (fr, fk, fa, fl, ac, au, ad, ah, al, ol, oR, ap, ab) x y := by
  unfold wpX_impact
  exact xk_f hR hn (br_t rfl h)
end
/-! the constructors -/
theorem ci_x {post : SX → Prop} (hp : ∀ al, (∀ r d, r < 7 → d < 7 → al (7 * r + d) = nI (lb_f r d)) → post (127, 0, 0, 0, (fun _ => 0), (fun _ => 0), (fun _ => 0), (fun _ => 0), al, (fun _ => 0), (fun _ => 0), (fun _ => 0), (fun _ => 0))) : wpX_init post := by
  refine loop_0 (fun n i (f : Nat → Int32) => wX_init_84 post 127 0 0 0 n (nI i) (fun _ => 0) (fun _ => 0) (fun _ => 0) (fun _ => 0) f (fun _ => 0) (fun _ => 0) (fun _ => 0) (fun _ => 0)) (fun i f => ∀ r d, r < i → r < 7 → d < 7 → f (7 * r + d) = nI (lb_f r d)) 7 (fun _ => 0) (fun r d hr => absurd hr (Nat.not_lt_zero r)) ?_ ?_
  · intro n f hI
    exact br_t (iz_le7 (Nat.le_refl 7) (by decide)) (hp f (fun r d hr hd => hI r d hr hr hd))
  · intro n i f hi hI K
    refine br_f (iz_lt7 hi) ?_
    refine loop_0 (fun m j (g : Nat → Int32) => wX_init_92 post (wX_init_84 post 127 0 0 0 n) (nI i) 127 0 0 0 m (nI j) (fun _ => 0) (fun _ => 0) (fun _ => 0) (fun _ => 0) g (fun _ => 0) (fun _ => 0) (fun _ => 0) (fun _ => 0)) (fun j g => (∀ r d, r < i → r < 7 → d < 7 → g (7 * r + d) = nI (lb_f r d)) ∧ ∀ d, d < j → d < 7 → g (7 * i + d) = nI (lb_f i d)) 7 f ⟨hI, fun d hd => absurd hd (Nat.not_lt_zero d)⟩ ?_ ?_
    · intro m g hJ
      refine br_t (iz_le7 (Nat.le_refl 7) (by decide)) (nm_r (nI_1 i) (K g (fun r d hr hr7 hd => ?_)))
      by_cases e : r = i
      · subst e; exact hJ.2 d hd hd
      · exact hJ.1 r d (by omega) hr7 hd
    · intro m j g hj hJ K2
      refine br_f (iz_lt7 hj) ⟨iz_7, zx_in hi hj, nm_r (e' := upd g (7 * i + j) (nI (lb_f i j))) (by rw [zx_cl hi hj, lb_init hi hj]) (nm_r (nI_1 j) (K2 _ ⟨fun r d hr hr7 hd => ?_, fun d hd hd7 => ?_⟩))⟩
      · rw [pk_un (by omega)]; exact hJ.1 r d hr hr7 hd
      · by_cases e : d = j
        · rw [e, pk_us]
        · rw [pk_un (by omega)]; exact hJ.2 d (by omega) hd7
theorem ci_y {post : SY → Prop} (hp : ∀ ao, (∀ i, i < 7 → ao i = nI 1) → post ((fun _ => 0), (fun _ => 0), ao, (fun _ => 0), (fun _ => 0))) : wpY_init post := by
  refine loop_0 (fun n i (f : Nat → Int32) => wY_init_46 post n (nI i) (fun _ => 0) (fun _ => 0) f (fun _ => 0) (fun _ => 0)) (fun i f => ∀ j, j < i → f j = nI 1) 7 (fun _ => 0) (fun j hj => absurd hj (Nat.not_lt_zero j)) ?_ ?_
  · intro n f hI
    exact br_t (iz_le7 (Nat.le_refl 7) (by decide)) (hp f hI)
  · intro n i f hi hI K
    refine br_f (iz_lt7 hi) ⟨vp_in_nI hi (by decide), nm_r (e' := upd f i (nI 1)) (by rw [nI_clamp (by omega), bm_z1]; rfl) (nm_r (nI_1 i) (K _ (fun j hj => ?_)))⟩
    by_cases e : j = i
    · rw [e, pk_us]
    · rw [pk_un e]; exact hI j (by omega)
end
section
/-! ## the relation and what is owed -/
/-- one network behind both states; if the component's tables are known, they are that network's -/
def i_Rel (k : Nat) (u : SX) (v : SY) : Prop :=
  ∃ N : nn_N, nn_K N ∧ (match u with | (fr, fk, _, _, ac, au, ad, ah, al, ol, oR, ap, _) => xx_R N fr ac au al ∧ xx_k N fk ad ah ol oR ap) ∧ (match v with | (ap, al, ao, _, _) => yy_R N ap al ao)
theorem i_up {k : Nat} {u : SX} {v : SY} (h : i_Rel k u v) : i_Rel (k + 4) u v := h
theorem ir_mk {k : Nat} {N : nn_N} {fr fk fa fl : Int32} {ac au ad ah al ol oR ap ab bp bl bo bd bb : Nat → Int32} (hK : nn_K N) (hX : xx_R N fr ac au al) (hk : xx_k N fk ad ah ol oR ap) (hY : yy_R N bp bl bo) : i_Rel k (fr, fk, fa, fl, ac, au, ad, ah, al, ol, oR, ap, ab) (bp, bl, bo, bd, bb) := ⟨N, hK, ⟨hX, hk⟩, hY⟩
theorem ir_el {k : Nat} {P : SX → SY → Prop} {u : SX} {v : SY} (I : i_Rel k u v) (h : ∀ (N : nn_N) (fr fk fa fl : Int32) (ac au ad ah al ol oR ap ab bp bl bo bd bb : Nat → Int32), nn_K N → xx_R N fr ac au al → xx_k N fk ad ah ol oR ap → yy_R N bp bl bo → P (fr, fk, fa, fl, ac, au, ad, ah, al, ol, oR, ap, ab) (bp, bl, bo, bd, bb)) : P u v := by
  obtain ⟨fr, fk, fa, fl, ac, au, ad, ah, al, ol, oR, ap, ab⟩ := u
  obtain ⟨bp, bl, bo, bd, bb⟩ := v
  obtain ⟨N, hK, ⟨hX, hk⟩, hY⟩ := I
  exact h N fr fk fa fl ac au ad ah al ol oR ap ab bp bl bo bd bb hK hX hk hY
theorem ir_bz (v : Int32) : ∃ z : Nat, z ≤ 1 ∧ lw_bz v = nI z := by
  rcases lw_bz_01 v with h | h
  · exact ⟨0, by decide, h⟩
  · exact ⟨1, by decide, h⟩
theorem ir_z0 {z : Nat} (hz : z ≤ 1) : nI z = 0 ↔ z = 0 := nI_eq (b := 0) (by omega) (by decide)
theorem i_vc0 : wpX_init (fun u => wpY_init (fun v => i_Rel 0 u v)) := by
  refine ci_x (fun al hal => ci_y (fun ao hao => ?_))
  refine ir_mk (N := (fun _ => 0, fun _ => 0, fun _ => 1)) ⟨fun a b _ _ => ⟨Nat.zero_le _, rfl, rfl, Nat.zero_le _⟩, fun a _ => ⟨rfl, Nat.le_refl 1⟩⟩ ⟨127, fun _ => 0, by decide, fun _ _ => Nat.zero_lt_succ 127, rfl, fun _ _ => rfl, fun _ _ => rfl, ?_, ?_, hal⟩ (Or.inl rfl) ⟨fun _ _ => ⟨rfl, rfl⟩, hao⟩
  · intro a ha
    have h : ∀ a, a < 7 → (127 : Nat).testBit a = true := by decide
    rw [h a ha]
    rfl
  · intro a b ha hb
    show (0 : Nat).testBit b = false
    exact Nat.zero_testBit b
theorem i_vc_join {k : Nat} {u : SX} {v : SY} (I : i_Rel k u v) (hk : k + 4 ≤ 2048) (v1 : Int32) (v2 : Int32) (v3 : Int32) : wpX_join (fun r u' => wpY_join (fun r' v' => r' = r ∧ i_Rel (k + 4) u' v') v v1 v2 v3) u v1 v2 v3 := by
  refine ir_el (P := fun u v => wpX_join (fun r u' => wpY_join (fun r' v' => r' = r ∧ i_Rel (k + 4) u' v') v v1 v2 v3) u v1 v2 v3) I ?_
  intro N fr fk fa fl ac au ad ah al ol oR ap ab bp bl bo bd bb hK hX hk' hY
  by_cases hJ : zz_J v1 v2 v3
  · obtain ⟨a, b, c, ha, hb, hne, h1, h9, rfl, rfl, rfl⟩ := hJ
    exact xm_join_t hX ha hb hne h1 h9 (fun ac' au' hX' => ym_join_t hY ha hb hne h1 h9 (fun bp' bl' hY' => ⟨rfl, ir_mk (nk_l (nk_p hK ha hb hne h9) ha hb (Nat.le_refl 1)) hX' (Or.inl rfl) hY'⟩))
  · exact xm_join_f hJ (ym_join_f hJ ⟨rfl, ir_mk hK hX hk' hY⟩)
theorem i_vc_cut {k : Nat} {u : SX} {v : SY} (I : i_Rel k u v) (hk : k + 4 ≤ 2048) (v1 : Int32) (v2 : Int32) : wpX_cut (fun r u' => wpY_cut (fun r' v' => r' = r ∧ i_Rel (k + 4) u' v') v v1 v2) u v1 v2 := by
  refine ir_el (P := fun u v => wpX_cut (fun r u' => wpY_cut (fun r' v' => r' = r ∧ i_Rel (k + 4) u' v') v v1 v2) u v1 v2) I ?_
  intro N fr fk fa fl ac au ad ah al ol oR ap ab bp bl bo bd bb hK hX hk' hY
  by_cases hL : zz_L N v1 v2
  · obtain ⟨a, b, ha, hb, h0, rfl, rfl⟩ := hL
    exact xm_cut_t hK hX ha hb h0 (fun ac' au' hX' => ym_cut_t hK hY ha hb h0 (fun bp' hY' => ⟨rfl, ir_mk (nk_p hK ha hb (zz_Lne hK ha h0) (Nat.zero_le 9)) hX' (Or.inl rfl) hY'⟩))
  · exact xm_cut_f hX hL (ym_cut_f hY hL ⟨rfl, ir_mk hK hX hk' hY⟩)
theorem i_vc_setLink {k : Nat} {u : SX} {v : SY} (I : i_Rel k u v) (hk : k + 4 ≤ 2048) (v1 : Int32) (v2 : Int32) (v3 : Int32) : wpX_setLink (fun r u' => wpY_setLink (fun r' v' => r' = r ∧ i_Rel (k + 4) u' v') v v1 v2 (lw_bz v3)) u v1 v2 (lw_bz v3) := by
  obtain ⟨z, hz, ez⟩ := ir_bz v3
  rw [ez]
  refine ir_el (P := fun u v => wpX_setLink (fun r u' => wpY_setLink (fun r' v' => r' = r ∧ i_Rel (k + 4) u' v') v v1 v2 (nI z)) u v1 v2 (nI z)) I ?_
  intro N fr fk fa fl ac au ad ah al ol oR ap ab bp bl bo bd bb hK hX hk' hY
  by_cases hL : zz_L N v1 v2
  · obtain ⟨a, b, ha, hb, h0, rfl, rfl⟩ := hL
    exact xm_setLink_t hK hX ha hb h0 (ir_z0 hz) (fun au' hX' => ym_setLink_t hK hY ha hb h0 hz (fun bl' hY' => ⟨rfl, ir_mk (nk_l hK ha hb hz) hX' (Or.inl rfl) hY'⟩))
  · exact xm_setLink_f hX hL (ym_setLink_f hY hL ⟨rfl, ir_mk hK hX hk' hY⟩)
theorem i_vc_setRouter {k : Nat} {u : SX} {v : SY} (I : i_Rel k u v) (hk : k + 4 ≤ 2048) (v1 : Int32) (v2 : Int32) : wpX_setRouter (fun r u' => wpY_setRouter (fun r' v' => r' = r ∧ i_Rel (k + 4) u' v') v v1 (lw_bz v2)) u v1 (lw_bz v2) := by
  obtain ⟨z, hz, ez⟩ := ir_bz v2
  rw [ez]
  refine ir_el (P := fun u v => wpX_setRouter (fun r u' => wpY_setRouter (fun r' v' => r' = r ∧ i_Rel (k + 4) u' v') v v1 (nI z)) u v1 (nI z)) I ?_
  intro N fr fk fa fl ac au ad ah al ol oR ap ab bp bl bo bd bb hK hX hk' hY
  rcases zz_sp v1 with hx | ⟨a, ha, rfl⟩
  · exact xm_setRouter_f hx (ym_setRouter_f hx ⟨rfl, ir_mk hK hX hk' hY⟩)
  · exact xm_setRouter_t hX ha (ir_z0 hz) (fun fr' hX' => ym_setRouter_t hY ha hz (fun bo' hY' => ⟨rfl, ir_mk (nk_o hK hz) hX' (Or.inl rfl) hY'⟩))
theorem i_vc_cost {k : Nat} {u : SX} {v : SY} (I : i_Rel k u v) (hk : k + 4 ≤ 2048) (v1 : Int32) (v2 : Int32) : wpX_cost (fun r => wpY_cost (fun r' => r' = r ∧ i_Rel (k + 4) u v) v v1 v2) u v1 v2 := by
  refine ir_el (P := fun u v => wpX_cost (fun r => wpY_cost (fun r' => r' = r ∧ i_Rel (k + 4) u v) v v1 v2) u v1 v2) I ?_
  intro N fr fk fa fl ac au ad ah al ol oR ap ab bp bl bo bd bb hK hX hk' hY
  by_cases hL : zz_L N v1 v2
  · obtain ⟨a, b, ha, hb, h0, rfl, rfl⟩ := hL
    unfold wpX_cost wpY_cost
    refine xk_t hK hX ha hb h0 (br_f iz_10 ⟨zx_in ha hb, ?_⟩)
    refine yk_t hK hY ha hb h0 (br_f iz_10 ⟨zy_in ha hb, ?_, ir_mk hK hX hk' hY⟩)
    obtain ⟨q, m, r1, r2, r3, r4, _⟩ := hX
    rw [zx_cl ha hb, zy_cl ha hb, r4 _ (by omega), (hY.1 _ (by omega)).1]
  · unfold wpX_cost wpY_cost
    exact xk_f hX hL (br_t rfl (yk_f hY hL (br_t rfl ⟨rfl, ir_mk hK hX hk' hY⟩)))
theorem i_vc_distance {k : Nat} {u : SX} {v : SY} (I : i_Rel k u v) (hk : k + 4 ≤ 2048) (v1 : Int32) (v2 : Int32) : wpX_distance (fun r u' => wpY_distance (fun r' v' => r' = r ∧ i_Rel (k + 4) u' v') v v1 v2) u v1 v2 := by
  refine ir_el (P := fun u v => wpX_distance (fun r u' => wpY_distance (fun r' v' => r' = r ∧ i_Rel (k + 4) u' v') v v1 v2) u v1 v2) I ?_
  intro N fr fk fa fl ac au ad ah al ol oR ap ab bp bl bo bd bb hK hX hk' hY
  by_cases hC : zz_C N v1 v2
  · obtain ⟨s, d, hs, hd, ht, rfl, rfl⟩ := hC
    exact xs_dist_t hK hX hk' hs hd ht (fun fk' ad' ah' ol' oR' ap' h => ym_dist_t hK hY hs hd ht (fun bd' => ⟨rfl, ir_mk hK hX h hY⟩))
  · exact xs_dist_f hK hX hk' hC (fun fk' ad' ah' ol' oR' ap' h => ym_dist_f hK hY hC (fun bd' => ⟨rfl, ir_mk hK hX h hY⟩))
theorem i_vc_nextHop {k : Nat} {u : SX} {v : SY} (I : i_Rel k u v) (hk : k + 4 ≤ 2048) (v1 : Int32) (v2 : Int32) : wpX_nextHop (fun r u' => wpY_nextHop (fun r' v' => r' = r ∧ i_Rel (k + 4) u' v') v v1 v2) u v1 v2 := by
  refine ir_el (P := fun u v => wpX_nextHop (fun r u' => wpY_nextHop (fun r' v' => r' = r ∧ i_Rel (k + 4) u' v') v v1 v2) u v1 v2) I ?_
  intro N fr fk fa fl ac au ad ah al ol oR ap ab bp bl bo bd bb hK hX hk' hY
  by_cases hC : zz_C N v1 v2
  · obtain ⟨s, d, hs, hd, ht, rfl, rfl⟩ := hC
    by_cases e : s = d
    · refine xs_next_t hK hX hk' hs hd ht (fun fk' ad' ah' ol' oR' ap' h => ym_next_f hK hY (fun hh => hh.1 (congrArg nI e)) (fun bd' => ⟨?_, ir_mk hK hX h hY⟩))
      rw [nn_h7 (fun hh => hh.1 e)]
      rfl
    · refine xs_next_t hK hX hk' hs hd ht (fun fk' ad' ah' ol' oR' ap' h => ym_next_t hK hY hs hd e ht (fun bd' => ⟨?_, ir_mk hK hX h hY⟩))
      rw [zz_h1 (nn_hs hK hd e ht).1]
  · exact xs_next_f hK hX hk' hC (fun fk' ad' ah' ol' oR' ap' h => ym_next_f hK hY (fun hh => hC hh.2) (fun bd' => ⟨rfl, ir_mk hK hX h hY⟩))
theorem i_vc_hops {k : Nat} {u : SX} {v : SY} (I : i_Rel k u v) (hk : k + 4 ≤ 2048) (v1 : Int32) (v2 : Int32) : wpX_hops (fun r u' => wpY_hops (fun r' v' => r' = r ∧ i_Rel (k + 4) u' v') v v1 v2) u v1 v2 := by
  refine ir_el (P := fun u v => wpX_hops (fun r u' => wpY_hops (fun r' v' => r' = r ∧ i_Rel (k + 4) u' v') v v1 v2) u v1 v2) I ?_
  intro N fr fk fa fl ac au ad ah al ol oR ap ab bp bl bo bd bb hK hX hk' hY
  by_cases hC : zz_C N v1 v2
  · obtain ⟨s, d, hs, hd, ht, rfl, rfl⟩ := hC
    exact xh_hops_t hK hX hk' hs hd ht (fun fk' fa' fl' ad' ah' ol' oR' ap' h1 h => ym_hops_t hK hY hs hd ht (fun bd' => ⟨rfl, ir_mk hK hX (Or.inr ⟨h1, h⟩) hY⟩))
  · exact xh_hops_f hK hX hk' hC (fun fk' ad' ah' ol' oR' ap' h => ym_hops_f hK hY hC (fun bd' => ⟨rfl, ir_mk hK hX h hY⟩))
theorem i_vc_routeAt {k : Nat} {u : SX} {v : SY} (I : i_Rel k u v) (hk : k + 4 ≤ 2048) (v1 : Int32) (v2 : Int32) (v3 : Int32) : wpX_routeAt (fun r u' => wpY_routeAt (fun r' v' => r' = r ∧ i_Rel (k + 4) u' v') v v1 v2 v3) u v1 v2 v3 := by
  refine ir_el (P := fun u v => wpX_routeAt (fun r u' => wpY_routeAt (fun r' v' => r' = r ∧ i_Rel (k + 4) u' v') v v1 v2 v3) u v1 v2 v3) I ?_
  intro N fr fk fa fl ac au ad ah al ol oR ap ab bp bl bo bd bb hK hX hk' hY
  by_cases hC : zz_C N v1 v2
  · obtain ⟨s, d, hs, hd, ht, rfl, rfl⟩ := hC
    refine xh_routeAt_t hK hX hk' hs hd ht (fun hb fk' fa' fl' ad' ah' ol' oR' ap' h1 h => ?_) (fun hg1 hg2 fk' fa' fl' ad' ah' ol' oR' ap' h1 h => ?_)
    · refine ym_routeAt_t hK hY hs hd ht (fun _ bd' => ⟨rfl, ir_mk hK hX (Or.inr ⟨h1, h⟩) hY⟩) (fun hg1 hg2 => ?_)
      rcases hb with hb | hb
      · exact absurd hb hg1
      · exact absurd hb hg2
    · refine ym_routeAt_t hK hY hs hd ht (fun hb => ?_) (fun _ _ bd' => ⟨rfl, ir_mk hK hX (Or.inr ⟨h1, h⟩) hY⟩)
      rcases hb with hb | hb
      · exact absurd hb hg1
      · exact absurd hb hg2
  · exact xh_routeAt_f hK hX hk' hC (fun fk' ad' ah' ol' oR' ap' h => ym_routeAt_f hK hY hC (fun bd' => ⟨rfl, ir_mk hK hX h hY⟩))
theorem i_vc_after {k : Nat} {u : SX} {v : SY} (I : i_Rel k u v) (hk : k + 4 ≤ 2048) (v1 : Int32) (v2 : Int32) (v3 : Int32) : wpX_after (fun r u' => wpY_after (fun r' v' => r' = r ∧ i_Rel (k + 4) u' v') v v1 v2 v3) u v1 v2 v3 := by
  refine ir_el (P := fun u v => wpX_after (fun r u' => wpY_after (fun r' v' => r' = r ∧ i_Rel (k + 4) u' v') v v1 v2 v3) u v1 v2 v3) I ?_
  intro N fr fk fa fl ac au ad ah al ol oR ap ab bp bl bo bd bb hK hX hk' hY
  by_cases hC : zz_C N v1 v2
  · obtain ⟨s, d, hs, hd, ht, rfl, rfl⟩ := hC
    exact xh_after_t hK hX hk' hs hd ht (fun fk' fa' fl' ad' ah' ol' oR' ap' h1 h => ym_after_t hK hY hs hd ht (fun bd' => ⟨rfl, ir_mk hK hX (Or.inr ⟨h1, h⟩) hY⟩))
  · exact xh_after_f hK hX hk' hC (fun fk' ad' ah' ol' oR' ap' h => ym_after_f hK hY hC (fun bd' => ⟨rfl, ir_mk hK hX h hY⟩))
theorem i_vc_load {k : Nat} {u : SX} {v : SY} (I : i_Rel k u v) (hk : k + 4 ≤ 2048) (v1 : Int32) : wpX_load (fun r u' => wpY_load (fun r' v' => r' = r ∧ i_Rel (k + 4) u' v') v v1) u v1 := by
  refine ir_el (P := fun u v => wpX_load (fun r u' => wpY_load (fun r' v' => r' = r ∧ i_Rel (k + 4) u' v') v v1) u v1) I ?_
  intro N fr fk fa fl ac au ad ah al ol oR ap ab bp bl bo bd bb hK hX hk' hY
  exact xs_load hK hX hk' (fun fk' fa' fl' ad' ah' ol' oR' ap' h => ym_load hK hY (fun bd' => ⟨rfl, ir_mk hK hX h hY⟩))
theorem i_vc_linkLoad {k : Nat} {u : SX} {v : SY} (I : i_Rel k u v) (hk : k + 4 ≤ 2048) (v1 : Int32) (v2 : Int32) : wpX_linkLoad (fun r u' => wpY_linkLoad (fun r' v' => r' = r ∧ i_Rel (k + 4) u' v') v v1 v2) u v1 v2 := by
  refine ir_el (P := fun u v => wpX_linkLoad (fun r u' => wpY_linkLoad (fun r' v' => r' = r ∧ i_Rel (k + 4) u' v') v v1 v2) u v1 v2) I ?_
  intro N fr fk fa fl ac au ad ah al ol oR ap ab bp bl bo bd bb hK hX hk' hY
  by_cases hE : zz_E N v1 v2
  · obtain ⟨a, b, he, rfl, rfl⟩ := hE
    exact xs_link_t hK hX hk' he (fun fk' fa' fl' ad' ah' ol' oR' ap' h => ym_link_t hK hY he (fun bd' => ⟨rfl, ir_mk hK hX h hY⟩))
  · exact xs_link_f hK hX hE (ym_link_f hK hY hE (fun bd' => ⟨rfl, ir_mk hK hX hk' hY⟩))
theorem i_vc_reachable {k : Nat} {u : SX} {v : SY} (I : i_Rel k u v) (hk : k + 4 ≤ 2048) (v1 : Int32) : wpX_reachable (fun r u' => wpY_reachable (fun r' v' => r' = r ∧ i_Rel (k + 4) u' v') v v1) u v1 := by
  refine ir_el (P := fun u v => wpX_reachable (fun r u' => wpY_reachable (fun r' v' => r' = r ∧ i_Rel (k + 4) u' v') v v1) u v1) I ?_
  intro N fr fk fa fl ac au ad ah al ol oR ap ab bp bl bo bd bb hK hX hk' hY
  exact xs_reach hK hX hk' (fun fk' ad' ah' ol' oR' ap' h => ym_reach hK hY (fun bd' => ⟨rfl, ir_mk hK hX h hY⟩))
theorem i_vc_farthest {k : Nat} {u : SX} {v : SY} (I : i_Rel k u v) (hk : k + 4 ≤ 2048) (v1 : Int32) : wpX_farthest (fun r u' => wpY_farthest (fun r' v' => r' = r ∧ i_Rel (k + 4) u' v') v v1) u v1 := by
  refine ir_el (P := fun u v => wpX_farthest (fun r u' => wpY_farthest (fun r' v' => r' = r ∧ i_Rel (k + 4) u' v') v v1) u v1) I ?_
  intro N fr fk fa fl ac au ad ah al ol oR ap ab bp bl bo bd bb hK hX hk' hY
  by_cases hC : zz_C N v1 v1
  · obtain ⟨s, d, hs, hd, ht, e1, e2⟩ := hC
    have e3 := zz_inj hs hd (e1.symm.trans e2)
    subst e3
    subst e1
    exact xs_far_t hK hX hk' hs ht (fun fk' ad' ah' ol' oR' ap' h => ym_far_t hK hY hs ht (fun bd' => ⟨rfl, ir_mk hK hX h hY⟩))
  · refine xs_far_f hK hX hk' hC (fun fk' ad' ah' ol' oR' ap' h => ym_far_f hK hY (fun d hd hh => ?_) (fun bd' => ⟨rfl, ir_mk hK hX h hY⟩))
    obtain ⟨s, d', hs, hd', ht, e1, e2⟩ := hh
    obtain ⟨n1, n2⟩ := nn_ss hK hs
    by_cases h0 : N.2.2 s = 0
    · have := n2 h0 d' hd'
      omega
    · exact hC ⟨s, s, hs, hs, by rw [n1 h0]; decide, e1, e1⟩
theorem i_vc_impact {k : Nat} {u : SX} {v : SY} (I : i_Rel k u v) (hk : k + 4 ≤ 2048) (v1 : Int32) (v2 : Int32) : wpX_impact (fun r u' => wpY_impact (fun r' v' => r' = r ∧ i_Rel (k + 4) u' v') v v1 v2) u v1 v2 := by
  refine ir_el (P := fun u v => wpX_impact (fun r u' => wpY_impact (fun r' v' => r' = r ∧ i_Rel (k + 4) u' v') v v1 v2) u v1 v2) I ?_
  intro N fr fk fa fl ac au ad ah al ol oR ap ab bp bl bo bd bb hK hX hk' hY
  by_cases hL : zz_L N v1 v2
  · obtain ⟨a, b, ha, hb, h0, rfl, rfl⟩ := hL
    have hl := (hK.1 a b ha hb).2.2.2
    exact xi_imp_t hK hX hk' ha hb h0 rfl (fun fk' au' ad' ah' ol' oR' ap' ab' e hX' => ym_imp_t hK hY ha hb h0 rfl (fun bl' bd' bb' hY' => ⟨rfl, ir_mk (nk_l (nk_l hK ha hb (by omega)) ha hb hl) hX' (Or.inl e) hY'⟩))
  · exact xi_imp_f hX hL (ym_imp_f hY hL ⟨rfl, ir_mk hK hX hk' hY⟩)
end
