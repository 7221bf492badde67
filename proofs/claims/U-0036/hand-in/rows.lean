section
theorem pk_us {f : Nat → Int32} {k : Nat} {x : Int32} : upd f k x k = x := if_pos rfl
theorem pk_un {f : Nat → Int32} {k j : Nat} {x : Int32} (h : j ≠ k) : upd f k x j = f j := if_neg h
theorem pk_sub {a b : Nat} (h : b ≤ a) : nI a - nI b = nI (a - b) := by
  obtain ⟨c, rfl⟩ : ∃ c, a = c + b := ⟨a - b, by omega⟩
  rw [← nI_add, Int32.add_sub_cancel, Nat.add_sub_cancel]
theorem pk_m1 (n : Nat) : nI (n + 1) + (-1) = nI n := by
  rw [← nI_1, Int32.add_assoc, show (1 : Int32) + (-1) = 0 from rfl, Int32.add_zero]
theorem pk_mul (a b : Nat) : nI a * nI b = nI (a * b) := (Int32.ofNat_mul a b).symm
theorem pk_div {a d : Nat} (ha : a < 2 ^ 31) (h0 : 0 < d) (hd : d < 2 ^ 31) : nI a / nI d = nI (a / d) := by
  apply Int32.toInt_inj.mp
  rw [lg_idiv_nonneg (by rw [nI_toInt ha]; omega) (by rw [nI_toInt hd]; omega), nI_toInt ha, nI_toInt hd, nI_toInt (Nat.lt_of_le_of_lt (Nat.div_le_self a d) ha)]
  first | rfl | exact (Int.natCast_ediv _ _).symm
theorem pk_rem {a d : Nat} (ha : a < 2 ^ 31) (h0 : 0 < d) (hd : d < 2 ^ 31) : nI a - nI a / nI d * nI d = nI (a % d) := by
  rw [pk_div ha h0 hd, pk_mul, pk_sub (Nat.div_mul_le_self a d)]
  exact congrArg nI (by have := Nat.div_add_mod' a d; omega)
theorem pk_ix (x : Int32) {n : Nat} (hn : n < 2 ^ 31) : x < 0 ∨ nI n ≤ x ∨ ∃ j : Nat, j < n ∧ x = nI j := by
  by_cases h : x < 0
  · exact Or.inl h
  · obtain ⟨j, hj, rfl⟩ := nI_of h
    by_cases h2 : j < n
    · exact Or.inr (Or.inr ⟨j, h2, rfl⟩)
    · exact Or.inr (Or.inl (nI_le (by omega) hj))
theorem pk_le {x y : Int32} {A B : Prop} (a b : Nat) (f : a ≤ b → A) (g : b < a → B) (hx : x = nI a := by rfl) (hy : y = nI b := by rfl) (ha : a < 2 ^ 31 := by omega) (hb : b < 2 ^ 31 := by omega) : (x ≤ y → A) ∧ (¬ x ≤ y → B) := by
  subst hx hy
  rw [nI_leI ha hb]
  exact ⟨f, fun z => g (by omega)⟩
theorem pk_lt {x y : Int32} {A B : Prop} (a b : Nat) (f : a < b → A) (g : b ≤ a → B) (hx : x = nI a := by rfl) (hy : y = nI b := by rfl) (ha : a < 2 ^ 31 := by omega) (hb : b < 2 ^ 31 := by omega) : (x < y → A) ∧ (¬ x < y → B) := by
  subst hx hy
  rw [nI_ltI ha hb]
  exact ⟨f, fun z => g (by omega)⟩
theorem pk_eq {x y : Int32} {A B : Prop} (a b : Nat) (f : a = b → A) (g : a ≠ b → B) (hx : x = nI a := by rfl) (hy : y = nI b := by rfl) (ha : a < 2 ^ 31 := by omega) (hb : b < 2 ^ 31 := by omega) : (x = y → A) ∧ (¬ x = y → B) := by
  subst hx hy
  rw [nI_eq ha hb]
  exact ⟨f, g⟩
theorem pk_in {x : Int32} (n N : Nat) (h : n < N) (hx : x = nI n := by rfl) (hN : N < 2 ^ 31 := by omega) : vp_in x N := by
  subst hx
  exact vp_in_nI h hN
theorem pk_cl {x : Int32} (n : Nat) (hx : x = nI n := by rfl) (h : n < 2 ^ 31 := by omega) : x.toNatClampNeg = n := by
  subst hx
  exact nI_clamp h
theorem pk_tn {n : Nat} (h : n < 2 ^ 32) : (nI n).toBitVec.toNat = n := Nat.mod_eq_of_lt h
theorem pk_and (x : Int32) {m : Int32} (k : Nat) (hm : m.toBitVec.toNat = 2 ^ k - 1) : x &&& m = nI (x.toBitVec.toNat % 2 ^ k) := by
  apply Int32.toBitVec_inj.mp
  apply BitVec.eq_of_toNat_eq
  rw [Int32.toBitVec_and, BitVec.toNat_and, hm, Nat.and_two_pow_sub_one_eq_mod]
  show _ = (BitVec.ofNat 32 _).toNat
  rw [BitVec.toNat_ofNat]
  exact (Nat.mod_eq_of_lt (Nat.lt_of_le_of_lt (Nat.mod_le _ _) x.toBitVec.isLt)).symm
theorem pk_andN {n : Nat} (h : n < 2 ^ 32) {m : Int32} (k : Nat) (hm : m.toBitVec.toNat = 2 ^ k - 1) : nI n &&& m = nI (n % 2 ^ k) := by
  rw [pk_and _ k hm, pk_tn h]
theorem pk_shl (a s : Int32) (k : Nat) (hs : (s.toBitVec.smod 32).toNat = k) : (a <<< s).toBitVec.toNat = a.toBitVec.toNat * 2 ^ k % 2 ^ 32 := by
  show (a.toBitVec <<< (s.toBitVec.smod 32).toNat).toNat = _
  rw [hs, BitVec.toNat_shiftLeft, Nat.shiftLeft_eq]
theorem pk_shlN {n : Nat} (s : Int32) (k : Nat) (hs : (s.toBitVec.smod 32).toNat = k) (h : n * 2 ^ k < 2 ^ 32) : nI n <<< s = nI (n * 2 ^ k) := by
  apply Int32.toBitVec_inj.mp
  apply BitVec.eq_of_toNat_eq
  have hn : n < 2 ^ 32 := Nat.lt_of_le_of_lt (Nat.le_mul_of_pos_right n (Nat.two_pow_pos k)) h
  rw [pk_shl _ _ k hs, pk_tn hn, pk_tn h, Nat.mod_eq_of_lt h]
theorem pk_shr (a s : Int32) (k : Nat) (hs : (s.toBitVec.smod 32).toNat = k) : (a >>> s).toInt = a.toInt >>> k := by
  show (a.toBitVec.sshiftRight (s.toBitVec.smod 32).toNat).toInt = _
  rw [hs, BitVec.toInt_sshiftRight]
  rfl
theorem pk_shrN {n : Nat} (h : n < 2 ^ 31) (s : Int32) (k : Nat) (hs : (s.toBitVec.smod 32).toNat = k) : nI n >>> s = nI (n / 2 ^ k) := by
  apply Int32.toInt_inj.mp
  have h2 : n / 2 ^ k ≤ n := Nat.div_le_self _ _
  rw [pk_shr _ _ k hs, nI_toInt h, nI_toInt (by omega), Int.shiftRight_eq_div_pow]
  rfl
end
section
/-! counting: kc_n P n is the number of i below n with P i; counts over injective lists of slots agree -/
def kc_n (P : Nat → Bool) : Nat → Nat
  | 0 => 0
  | n + 1 => kc_n P n + (if P n = true then 1 else 0)
theorem kc_n_congr {P P' : Nat → Bool} : ∀ n, (∀ i, i < n → P i = P' i) → kc_n P n = kc_n P' n := by
  intro n
  induction n with
  | zero => intro _; rfl
  | succ n ih =>
    intro h
    show kc_n P n + _ = kc_n P' n + _
    rw [ih (fun i hi => h i (by omega)), h n (by omega)]
theorem kc_n_all {P : Nat → Bool} : ∀ n, (∀ i, i < n → P i = true) → kc_n P n = n := by
  intro n
  induction n with
  | zero => intro _; rfl
  | succ n ih =>
    intro h
    show kc_n P n + _ = _
    rw [ih (fun i hi => h i (by omega)), if_pos (h n (by omega))]
theorem kc_n_bd {P : Nat → Bool} : ∀ n, kc_n P n ≤ n := by
  intro n
  induction n with
  | zero => exact Nat.le_refl _
  | succ n ih =>
    show kc_n P n + _ ≤ _
    split <;> omega
theorem kc_n_mono {P P' : Nat → Bool} : ∀ n, (∀ i, i < n → P i = true → P' i = true) → kc_n P n ≤ kc_n P' n := by
  intro n
  induction n with
  | zero => intro _; exact Nat.le_refl _
  | succ n ih =>
    intro h
    have a := ih (fun i hi => h i (by omega))
    have b := h n (by omega)
    show kc_n P n + (if P n = true then 1 else 0) ≤ kc_n P' n + (if P' n = true then 1 else 0)
    by_cases c : P n = true
    · rw [if_pos c, if_pos (b c)]; omega
    · rw [if_neg c]; omega
theorem kc_n_lt {P P' : Nat → Bool} : ∀ n x0, x0 < n → P x0 = true → P' x0 = false → (∀ i, i < n → P' i = true → P i = true) → kc_n P' n + 1 ≤ kc_n P n := by
  intro n
  induction n with
  | zero => intro x0 h0; omega
  | succ n ih =>
    intro x0 h0 hp hp' h
    show kc_n P' n + (if P' n = true then 1 else 0) + 1 ≤ kc_n P n + (if P n = true then 1 else 0)
    by_cases e : x0 = n
    · subst e
      have a := kc_n_mono (P := P') (P' := P) x0 (fun i hi => h i (by omega))
      rw [if_pos hp, hp', if_neg (by decide)]
      omega
    · have a := ih x0 (by omega) hp hp' (fun i hi => h i (by omega))
      have b := h n (by omega)
      by_cases c : P' n = true
      · rw [if_pos c, if_pos (b c)]; omega
      · rw [if_neg c]; omega
theorem kc_n_flip {P P' : Nat → Bool} : ∀ n x0, x0 < n → P x0 = false → P' x0 = true → (∀ i, i < n → i ≠ x0 → P' i = P i) → kc_n P' n = kc_n P n + 1 := by
  intro n
  induction n with
  | zero => intro x0 h0; omega
  | succ n ih =>
    intro x0 h0 hp hp' h
    show kc_n P' n + (if P' n = true then 1 else 0) = kc_n P n + (if P n = true then 1 else 0) + 1
    by_cases e : x0 = n
    · subst e
      rw [kc_n_congr (P := P') (P' := P) x0 (fun i hi => h i (by omega) (by omega)), hp, hp', if_pos rfl, if_neg (by decide)]
    · rw [ih x0 (by omega) hp hp' (fun i hi hn => h i (by omega) hn), h n (by omega) (fun z => e z.symm)]
      omega
theorem kc_n_pos {P : Nat → Bool} : ∀ n, 0 < kc_n P n → ∃ i, i < n ∧ P i = true := by
  intro n
  induction n with
  | zero => intro h; exact absurd h (Nat.lt_irrefl _)
  | succ n ih =>
    intro h
    by_cases c : P n = true
    · exact ⟨n, by omega, c⟩
    · have h' : 0 < kc_n P n + (if P n = true then 1 else 0) := h
      rw [if_neg c] at h'
      obtain ⟨i, hi, hp⟩ := ih (by omega)
      exact ⟨i, by omega, hp⟩
theorem kc_inj_le (σ τ : Nat → Nat) (N : Nat) : ∀ (m : Nat) (P : Nat → Bool), (∀ i j, i < m → j < m → σ i = σ j → i = j) → (∀ i, i < m → P (σ i) = true → ∃ x, x < N ∧ τ x = σ i) → kc_n (fun i => P (σ i)) m ≤ kc_n (fun x => P (τ x)) N := by
  intro m
  induction m with
  | zero => intro P _ _; exact Nat.zero_le _
  | succ m ih =>
    intro P hi hx
    show kc_n (fun i => P (σ i)) m + (if P (σ m) = true then 1 else 0) ≤ _
    by_cases c : P (σ m) = true
    · obtain ⟨x0, h0, e0⟩ := hx m (by omega) c
      have a := ih (fun s => P s && !decide (s = σ m)) (fun i j h1 h2 => hi i j (by omega) (by omega)) (fun i h1 h2 => hx i (by omega) (by
        have h3 : (P (σ i) && !decide (σ i = σ m)) = true := h2
        rw [Bool.and_eq_true] at h3
        exact h3.1))
      have a' : kc_n (fun i => (fun s => P s && !decide (s = σ m)) (σ i)) m ≤ kc_n (fun x => (fun s => P s && !decide (s = σ m)) (τ x)) N := a
      have b : kc_n (fun i => (fun s => P s && !decide (s = σ m)) (σ i)) m = kc_n (fun i => P (σ i)) m := kc_n_congr m (fun i h1 => by
        have hne : ¬ σ i = σ m := fun z => by
          have := hi i m (by omega) (by omega) z
          omega
        show (P (σ i) && !decide (σ i = σ m)) = P (σ i)
        rw [decide_eq_false hne]
        simp)
      have d := kc_n_lt (P := fun x => P (τ x)) (P' := fun x => (fun s => P s && !decide (s = σ m)) (τ x)) N x0 h0 (by
        show P (τ x0) = true
        rw [e0]; exact c) (by
        show (P (τ x0) && !decide (τ x0 = σ m)) = false
        rw [e0, decide_eq_true rfl]; simp) (fun i _ h2 => by
        have h3 : (P (τ i) && !decide (τ i = σ m)) = true := h2
        rw [Bool.and_eq_true] at h3
        exact h3.1)
      rw [if_pos c]
      rw [b] at a'
      exact Nat.le_trans (Nat.add_le_add_right a' 1) d
    · rw [if_neg c]
      exact ih P (fun i j h1 h2 => hi i j (by omega) (by omega)) (fun i h1 => hx i (by omega))
theorem kc_inj_eq (σ τ : Nat → Nat) (N m : Nat) (P : Nat → Bool) (hs : ∀ i j, i < m → j < m → σ i = σ j → i = j) (ht : ∀ i j, i < N → j < N → τ i = τ j → i = j) (h1 : ∀ i, i < m → P (σ i) = true → ∃ x, x < N ∧ τ x = σ i) (h2 : ∀ x, x < N → P (τ x) = true → ∃ i, i < m ∧ σ i = τ x) : kc_n (fun i => P (σ i)) m = kc_n (fun x => P (τ x)) N :=
  Nat.le_antisymm (kc_inj_le σ τ N m P hs h1) (kc_inj_le τ σ m N P ht h2)
/-! names and slots -/
def kc_nm (N R k a b : Nat) : Prop := b < N ∧ ((k < 3 ∧ 1 ≤ a ∧ a ≤ R) ∨ (k = 3 ∧ a < N ∧ a ≠ b))
def kc_vs (N R s : Nat) : Prop := s < 180 ∧ kc_nm N R (s / 45) (s % 45 / 5) (s % 5)
def kc_vb (s : Nat) : Bool := decide (s % 5 < 5 ∧ ((s / 45 < 3 ∧ 1 ≤ s % 45 / 5 ∧ s % 45 / 5 ≤ 8) ∨ (s / 45 = 3 ∧ s % 45 / 5 < 5 ∧ s % 45 / 5 ≠ s % 5)))
theorem kc_140 : kc_n kc_vb 180 = 140 := by decide +kernel
theorem kc_vs_vb {N R s : Nat} (hN : N ≤ 5) (hR : R ≤ 8) (h : kc_vs N R s) : kc_vb s = true := by
  unfold kc_vs kc_nm at h
  unfold kc_vb
  rw [decide_eq_true_eq]
  omega
theorem kc_bound {N R m : Nat} {σ : Nat → Nat} (hN : N ≤ 5) (hR : R ≤ 8) (hv : ∀ i, i < m → kc_vs N R (σ i)) (hi : ∀ i j, i < m → j < m → σ i = σ j → i = j) : m ≤ 140 := by
  have a := kc_inj_le σ (fun x => x) 180 m kc_vb hi (fun i h _ => ⟨σ i, (hv i h).1, rfl⟩)
  have b : kc_n (fun i => kc_vb (σ i)) m = m := kc_n_all m (fun i h => kc_vs_vb hN hR (hv i h))
  rw [b] at a
  exact Nat.le_trans a (Nat.le_of_eq kc_140)
theorem kc_sp {k a b : Nat} (ha : a ≤ 8) (hb : b < 5) : (k * 45 + a * 5 + b) / 45 = k ∧ (k * 45 + a * 5 + b) % 45 / 5 = a ∧ (k * 45 + a * 5 + b) % 5 = b := by omega
theorem kc_nm_vs {N R k a b s : Nat} (hN : N ≤ 5) (hR : R ≤ 8) (h : kc_nm N R k a b) (hs : s = k * 45 + a * 5 + b) : kc_vs N R s ∧ s < 180 ∧ s / 45 = k ∧ s % 45 / 5 = a ∧ s % 5 = b := by
  unfold kc_nm at h
  subst hs
  obtain ⟨e1, e2, e3⟩ := kc_sp (k := k) (a := a) (b := b) (by omega) (by omega)
  unfold kc_vs kc_nm
  rw [e1, e2, e3]
  omega
theorem kc_vs_eq {N R s : Nat} (h : kc_vs N R s) : s = s / 45 * 45 + s % 45 / 5 * 5 + s % 5 := by omega
/-! coordinators, addressees, senders -/
def kc_cd (N r : Nat) : Nat := (r - 1) % N
def kc_ad (N s : Nat) : Nat := if s / 45 = 0 ∨ s / 45 = 2 then kc_cd N (s % 45 / 5) else s % 5
def kc_sd (N s : Nat) : Nat := if s / 45 = 1 then kc_cd N (s % 45 / 5) else if s / 45 = 3 then s % 45 / 5 else s % 5
theorem kc_cd_lt {N r : Nat} (h : 3 ≤ N) : kc_cd N r < N := Nat.mod_lt _ (by omega)
theorem kc_ad_lt {N R s : Nat} (h : 3 ≤ N) (hv : kc_vs N R s) : kc_ad N s < N := by
  unfold kc_ad
  split
  · exact kc_cd_lt h
  · exact hv.2.1
end
section
/-! the pool: message i of the list stands in slot σ i -/
def kc_PQ (N R : Nat) (fa co : Nat → Int32) (m : Nat) (K A B C F : Nat → Int32) (σ : Nat → Nat) : Prop :=
  (∀ i, i < m → kc_vs N R (σ i) ∧ K i = nI (σ i / 45) ∧ A i = nI (σ i % 45 / 5) ∧ B i = nI (σ i % 5) ∧ C i = co (σ i) ∧ F i = fa (σ i) ∧ fa (σ i) ≠ 0) ∧
  (∀ i j, i < m → j < m → σ i = σ j → i = j) ∧
  (∀ s, s < 180 → fa s ≠ 0 → ∃ i, i < m ∧ σ i = s)
section
variable {N R m : Nat} {fa co K A B C F : Nat → Int32} {σ : Nat → Nat}
theorem kc_PQ_send {s : Nat} (h : kc_PQ N R fa co m K A B C F σ) (hv : kc_vs N R s) (hu : fa s = 0) (c : Int32) : kc_PQ N R (upd fa s 1) (upd co s c) (m + 1) (upd K m (nI (s / 45))) (upd A m (nI (s % 45 / 5))) (upd B m (nI (s % 5))) (upd C m c) (upd F m 1) (fun i => if i = m then s else σ i) := by
  obtain ⟨h1, h2, h3⟩ := h
  have hne : ∀ i, i < m → σ i ≠ s := fun i hi e => (h1 i hi).2.2.2.2.2.2 (by rw [e]; exact hu)
  refine ⟨fun i hi => ?_, fun i j hi hj e => ?_, fun t ht hf => ?_⟩
  · dsimp only
    by_cases e : i = m
    · subst e
      rw [if_pos rfl]
      exact ⟨hv, pk_us, pk_us, pk_us, by rw [pk_us, pk_us], by rw [pk_us, pk_us], by rw [pk_us]; decide⟩
    · have hi' : i < m := by omega
      rw [if_neg e, pk_un e, pk_un e, pk_un e, pk_un e, pk_un e, pk_un (hne i hi'), pk_un (hne i hi')]
      exact h1 i hi'
  · dsimp only at e
    by_cases ei : i = m
    · by_cases ej : j = m
      · omega
      · rw [if_pos ei, if_neg ej] at e
        exact absurd e.symm (hne j (by omega))
    · by_cases ej : j = m
      · rw [if_neg ei, if_pos ej] at e
        exact absurd e (hne i (by omega))
      · rw [if_neg ei, if_neg ej] at e
        exact h2 i j (by omega) (by omega) e
  · by_cases e : t = s
    · exact ⟨m, by omega, by dsimp only; rw [if_pos rfl, e]⟩
    · rw [pk_un e] at hf
      obtain ⟨i, hi, e'⟩ := h3 t ht hf
      exact ⟨i, by omega, by dsimp only; rw [if_neg (by omega), e']⟩
theorem kc_PQ_room {s : Nat} (hN : N ≤ 5) (hR : R ≤ 8) (h : kc_PQ N R fa co m K A B C F σ) (hv : kc_vs N R s) (hu : fa s = 0) : m < 140 := by
  have g := kc_PQ_send h hv hu 0
  have b := kc_bound hN hR (fun i hi => (g.1 i hi).1) g.2.1
  omega
theorem kc_PQ_le (hN : N ≤ 5) (hR : R ≤ 8) (h : kc_PQ N R fa co m K A B C F σ) : m ≤ 140 := kc_bound hN hR (fun i hi => (h.1 i hi).1) h.2.1
theorem kc_PQ_mark {i : Nat} {f : Int32} (h : kc_PQ N R fa co m K A B C F σ) (hi : i < m) (hf : f ≠ 0) : kc_PQ N R (upd fa (σ i) f) co m K A B C (upd F i f) σ := by
  obtain ⟨h1, h2, h3⟩ := h
  refine ⟨fun j hj => ?_, h2, fun t ht hft => ?_⟩
  · obtain ⟨a1, a2, a3, a4, a5, a6, a7⟩ := h1 j hj
    refine ⟨a1, a2, a3, a4, a5, ?_⟩
    by_cases e : j = i
    · subst e
      rw [pk_us, pk_us]
      exact ⟨rfl, hf⟩
    · rw [pk_un e, pk_un (fun z => e (h2 j i hj hi z))]
      exact ⟨a6, a7⟩
  · by_cases e : t = σ i
    · exact ⟨i, hi, e.symm⟩
    · rw [pk_un e] at hft
      exact h3 t ht hft
end
/-- what the processes and the messages keep true -/
def kc_I (N R Q : Nat) (de ro es st fa co : Nat → Int32) : Prop :=
  (∀ p, p < N → 0 ≤ (ro p).toInt ∧ (ro p).toInt ≤ R + 1) ∧
  (∀ r x, r ≤ R → x < N → fa (r * 5 + x) ≠ 0 → (r : Int) ≤ (ro x).toInt) ∧
  (∀ r x, r ≤ R → x < N → fa (90 + r * 5 + x) ≠ 0 → (r : Int) < (ro x).toInt) ∧
  (∀ r x, r ≤ R → x < N → fa (45 + r * 5 + x) ≠ 0 → fa (45 + r * 5) ≠ 0 ∧ Q ≤ kc_n (fun y => decide (fa (r * 5 + y) = 2)) N) ∧
  (∀ a b, a < N → b < N → fa (135 + a * 5 + b) ≠ 0 → de a ≠ 0) ∧
  (∀ p, p < N → (0 ≤ (es p).toInt ∧ (es p).toInt ≤ 999) ∧ 0 ≤ (st p).toInt ∧ (st p).toInt ≤ 8) ∧
  (∀ s, s < 45 → 0 ≤ (co s).toInt ∧ (co s).toInt < 16000) ∧
  (∀ s, s < 45 → 0 ≤ (co (45 + s)).toInt ∧ (co (45 + s)).toInt ≤ 999) ∧
  (∀ r x, r ≤ R → x < N → fa (90 + r * 5 + x) ≠ 0 → co (90 + r * 5 + x) = 1 → fa (45 + r * 5) ≠ 0)
section
variable {N R Q : Nat} {de ro es st fa co : Nat → Int32}
theorem kc_I_est {r p : Nat} {c : Int32} (hN : N ≤ 5) (hR : R ≤ 8) (h : kc_I N R Q de ro es st fa co) (hr : r ≤ R) (hp : p < N) (hro : (r : Int) ≤ (ro p).toInt) (hu : fa (r * 5 + p) = 0) (hc : 0 ≤ c.toInt ∧ c.toInt < 16000) : kc_I N R Q de ro es st (upd fa (r * 5 + p) 1) (upd co (r * 5 + p) c) := by
  obtain ⟨h1, h2, h3, h4, h5, h6, h7, h8, h9⟩ := h
  refine ⟨h1, fun r' x a b f => ?_, fun r' x a b f => ?_, fun r' x a b f => ?_, fun a' b' a b f => ?_, h6, fun s a => ?_, fun s a => ?_, fun r' x a b f g => ?_⟩
  · by_cases e : r' * 5 + x = r * 5 + p
    · have e1 : r' = r := by omega
      have e2 : x = p := by omega
      rw [e1, e2]; exact hro
    · rw [pk_un e] at f; exact h2 r' x a b f
  · rw [pk_un (by omega)] at f; exact h3 r' x a b f
  · rw [pk_un (by omega)] at f
    obtain ⟨g1, g2⟩ := h4 r' x a b f
    rw [pk_un (by omega)]
    refine ⟨g1, Nat.le_trans g2 (Nat.le_of_eq (kc_n_congr N (fun y hy => ?_)))⟩
    by_cases e : r' * 5 + y = r * 5 + p
    · rw [e, hu, pk_us]; decide
    · rw [pk_un e]
  · rw [pk_un (by omega)] at f; exact h5 a' b' a b f
  · by_cases e : s = r * 5 + p
    · rw [e, pk_us]; exact hc
    · rw [pk_un e]; exact h7 s a
  · rw [pk_un (by omega)]; exact h8 s a
  · rw [pk_un (by omega)] at f g ⊢; exact h9 r' x a b f g
theorem kc_I_reply {r p : Nat} {c : Int32} (hN : N ≤ 5) (hR : R ≤ 8) (h : kc_I N R Q de ro es st fa co) (hr : r ≤ R) (hp : p < N) (hro : ro p = nI r) (hc : c = 1 → fa (45 + r * 5) ≠ 0) : kc_I N R Q de (upd ro p (nI (r + 1))) es st (upd fa (90 + r * 5 + p) 1) (upd co (90 + r * 5 + p) c) ∧ (r + 1 ≤ R → upd fa (90 + r * 5 + p) 1 ((r + 1) * 5 + p) = 0) := by
  obtain ⟨h1, h2, h3, h4, h5, h6, h7, h8, h9⟩ := h
  have t1 : (nI (r + 1)).toInt = ((r + 1 : Nat) : Int) := nI_toInt (by omega)
  have t0 : (ro p).toInt = (r : Int) := by rw [hro]; exact nI_toInt (by omega)
  refine ⟨⟨fun x a => ?_, fun r' x a b f => ?_, fun r' x a b f => ?_, fun r' x a b f => ?_, fun a' b' a b f => ?_, h6, fun s a => ?_, fun s a => ?_, fun r' x a b f g => ?_⟩, fun hr' => ?_⟩
  · by_cases e : x = p
    · rw [e, pk_us, t1]; omega
    · rw [pk_un e]; exact h1 x a
  · rw [pk_un (by omega)] at f
    have g := h2 r' x a b f
    by_cases e : x = p
    · rw [e] at g ⊢; rw [pk_us, t1]; omega
    · rw [pk_un e]; exact g
  · by_cases e : 90 + r' * 5 + x = 90 + r * 5 + p
    · have e1 : r' = r := by omega
      have e2 : x = p := by omega
      rw [e1, e2, pk_us, t1]; omega
    · rw [pk_un e] at f
      have g := h3 r' x a b f
      by_cases e : x = p
      · rw [e] at g ⊢; rw [pk_us, t1]; omega
      · rw [pk_un e]; exact g
  · rw [pk_un (by omega)] at f
    obtain ⟨g1, g2⟩ := h4 r' x a b f
    rw [pk_un (by omega)]
    refine ⟨g1, Nat.le_trans g2 (Nat.le_of_eq (kc_n_congr N (fun y hy => ?_)))⟩
    rw [pk_un (by omega)]
  · rw [pk_un (by omega)] at f; exact h5 a' b' a b f
  · rw [pk_un (by omega)]; exact h7 s a
  · rw [pk_un (by omega)]; exact h8 s a
  · rw [pk_un (j := 45 + r' * 5) (by omega)]
    by_cases e : 90 + r' * 5 + x = 90 + r * 5 + p
    · rw [e, pk_us] at g
      have e1 : r' = r := by omega
      rw [e1]; exact hc g
    · rw [pk_un e] at f g; exact h9 r' x a b f g
  · rw [pk_un (by omega)]
    by_cases z : fa ((r + 1) * 5 + p) = 0
    · exact z
    · have := h2 (r + 1) p hr' hp z
      omega
theorem kc_I_prop {r p : Nat} {c : Int32} (hN : N ≤ 5) (hR : R ≤ 8) (h : kc_I N R Q de ro es st fa co) (hr : r ≤ R) (hp : p < N) (h0 : p = 0 ∨ fa (45 + r * 5) ≠ 0) (hq : Q ≤ kc_n (fun y => decide (fa (r * 5 + y) = 2)) N) (hc : 0 ≤ c.toInt ∧ c.toInt ≤ 999) : kc_I N R Q de ro es st (upd fa (45 + r * 5 + p) 1) (upd co (45 + r * 5 + p) c) ∧ upd fa (45 + r * 5 + p) 1 (45 + r * 5) ≠ 0 ∧ Q ≤ kc_n (fun y => decide (upd fa (45 + r * 5 + p) 1 (r * 5 + y) = 2)) N := by
  obtain ⟨h1, h2, h3, h4, h5, h6, h7, h8, h9⟩ := h
  have hz : upd fa (45 + r * 5 + p) 1 (45 + r * 5) ≠ 0 := by
    by_cases e : p = 0
    · rw [e]; show upd fa (45 + r * 5) 1 (45 + r * 5) ≠ 0; rw [pk_us]; decide
    · rw [pk_un (by omega)]
      rcases h0 with h0 | h0
      · exact absurd h0 e
      · exact h0
  have hk : ∀ t, fa t ≠ 0 → upd fa (45 + r * 5 + p) 1 t ≠ 0 := fun t ht => by
    by_cases e : t = 45 + r * 5 + p
    · rw [e, pk_us]; decide
    · rw [pk_un e]; exact ht
  have hq' : Q ≤ kc_n (fun y => decide (upd fa (45 + r * 5 + p) 1 (r * 5 + y) = 2)) N := by
    refine Nat.le_trans hq (Nat.le_of_eq (kc_n_congr N (fun y hy => ?_)))
    rw [pk_un (by omega)]
  refine ⟨⟨h1, fun r' x a b f => ?_, fun r' x a b f => ?_, fun r' x a b f => ?_, fun a' b' a b f => ?_, h6, fun s a => ?_, fun s a => ?_, fun r' x a b f g => ?_⟩, hz, hq'⟩
  · rw [pk_un (by omega)] at f; exact h2 r' x a b f
  · rw [pk_un (by omega)] at f; exact h3 r' x a b f
  · by_cases e : r' = r
    · rw [e]; exact ⟨hz, hq'⟩
    · rw [pk_un (by omega)] at f
      obtain ⟨g1, g2⟩ := h4 r' x a b f
      refine ⟨hk _ g1, Nat.le_trans g2 (Nat.le_of_eq (kc_n_congr N (fun y hy => ?_)))⟩
      rw [pk_un (by omega)]
  · rw [pk_un (by omega)] at f; exact h5 a' b' a b f
  · rw [pk_un (by omega)]; exact h7 s a
  · by_cases e : 45 + s = 45 + r * 5 + p
    · rw [e, pk_us]; exact hc
    · rw [pk_un e]; exact h8 s a
  · rw [pk_un (by omega)] at f g; exact hk _ (h9 r' x a b f g)
theorem kc_I_dec {q p : Nat} {c : Int32} (hN : N ≤ 5) (hR : R ≤ 8) (h : kc_I N R Q de ro es st fa co) (hq : q < N) (hp : p < N) (hd : de q ≠ 0) : kc_I N R Q de ro es st (upd fa (135 + q * 5 + p) 1) (upd co (135 + q * 5 + p) c) := by
  obtain ⟨h1, h2, h3, h4, h5, h6, h7, h8, h9⟩ := h
  refine ⟨h1, fun r' x a b f => ?_, fun r' x a b f => ?_, fun r' x a b f => ?_, fun a' b' a b f => ?_, h6, fun s a => ?_, fun s a => ?_, fun r' x a b f g => ?_⟩
  · rw [pk_un (by omega)] at f; exact h2 r' x a b f
  · rw [pk_un (by omega)] at f; exact h3 r' x a b f
  · rw [pk_un (by omega)] at f
    obtain ⟨g1, g2⟩ := h4 r' x a b f
    rw [pk_un (by omega)]
    refine ⟨g1, Nat.le_trans g2 (Nat.le_of_eq (kc_n_congr N (fun y hy => ?_)))⟩
    rw [pk_un (by omega)]
  · by_cases e : a' = q
    · rw [e]; exact hd
    · rw [pk_un (by omega)] at f; exact h5 a' b' a b f
  · rw [pk_un (by omega)]; exact h7 s a
  · rw [pk_un (by omega)]; exact h8 s a
  · rw [pk_un (by omega)] at f g ⊢; exact h9 r' x a b f g
theorem kc_I_fates {fa' : Nat → Int32} (hN : N ≤ 5) (hR : R ≤ 8) (h : kc_I N R Q de ro es st fa co) (hz : ∀ t, t < 180 → (fa' t ≠ 0 ↔ fa t ≠ 0)) (h2' : ∀ t, t < 180 → fa t = 2 → fa' t = 2) : kc_I N R Q de ro es st fa' co := by
  obtain ⟨h1, h2, h3, h4, h5, h6, h7, h8, h9⟩ := h
  refine ⟨h1, fun r' x a b f => ?_, fun r' x a b f => ?_, fun r' x a b f => ?_, fun a' b' a b f => ?_, h6, h7, h8, fun r' x a b f g => ?_⟩
  · exact h2 r' x a b ((hz _ (by omega)).mp f)
  · exact h3 r' x a b ((hz _ (by omega)).mp f)
  · obtain ⟨g1, g2⟩ := h4 r' x a b ((hz _ (by omega)).mp f)
    refine ⟨(hz _ (by omega)).mpr g1, Nat.le_trans g2 (kc_n_mono N (fun y hy hh => ?_))⟩
    rw [decide_eq_true_eq] at hh ⊢
    exact h2' _ (by omega) hh
  · exact h5 a' b' a b ((hz _ (by omega)).mp f)
  · exact (hz _ (by omega)).mpr (h9 r' x a b ((hz _ (by omega)).mp f) g)
theorem kc_I_mark {s : Nat} {f : Int32} (hN : N ≤ 5) (hR : R ≤ 8) (h : kc_I N R Q de ro es st fa co) (hs : fa s = 1) (hf : f ≠ 0) : kc_I N R Q de ro es st (upd fa s f) co := by
  refine kc_I_fates hN hR h (fun t _ => ?_) (fun t _ ht => ?_)
  · by_cases e : t = s
    · rw [e, pk_us, hs]; exact ⟨fun _ => by decide, fun _ => hf⟩
    · rw [pk_un e]
  · by_cases e : t = s
    · rw [e, hs] at ht; exact absurd ht (by decide)
    · rw [pk_un e]; exact ht
theorem kc_I_de {q : Nat} (h : kc_I N R Q de ro es st fa co) : kc_I N R Q (upd de q 1) ro es st fa co := by
  obtain ⟨h1, h2, h3, h4, h5, h6, h7, h8, h9⟩ := h
  refine ⟨h1, h2, h3, h4, fun a' b' a b f => ?_, h6, h7, h8, h9⟩
  by_cases e : a' = q
  · rw [e, pk_us]; decide
  · rw [pk_un e]; exact h5 a' b' a b f
theorem kc_I_es {p : Nat} {x y : Int32} (h : kc_I N R Q de ro es st fa co) (hx : 0 ≤ x.toInt ∧ x.toInt ≤ 999) (hy : 0 ≤ y.toInt ∧ y.toInt ≤ 8) : kc_I N R Q de ro (upd es p x) (upd st p y) fa co := by
  obtain ⟨h1, h2, h3, h4, h5, h6, h7, h8, h9⟩ := h
  refine ⟨h1, h2, h3, h4, h5, fun q a => ?_, h7, h8, h9⟩
  by_cases e : q = p
  · rw [e, pk_us, pk_us]; exact ⟨hx, hy⟩
  · rw [pk_un e, pk_un e]; exact h6 q a
/-- a process that has not begun may enter round 1 -/
theorem kc_I_start {p : Nat} (hN : N ≤ 5) (hR : R ≤ 8) (h : kc_I N R Q de ro es st fa co) (hp : p < N) (hro : ro p = 0) : kc_I N R Q de (upd ro p (nI 1)) es st fa co ∧ (1 ≤ R → fa (1 * 5 + p) = 0) := by
  obtain ⟨h1, h2, h3, h4, h5, h6, h7, h8, h9⟩ := h
  have t1 : (nI 1).toInt = ((1 : Nat) : Int) := nI_toInt (by omega)
  have t0 : (ro p).toInt = 0 := by rw [hro]; decide
  refine ⟨⟨fun x a => ?_, fun r' x a b f => ?_, fun r' x a b f => ?_, h4, h5, h6, h7, h8, h9⟩, fun hr' => ?_⟩
  · by_cases e : x = p
    · rw [e, pk_us, t1]; omega
    · rw [pk_un e]; exact h1 x a
  · have g := h2 r' x a b f
    by_cases e : x = p
    · rw [e] at g ⊢; rw [pk_us, t1]; omega
    · rw [pk_un e]; exact g
  · have g := h3 r' x a b f
    by_cases e : x = p
    · rw [e] at g ⊢; rw [pk_us, t1]; omega
    · rw [pk_un e]; exact g
  · by_cases z : fa (1 * 5 + p) = 0
    · exact z
    · have := h2 1 p hr' hp z
      omega
end
/-! masks of suspicions -/
def kc_sum (su : Nat → Int32) (b : Nat) : Nat → Int32
  | 0 => 0
  | n + 1 => if su (b + n) = 0 then kc_sum su b n else kc_sum su b n + (1 <<< (nI n &&& 31))
def kc_M (N : Nat) (sm su : Nat → Int32) : Prop := ∀ p, p < N → (∃ k, k < 32 ∧ sm p = nI k) ∧ (∀ q, q < N → (((sm p) >>> (nI q &&& 31)) &&& 1 = 0 ↔ su (p * 5 + q) = 0)) ∧ (∀ q, N ≤ q → q < 5 → ((sm p) >>> (nI q &&& 31)) &&& 1 = 0)
end
section
/-- the numbers of a game -/
def kc_B (N R Q : Nat) : Prop := 3 ≤ N ∧ N ≤ 5 ∧ 1 ≤ R ∧ R ≤ 8 ∧ Q = N / 2 + 1
theorem kc_at {α : Sort _} {P : α → Prop} {a b : α} (e : a = b) (h : P b) : P a := e ▸ h
theorem kc_sl (k a b : Nat) : ((nI k * 45) + (nI a * 5)) + nI b = nI (k * 45 + a * 5 + b) := by
  rw [show nI k * 45 = nI (k * 45) from pk_mul k 45, show nI a * 5 = nI (a * 5) from pk_mul a 5, nI_add, nI_add]
section
variable {N R Q m : Nat} {cc : Int32} {cr de dc ro es st sm fa co K A B C F su : Nat → Int32} {σ : Nat → Nat}
theorem kc_xP1 {post : Int32 → Prop} {j : Nat} (hB : kc_B N R Q) (hj : j < N) (hp : post 1) : wpX_isProcess post (nI N, nI R, nI Q, cc, cr, de, dc, ro, es, st, sm, fa, co) (nI j) := by
  obtain ⟨b1, b2, b3, b4, b5⟩ := hB
  exact br_f (nI_pos (by omega)) (br_f (nI_ge hj (by omega)) hp)
theorem kc_xP0 {post : Int32 → Prop} {p : Int32} (h : p < 0 ∨ nI N ≤ p) (hp : post 0) : wpX_isProcess post (nI N, nI R, nI Q, cc, cr, de, dc, ro, es, st, sm, fa, co) p :=
  br_c (fun _ => hp) (fun h0 => br_t (h.resolve_left h0) hp)
theorem kc_yP1 {post : Int32 → Prop} {j : Nat} (hB : kc_B N R Q) (hj : j < N) (hp : post 1) : wpY_isProcess post (nI N, nI R, nI Q, nI m, K, A, B, C, F, cr, ro, es, st, de, dc, su) (nI j) := by
  obtain ⟨b1, b2, b3, b4, b5⟩ := hB
  exact br_f (nI_pos (by omega)) (br_f (nI_ge hj (by omega)) hp)
theorem kc_yP0 {post : Int32 → Prop} {p : Int32} (h : p < 0 ∨ nI N ≤ p) (hp : post 0) : wpY_isProcess post (nI N, nI R, nI Q, nI m, K, A, B, C, F, cr, ro, es, st, de, dc, su) p :=
  br_c (fun _ => hp) (fun h0 => br_t (h.resolve_left h0) hp)
theorem kc_P (hB : kc_B N R Q) (p : Int32) : (p < 0 ∨ nI N ≤ p) ∨ ∃ j, j < N ∧ p = nI j := by
  obtain ⟨b1, b2, b3, b4, b5⟩ := hB
  rcases pk_ix p (n := N) (by omega) with h | h | h
  · exact Or.inl (Or.inl h)
  · exact Or.inl (Or.inr h)
  · exact Or.inr h
theorem kc_nI_ne {a b : Nat} (ha : a < 2 ^ 31) (hb : b < 2 ^ 31) (h : a ≠ b) : ¬ nI a = nI b := fun z => h ((nI_eq ha hb).mp z)
theorem kc_xPr1 {post : Int32 → Prop} {a b : Nat} (hB : kc_B N R Q) (ha : a < N) (hb : b < N) (hab : a ≠ b) (hp : post 1) : wpX_isPair post (nI N, nI R, nI Q, cc, cr, de, dc, ro, es, st, sm, fa, co) (nI a) (nI b) := by
  have hB' := hB
  obtain ⟨b1, b2, b3, b4, b5⟩ := hB'
  unfold wpX_isPair
  exact kc_xP1 hB ha (br_f (by decide) (kc_xP1 hB hb (br_f (by decide) (br_f (kc_nI_ne (by omega) (by omega) hab) hp))))
theorem kc_xPr0 {post : Int32 → Prop} {x y : Int32} (hB : kc_B N R Q) (h : ¬ ∃ a b, a < N ∧ b < N ∧ a ≠ b ∧ x = nI a ∧ y = nI b) (hp : post 0) : wpX_isPair post (nI N, nI R, nI Q, cc, cr, de, dc, ro, es, st, sm, fa, co) x y := by
  unfold wpX_isPair
  rcases kc_P hB x with hx | ⟨a, ha, rfl⟩
  · exact kc_xP0 hx (br_t rfl hp)
  · rcases kc_P hB y with hy | ⟨b, hb, rfl⟩
    · exact kc_xP1 hB ha (br_f (by decide) (kc_xP0 hy (br_t rfl hp)))
    · by_cases e : a = b
      · exact kc_xP1 hB ha (br_f (by decide) (kc_xP1 hB hb (br_f (by decide) (br_t (by rw [e]) hp))))
      · exact absurd ⟨a, b, ha, hb, e, rfl, rfl⟩ h
theorem kc_xN1 {post : Int32 → Prop} {k a b : Nat} (hB : kc_B N R Q) (h : kc_nm N R k a b) (hp : post 1) : wpX_isName post (nI N, nI R, nI Q, cc, cr, de, dc, ro, es, st, sm, fa, co) (nI k) (nI a) (nI b) := by
  have hB' := hB
  obtain ⟨b1, b2, b3, b4, b5⟩ := hB'
  obtain ⟨hb, ⟨hk, h1, h2⟩ | ⟨hk, h1, h2⟩⟩ := h
  · exact br_f (kc_nI_ne (b := 3) (by omega) (by omega) (by omega)) (br_f (nI_pos (by omega)) (br_f (nI_nlt (a := 2) (b := k) (by omega) (by omega)) (br_f (nI_nlt (a := a) (b := 1) (by omega) (by omega)) (br_f (nI_nlt (a := R) (b := a) (by omega) (by omega)) (kc_xP1 hB hb (br_f (by decide) hp))))))
  · subst hk
    exact br_t rfl (kc_xPr1 hB h1 hb h2 ⟨narrow_b1, hp⟩)
theorem kc_nlt1 {y : Int32} (h : ¬ y < 1) : ¬ y < 0 := by
  rw [Int32.lt_iff_toInt_lt, show (0 : Int32).toInt = 0 from by decide]
  rw [Int32.lt_iff_toInt_lt, show (1 : Int32).toInt = 1 from by decide] at h
  omega
theorem kc_nmk {x y z : Int32} {b : Nat} (hB : kc_B N R Q) (h : ¬ ∃ k a b, kc_nm N R k a b ∧ x = nI k ∧ y = nI a ∧ z = nI b) (hb : b < N) (hz : z = nI b) (h0 : ¬ x < 0) (h2 : ¬ 2 < x) (h1 : ¬ y < 1) (hR : ¬ nI R < y) : False := by
  obtain ⟨b1, b2, b3, b4, b5⟩ := hB
  obtain ⟨k, hk, rfl⟩ := nI_of h0
  obtain ⟨a, ha, rfl⟩ := nI_of (kc_nlt1 h1)
  have e2 : ¬ 2 < k := fun z => h2 (nI_lt (a := 2) z hk)
  have e1 : ¬ a < 1 := fun z => h1 (nI_lt (b := 1) z (by omega))
  have eR : ¬ R < a := fun z => hR (nI_lt z ha)
  exact h ⟨k, a, b, ⟨hb, Or.inl ⟨by omega, by omega, by omega⟩⟩, rfl, rfl, hz⟩
theorem kc_xN0 {post : Int32 → Prop} {x y z : Int32} (hB : kc_B N R Q) (h : ¬ ∃ k a b, kc_nm N R k a b ∧ x = nI k ∧ y = nI a ∧ z = nI b) (hp : post 0) : wpX_isName post (nI N, nI R, nI Q, cc, cr, de, dc, ro, es, st, sm, fa, co) x y z := by
  refine br_c (fun e => kc_xPr0 hB (fun ⟨a, b, ha, hb, hab, e1, e2⟩ => h ⟨3, a, b, ⟨hb, Or.inr ⟨rfl, ha, hab⟩⟩, e, e1, e2⟩) ⟨narrow_b0, hp⟩) (fun e3 => br_c (fun _ => hp) (fun h0 => br_c (fun _ => hp) (fun h2 => br_c (fun _ => hp) (fun h1 => br_c (fun _ => hp) (fun hR => ?_)))))
  rcases kc_P hB z with hz | ⟨b, hb, e⟩
  · exact kc_xP0 hz (br_t rfl hp)
  · exact (kc_nmk hB h hb e h0 h2 h1 hR).elim
theorem kc_yN1 {post : Int32 → Prop} {k a b : Nat} (hB : kc_B N R Q) (h : kc_nm N R k a b) (hp : post 1) : wpY_isName post (nI N, nI R, nI Q, nI m, K, A, B, C, F, cr, ro, es, st, de, dc, su) (nI k) (nI a) (nI b) := by
  obtain ⟨b1, b2, b3, b4, b5⟩ := hB
  obtain ⟨hb, ⟨hk, h1, h2⟩ | ⟨hk, h1, h2⟩⟩ := h
  · exact br_f (nI_pos (by omega)) (br_t (nI_lt hb (by omega)) (br_f (kc_nI_ne (b := 3) (by omega) (by omega) (by omega)) (br_f (nI_pos (by omega)) (br_f (nI_nlt (a := 2) (b := k) (by omega) (by omega)) (br_f (nI_nlt (a := a) (b := 1) (by omega) (by omega)) (br_f (nI_nlt (a := R) (b := a) (by omega) (by omega)) hp))))))
  · subst hk
    exact br_f (nI_pos (by omega)) (br_t (nI_lt hb (by omega)) (br_t rfl (br_f (nI_pos (by omega)) (br_f (nI_ge h1 (by omega)) (br_f (kc_nI_ne (by omega) (by omega) h2) hp)))))
theorem kc_yN0 {post : Int32 → Prop} {x y z : Int32} (hB : kc_B N R Q) (h : ¬ ∃ k a b, kc_nm N R k a b ∧ x = nI k ∧ y = nI a ∧ z = nI b) (hp : post 0) : wpY_isName post (nI N, nI R, nI Q, nI m, K, A, B, C, F, cr, ro, es, st, de, dc, su) x y z := by
  have hB' := hB
  obtain ⟨b1, b2, b3, b4, b5⟩ := hB'
  refine br_c (fun _ => hp) (fun hz0 => br_c (fun hzn => br_c (fun e3 => br_c (fun _ => hp) (fun ha0 => br_c (fun _ => hp) (fun han => br_c (fun _ => hp) (fun hab => ?_)))) (fun e3 => br_c (fun _ => hp) (fun h0 => br_c (fun _ => hp) (fun h2 => br_c (fun _ => hp) (fun h1 => br_c (fun _ => hp) (fun hR => ?_)))))) (fun _ => hp))
  · obtain ⟨a, ha, rfl⟩ := nI_of ha0
    obtain ⟨b, hb, rfl⟩ := nI_of hz0
    have e1 : ¬ N ≤ a := fun z => han (nI_le z ha)
    have e2 : b < N := (nI_ltI hb (by omega)).mp hzn
    exact absurd ⟨3, a, b, ⟨e2, Or.inr ⟨rfl, by omega, fun z => hab (by rw [z])⟩⟩, e3, rfl, rfl⟩ h
  · obtain ⟨b, hb, rfl⟩ := nI_of hz0
    have e2 : b < N := (nI_ltI hb (by omega)).mp hzn
    exact (kc_nmk hB h e2 rfl h0 h2 h1 hR).elim
/-! coordinators -/
theorem kc_mods {i : Nat} (h3 : 3 ≤ N) (h5 : N ≤ 5) (h1 : 1 ≤ i) : ((i - 1) % N + 1 = N → i % N = 0) ∧ ((i - 1) % N + 1 ≠ N → i % N = (i - 1) % N + 1) := by
  have h : N = 3 ∨ N = 4 ∨ N = 5 := by omega
  rcases h with rfl | rfl | rfl <;> omega
theorem kc_xcoord {post : Int32 → Prop} {r : Nat} (hB : kc_B N R Q) (h1 : 1 ≤ r) (h9 : r ≤ 9) (hp : post (nI (kc_cd N r))) : wpX_coord post (nI N, nI R, nI Q, cc, cr, de, dc, ro, es, st, sm, fa, co) (nI r) := by
  obtain ⟨b1, b2, b3, b4, b5⟩ := hB
  refine ⟨nI_ne0 (by omega) (by omega), ?_⟩
  have e : ((nI r + nI N) - 1) - ((nI r + nI N) - 1) / nI N * nI N = nI (kc_cd N r) := by
    rw [nI_add, show nI (r + N) - 1 = nI (r + N - 1) from pk_sub (b := 1) (by omega), pk_rem (by omega) (by omega) (by omega)]
    have e2 : (r + N - 1) % N = (r - 1) % N := by
      rw [show r + N - 1 = (r - 1) + N from by omega, Nat.add_mod_right]
    rw [e2]; rfl
  exact kc_at (P := post) e hp
theorem kc_ycoord_lp {post : Int32 → Prop} {r : Nat} (hB : kc_B N R Q) (h9 : r ≤ 9) (hp : post (nI (kc_cd N r))) : ∀ d i, i + d = r → 1 ≤ i → wY_coord_4 post (nI r) (nI N) (nI R) (nI Q) (nI m) K A B C F cr ro es st de dc su (d + 1) (nI ((i - 1) % N)) (nI i) := by
  obtain ⟨b1, b2, b3, b4, b5⟩ := hB
  intro d
  induction d with
  | zero =>
    intro i e h1
    subst e
    exact br_t (nI_le (by omega) (by omega)) hp
  | succ d ih =>
    intro i e h1
    have g := ih (i + 1) (by omega) (by omega)
    rw [show i + 1 - 1 = i from by omega] at g
    obtain ⟨m1, m2⟩ := kc_mods (i := i) b1 b2 h1
    have hl : (i - 1) % N < N := Nat.mod_lt _ (by omega)
    refine br_f (nI_ge (by omega) (by omega)) (pk_eq ((i - 1) % N + 1) N (fun z => nm_r (nI_1 i) ?_) (fun z => nm_r (nI_1 _) (nm_r (nI_1 i) ?_)) (nI_1 _))
    · rw [m1 z] at g; exact g
    · rw [m2 z] at g; exact g
theorem kc_ycoord {post : Int32 → Prop} {r : Nat} (hB : kc_B N R Q) (h1 : 1 ≤ r) (h9 : r ≤ 9) (hp : post (nI (kc_cd N r))) : wpY_coord post (nI N, nI R, nI Q, nI m, K, A, B, C, F, cr, ro, es, st, de, dc, su) (nI r) := by
  have g := kc_ycoord_lp (m := m) (K := K) (A := A) (B := B) (C := C) (F := F) (cr := cr) (ro := ro) (es := es) (st := st) (de := de) (dc := dc) (su := su) hB h9 hp (r - 1) 1 (by omega) (by omega)
  exact ⟨r - 1 + 1, by rw [show (1 - 1) % N = 0 from Nat.zero_mod N] at g; exact g⟩
/-! slots -/
theorem kc_xkind {post : Int32 → Prop} {s : Nat} (hs : s < 180) (hp : post (nI (s / 45))) : wpX_kindOf post (nI N, nI R, nI Q, cc, cr, de, dc, ro, es, st, sm, fa, co) (nI s) :=
  ⟨by decide, kc_at (P := post) (pk_div (d := 45) (by omega) (by omega) (by omega)) hp⟩
theorem kc_xfirst {post : Int32 → Prop} {s : Nat} (hs : s < 180) (hp : post (nI (s % 45 / 5))) : wpX_firstOf post (nI N, nI R, nI Q, cc, cr, de, dc, ro, es, st, sm, fa, co) (nI s) := by
  refine ⟨by decide, by decide, kc_at (P := post) ?_ hp⟩
  have e1 : nI s - nI s / 45 * 45 = nI (s % 45) := pk_rem (d := 45) (by omega) (by omega) (by omega)
  rw [e1]
  exact pk_div (d := 5) (by omega) (by omega) (by omega)
theorem kc_xsecond {post : Int32 → Prop} {s : Nat} (hs : s < 180) (hp : post (nI (s % 5))) : wpX_secondOf post (nI N, nI R, nI Q, cc, cr, de, dc, ro, es, st, sm, fa, co) (nI s) :=
  ⟨by decide, kc_at (P := post) (pk_rem (d := 5) (by omega) (by omega) (by omega)) hp⟩
theorem kc_xaddr {post : Int32 → Prop} {s : Nat} (hB : kc_B N R Q) (hv : kc_vs N R s) (hp : post (nI (kc_ad N s))) : wpX_addressee post (nI N, nI R, nI Q, cc, cr, de, dc, ro, es, st, sm, fa, co) (nI s) := by
  have hB' := hB
  obtain ⟨b1, b2, b3, b4, b5⟩ := hB'
  have hs := hv.1
  have hn := hv.2.2
  unfold wpX_addressee
  have hc : (s / 45 = 0 ∨ s / 45 = 2) → wX_addressee_15 post (nI s) (nI N) (nI R) (nI Q) cc cr de dc ro es st sm fa co := fun h => by
    have e : kc_ad N s = kc_cd N (s % 45 / 5) := if_pos h
    rw [e] at hp
    unfold wX_addressee_15
    exact kc_xfirst hs (kc_xcoord hB (by omega) (by omega) hp)
  refine kc_xkind hs (pk_eq (s / 45) 0 (fun e => hc (Or.inl e)) (fun e0 => pk_eq (s / 45) 2 (fun e => hc (Or.inr e)) (fun e2 => kc_xsecond hs ?_)))
  have e : kc_ad N s = s % 5 := if_neg (by omega)
  rw [e] at hp
  exact hp
theorem kc_xsender {post : Int32 → Prop} {s : Nat} (hB : kc_B N R Q) (hv : kc_vs N R s) (hp : post (nI (kc_sd N s))) : wpX_sender post (nI N, nI R, nI Q, cc, cr, de, dc, ro, es, st, sm, fa, co) (nI s) := by
  have hB' := hB
  obtain ⟨b1, b2, b3, b4, b5⟩ := hB'
  have hs := hv.1
  have hn := hv.2.2
  unfold wpX_sender
  refine kc_xkind hs (kc_xfirst hs (pk_eq (s / 45) 1 (fun e => kc_xcoord hB (by omega) (by omega) ?_) (fun e1 => pk_eq (s / 45) 3 (fun e => ?_) (fun e3 => kc_xsecond hs ?_))))
  · rw [show kc_sd N s = kc_cd N (s % 45 / 5) from if_pos e] at hp; exact hp
  · rw [show kc_sd N s = s % 45 / 5 from (if_neg e1).trans (if_pos e)] at hp; exact hp
  · rw [show kc_sd N s = s % 5 from (if_neg e1).trans (if_neg e3)] at hp; exact hp
theorem kc_yaddr {post : Int32 → Prop} {i : Nat} (hB : kc_B N R Q) (h : kc_PQ N R fa co m K A B C F σ) (hi : i < m) (hp : post (nI (kc_ad N (σ i)))) : wpY_addressee post (nI N, nI R, nI Q, nI m, K, A, B, C, F, cr, ro, es, st, de, dc, su) (nI i) := by
  have hB' := hB
  obtain ⟨b1, b2, b3, b4, b5⟩ := hB'
  have hm := kc_PQ_le b2 b4 h
  obtain ⟨hv, hK, hA, hBB, hC, hF, hz⟩ := h.1 i hi
  have hs := hv.1
  have hn := hv.2.2
  have hin : vp_in (nI i) 140 := vp_in_nI (by omega) (by omega)
  unfold wpY_addressee
  dsimp only
  rw [nI_clamp (by omega), hK, hA, hBB]
  refine ⟨hin, pk_eq (σ i / 45) 1 (fun e => ⟨hin, ?_⟩) (fun e1 => ⟨hin, pk_eq (σ i / 45) 3 (fun e => ⟨hin, ?_⟩) (fun e3 => ⟨hin, kc_ycoord hB (by omega) (by omega) ?_⟩)⟩)⟩
  · rw [show kc_ad N (σ i) = σ i % 5 from if_neg (by omega)] at hp; exact hp
  · rw [show kc_ad N (σ i) = σ i % 5 from if_neg (by omega)] at hp; exact hp
  · rw [show kc_ad N (σ i) = kc_cd N (σ i % 45 / 5) from if_pos (by omega)] at hp; exact hp
theorem kc_ysender {post : Int32 → Prop} {i : Nat} (hB : kc_B N R Q) (h : kc_PQ N R fa co m K A B C F σ) (hi : i < m) (hp : post (nI (kc_sd N (σ i)))) : wpY_sender post (nI N, nI R, nI Q, nI m, K, A, B, C, F, cr, ro, es, st, de, dc, su) (nI i) := by
  have hB' := hB
  obtain ⟨b1, b2, b3, b4, b5⟩ := hB'
  have hm := kc_PQ_le b2 b4 h
  obtain ⟨hv, hK, hA, hBB, hC, hF, hz⟩ := h.1 i hi
  have hs := hv.1
  have hn := hv.2.2
  have hin : vp_in (nI i) 140 := vp_in_nI (by omega) (by omega)
  unfold wpY_sender
  dsimp only
  rw [nI_clamp (by omega), hK, hA, hBB]
  refine ⟨hin, pk_eq (σ i / 45) 1 (fun e => ⟨hin, kc_ycoord hB (by omega) (by omega) ?_⟩) (fun e1 => ⟨hin, pk_eq (σ i / 45) 3 (fun e => ⟨hin, ?_⟩) (fun e3 => ⟨hin, ?_⟩)⟩)⟩
  · rw [show kc_sd N (σ i) = kc_cd N (σ i % 45 / 5) from if_pos e] at hp; exact hp
  · rw [show kc_sd N (σ i) = σ i % 45 / 5 from (if_neg e1).trans (if_pos e)] at hp; exact hp
  · rw [show kc_sd N (σ i) = σ i % 5 from (if_neg e1).trans (if_neg e3)] at hp; exact hp
/-! sending -/
theorem kc_xsend {post : SX → Prop} {s k a b : Nat} {c : Int32} (hs : s = k * 45 + a * 5 + b) (h : s < 180) (hp : post (nI N, nI R, nI Q, cc, cr, de, dc, ro, es, st, sm, upd fa s 1, upd co s c)) : wpX_send post (nI N, nI R, nI Q, cc, cr, de, dc, ro, es, st, sm, fa, co) (nI k) (nI a) (nI b) c := by
  unfold wpX_send wpX_slot
  dsimp only
  rw [kc_sl, ← hs, nI_clamp (by omega)]
  have hin : vp_in (nI s) 180 := vp_in_nI h (by omega)
  exact ⟨hin, nm_e ⟨hin, nm_e hp⟩⟩
theorem kc_ysend {post : SY → Prop} {k a b c : Int32} (hm : m < 140) (hp : post (nI N, nI R, nI Q, nI (m + 1), upd K m k, upd A m a, upd B m b, upd C m c, upd F m 1, cr, ro, es, st, de, dc, su)) : wpY_send post (nI N, nI R, nI Q, nI m, K, A, B, C, F, cr, ro, es, st, de, dc, su) k a b c := by
  unfold wpY_send
  dsimp only
  rw [nI_clamp (by omega)]
  have hin : vp_in (nI m) 140 := vp_in_nI hm (by omega)
  exact br_t (nI_lt (b := 140) hm (by omega)) ⟨hin, nm_e ⟨hin, nm_e ⟨hin, nm_e ⟨hin, nm_e ⟨hin, nm_e (nm_r (nI_1 m) hp)⟩⟩⟩⟩⟩
/-! finding -/
theorem kc_yfind_lp {post : Int32 → Prop} {k a b s : Nat} {r : Int32} {i0 : Nat} (hB : kc_B N R Q) (h : kc_PQ N R fa co m K A B C F σ) (hn : kc_nm N R k a b) (hs : s = k * 45 + a * 5 + b) (h0 : (i0 = m ∧ r = -1) ∨ (i0 < m ∧ σ i0 = s ∧ r = nI i0)) (hb : ∀ j, j < i0 → σ j ≠ s) (hp : post r) : ∀ d j, j + d = i0 → wY_find_3 post (nI k) (nI a) (nI b) (nI N) (nI R) (nI Q) (nI m) K A B C F cr ro es st de dc su (d + 1) (nI j) := by
  obtain ⟨b1, b2, b3, b4, b5⟩ := hB
  have hm := kc_PQ_le b2 b4 h
  obtain ⟨s1, s2, s3, s4, s5⟩ := kc_nm_vs b2 b4 hn hs
  intro d
  induction d with
  | zero =>
    intro j e
    have e' : j = i0 := by omega
    rw [e']
    rcases h0 with ⟨e0, er⟩ | ⟨h1, e0, er⟩
    · rw [er] at hp
      exact br_t (nI_le (by omega) (by omega)) hp
    · rw [er] at hp
      obtain ⟨hv, hK, hA, hBB, hC, hF, hz⟩ := h.1 i0 h1
      rw [e0, s3] at hK
      rw [e0, s4] at hA
      rw [e0, s5] at hBB
      have hin : vp_in (nI i0) 140 := vp_in_nI (by omega) (by omega)
      rw [wY_find_3]
      dsimp only
      rw [nI_clamp (by omega), hK, hA, hBB]
      exact br_f (nI_ge h1 (by omega)) ⟨hin, br_t rfl ⟨hin, br_t rfl ⟨hin, br_t rfl hp⟩⟩⟩
  | succ d ih =>
    intro j e
    have hj : j < m := by omega
    have g := ih (j + 1) (by omega)
    obtain ⟨hv, hK, hA, hBB, hC, hF, hz⟩ := h.1 j hj
    have hin : vp_in (nI j) 140 := vp_in_nI (by omega) (by omega)
    have hv1 := hv.1
    have hne := hb j (by omega)
    rw [wY_find_3]
    dsimp only
    rw [nI_clamp (by omega), hK, hA, hBB]
    have hk := hn
    unfold kc_nm at hk
    refine br_f (nI_ge hj (by omega)) ⟨hin, pk_eq (σ j / 45) k (fun e1 => ⟨hin, pk_eq (σ j % 45 / 5) a (fun e2 => ⟨hin, pk_eq (σ j % 5) b (fun e3 => ?_) (fun _ => nm_r (nI_1 j) g)⟩) (fun _ => nm_r (nI_1 j) g)⟩) (fun _ => nm_r (nI_1 j) g)⟩
    omega
theorem kc_yfind0 {post : Int32 → Prop} {k a b s : Nat} (hB : kc_B N R Q) (h : kc_PQ N R fa co m K A B C F σ) (hn : kc_nm N R k a b) (hs : s = k * 45 + a * 5 + b) (hz : fa s = 0) (hp : post (-1)) : wpY_find post (nI N, nI R, nI Q, nI m, K, A, B, C, F, cr, ro, es, st, de, dc, su) (nI k) (nI a) (nI b) :=
  ⟨m + 1, kc_yfind_lp hB h hn hs (Or.inl ⟨rfl, rfl⟩) (fun j hj e => (h.1 j hj).2.2.2.2.2.2 (by rw [e]; exact hz)) hp m 0 (by omega)⟩
theorem kc_yfind1 {post : Int32 → Prop} {k a b i : Nat} (hB : kc_B N R Q) (h : kc_PQ N R fa co m K A B C F σ) (hn : kc_nm N R k a b) (hi : i < m) (hs : σ i = k * 45 + a * 5 + b) (hp : post (nI i)) : wpY_find post (nI N, nI R, nI Q, nI m, K, A, B, C, F, cr, ro, es, st, de, dc, su) (nI k) (nI a) (nI b) :=
  ⟨i + 1, kc_yfind_lp hB h hn hs (Or.inr ⟨hi, rfl, rfl⟩) (fun j hj e => by have := h.2.1 j i (by omega) hi e; omega) hp i 0 (by omega)⟩
theorem kc_ycont {post : Int32 → Prop} {k a b s : Nat} (hB : kc_B N R Q) (h : kc_PQ N R fa co m K A B C F σ) (hn : kc_nm N R k a b) (hs : s = k * 45 + a * 5 + b) (h0 : fa s = 0 → post (-7)) (h1 : fa s ≠ 0 → post (co s)) : wpY_content post (nI N, nI R, nI Q, nI m, K, A, B, C, F, cr, ro, es, st, de, dc, su) (nI k) (nI a) (nI b) := by
  have hB' := hB
  obtain ⟨b1, b2, b3, b4, b5⟩ := hB'
  have hm := kc_PQ_le b2 b4 h
  have hs1 := (kc_nm_vs b2 b4 hn hs).2.1
  unfold wpY_content
  refine kc_yN1 hB hn (br_f (by decide) ?_)
  by_cases z : fa s = 0
  · exact kc_yfind0 hB h hn hs z (br_f (by decide) (h0 z))
  · obtain ⟨i, hi, e⟩ := h.2.2 s hs1 z
    refine kc_yfind1 hB h hn hi (e.trans hs) (br_t (nI_pos' (by omega)) ⟨vp_in_nI (by omega) (by omega), ?_⟩)
    rw [nI_clamp (by omega), (h.1 i hi).2.2.2.2.1, e]
    exact h1 z
theorem kc_yfate {post : Int32 → Prop} {k a b s : Nat} (hB : kc_B N R Q) (h : kc_PQ N R fa co m K A B C F σ) (hn : kc_nm N R k a b) (hs : s = k * 45 + a * 5 + b) (hp : post (fa s)) : wpY_fate post (nI N, nI R, nI Q, nI m, K, A, B, C, F, cr, ro, es, st, de, dc, su) (nI k) (nI a) (nI b) := by
  have hB' := hB
  obtain ⟨b1, b2, b3, b4, b5⟩ := hB'
  have hm := kc_PQ_le b2 b4 h
  have hs1 := (kc_nm_vs b2 b4 hn hs).2.1
  unfold wpY_fate
  refine kc_yN1 hB hn (br_f (by decide) ?_)
  by_cases z : fa s = 0
  · rw [z] at hp
    exact kc_yfind0 hB h hn hs z (br_f (by decide) hp)
  · obtain ⟨i, hi, e⟩ := h.2.2 s hs1 z
    refine kc_yfind1 hB h hn hi (e.trans hs) (br_t (nI_pos' (by omega)) ⟨vp_in_nI (by omega) (by omega), ?_⟩)
    rw [nI_clamp (by omega), (h.1 i hi).2.2.2.2.2.1, e]
    exact hp
end
end
section
/-- both sides come to an end, in related states -/
def kc_LK (N R Q : Nat) (cc : Int32) (cr sm su : Nat → Int32) (fX : (SX → Prop) → Prop) (fY : (SY → Prop) → Prop) : Prop :=
  ∃ (de dc ro es st fa co : Nat → Int32) (m : Nat) (K A B C F : Nat → Int32) (σ : Nat → Nat), kc_I N R Q de ro es st fa co ∧ kc_PQ N R fa co m K A B C F σ ∧ (∀ post : SX → Prop, post (nI N, nI R, nI Q, cc, cr, de, dc, ro, es, st, sm, fa, co) → fX post) ∧ (∀ post : SY → Prop, post (nI N, nI R, nI Q, nI m, K, A, B, C, F, cr, ro, es, st, de, dc, su) → fY post)
theorem kc_LK_imp {N R Q : Nat} {cc : Int32} {cr sm su : Nat → Int32} {fX gX : (SX → Prop) → Prop} {fY gY : (SY → Prop) → Prop} (h : kc_LK N R Q cc cr sm su fX fY) (hx : ∀ post, fX post → gX post) (hy : ∀ post, fY post → gY post) : kc_LK N R Q cc cr sm su gX gY := by
  obtain ⟨de, dc, ro, es, st, fa, co, m, K, A, B, C, F, σ, h1, h2, h3, h4⟩ := h
  exact ⟨de, dc, ro, es, st, fa, co, m, K, A, B, C, F, σ, h1, h2, fun post hp => hx post (h3 post hp), fun post hp => hy post (h4 post hp)⟩
theorem kc_LK_bind {N R Q : Nat} {cc : Int32} {cr sm su : Nat → Int32} {fX gX : (SX → Prop) → Prop} {fY gY : (SY → Prop) → Prop} (h : kc_LK N R Q cc cr sm su fX fY) (hx : ∀ (de dc ro es st fa co : Nat → Int32), (∀ post : SX → Prop, post (nI N, nI R, nI Q, cc, cr, de, dc, ro, es, st, sm, fa, co) → fX post) → ∀ post : SX → Prop, post (nI N, nI R, nI Q, cc, cr, de, dc, ro, es, st, sm, fa, co) → gX post) (hy : ∀ (de dc ro es st : Nat → Int32) (m : Nat) (K A B C F : Nat → Int32), (∀ post : SY → Prop, post (nI N, nI R, nI Q, nI m, K, A, B, C, F, cr, ro, es, st, de, dc, su) → fY post) → ∀ post : SY → Prop, post (nI N, nI R, nI Q, nI m, K, A, B, C, F, cr, ro, es, st, de, dc, su) → gY post) : kc_LK N R Q cc cr sm su gX gY := by
  obtain ⟨de, dc, ro, es, st, fa, co, m, K, A, B, C, F, σ, h1, h2, h3, h4⟩ := h
  exact ⟨de, dc, ro, es, st, fa, co, m, K, A, B, C, F, σ, h1, h2, hx _ _ _ _ _ _ _ h3, hy _ _ _ _ _ _ _ _ _ _ _ h4⟩
section
variable {N R Q m : Nat} {cc : Int32} {cr de dc ro es st sm fa co K A B C F su : Nat → Int32} {σ : Nat → Nat}
theorem kc_PQ_sk {s k a b : Nat} (hB : kc_B N R Q) (h : kc_PQ N R fa co m K A B C F σ) (hn : kc_nm N R k a b) (hs : s = k * 45 + a * 5 + b) (hu : fa s = 0) (c : Int32) : m < 140 ∧ kc_PQ N R (upd fa s 1) (upd co s c) (m + 1) (upd K m (nI k)) (upd A m (nI a)) (upd B m (nI b)) (upd C m c) (upd F m 1) (fun i => if i = m then s else σ i) := by
  obtain ⟨b1, b2, b3, b4, b5⟩ := hB
  obtain ⟨s1, s2, s3, s4, s5⟩ := kc_nm_vs b2 b4 hn hs
  have g := kc_PQ_send h s1 hu c
  rw [s3, s4, s5] at g
  exact ⟨kc_PQ_room b2 b4 h s1 hu, g⟩
theorem kc_rep {x : Int32} {n : Nat} (h0 : 0 ≤ x.toInt) (h1 : x.toInt ≤ n) : ∃ j, j ≤ n ∧ x = nI j := by
  obtain ⟨j, hj, rfl⟩ := nI_of (x := x) (by
    rw [Int32.lt_iff_toInt_lt, show (0 : Int32).toInt = 0 from by decide]
    omega)
  rw [nI_toInt hj] at h1
  exact ⟨j, by omega, rfl⟩
theorem kc_rng {x y : Int32} (hx : 0 ≤ x.toInt ∧ x.toInt ≤ 999) (hy : 0 ≤ y.toInt ∧ y.toInt ≤ 8) : 0 ≤ (x * 16 + y).toInt ∧ (x * 16 + y).toInt < 16000 := by
  obtain ⟨a, ha, rfl⟩ := kc_rep (n := 999) hx.1 hx.2
  obtain ⟨b, hb, rfl⟩ := kc_rep (n := 8) hy.1 hy.2
  rw [show nI a * 16 = nI (a * 16) from pk_mul a 16, nI_add, nI_toInt (by omega)]
  omega
theorem kc_s1 (r p : Nat) : (((1 : Int32) * 45) + (nI r * 5)) + nI p = nI (45 + r * 5 + p) := (kc_sl 1 r p).trans (congrArg nI (by omega))
theorem kc_xacc {post : SX → Prop} {r p : Nat} (hr : r ≤ 8) (hp5 : p < 5) (hp : post (nI N, nI R, nI Q, cc, cr, de, dc, ro, upd es p (co (45 + r * 5 + p)), upd st p (nI r), sm, upd fa (90 + r * 5 + p) 1, upd co (90 + r * 5 + p) 1)) : wpX_accept post (nI N, nI R, nI Q, cc, cr, de, dc, ro, es, st, sm, fa, co) (nI p) (nI r) := by
  unfold wpX_accept wpX_slot
  dsimp only
  rw [kc_s1, nI_clamp (n := 45 + r * 5 + p) (by omega), nI_clamp (n := p) (by omega)]
  have h5 : vp_in (nI p) 5 := vp_in_nI hp5 (by omega)
  exact ⟨vp_in_nI (by omega) (by omega), h5, nm_e ⟨h5, nm_e (kc_xsend (k := 2) (a := r) (b := p) (s := 90 + r * 5 + p) (by omega) (by omega) hp)⟩⟩
theorem kc_xref {post : SX → Prop} {r p : Nat} (hr : r ≤ 8) (hp5 : p < 5) (hp : post (nI N, nI R, nI Q, cc, cr, de, dc, ro, es, st, sm, upd fa (90 + r * 5 + p) 1, upd co (90 + r * 5 + p) 0)) : wpX_refuse post (nI N, nI R, nI Q, cc, cr, de, dc, ro, es, st, sm, fa, co) (nI p) (nI r) := by
  unfold wpX_refuse
  exact kc_xsend (k := 2) (a := r) (b := p) (s := 90 + r * 5 + p) (by omega) (by omega) hp
theorem kc_xra1 {post : Int32 → SX → Prop} {r p : Nat} (hr : r ≤ 8) (hp5 : p < 5) (h : fa (45 + r * 5 + p) = 2) (hp : post 1 (nI N, nI R, nI Q, cc, cr, de, dc, ro, upd es p (co (45 + r * 5 + p)), upd st p (nI r), sm, upd fa (90 + r * 5 + p) 1, upd co (90 + r * 5 + p) 1)) : wpX_repliesAtOnce post (nI N, nI R, nI Q, cc, cr, de, dc, ro, es, st, sm, fa, co) (nI p) (nI r) := by
  unfold wpX_repliesAtOnce wpX_slot
  dsimp only
  rw [kc_s1, nI_clamp (n := 45 + r * 5 + p) (by omega)]
  exact ⟨vp_in_nI (by omega) (by omega), br_t h (kc_xacc hr hp5 hp)⟩
theorem kc_xra2 {post : Int32 → SX → Prop} {r p : Nat} (hB : kc_B N R Q) (h1 : 1 ≤ r) (hr : r ≤ 8) (hp5 : p < 5) (h : fa (45 + r * 5 + p) ≠ 2) (hb : ((sm p) >>> (nI (kc_cd N r) &&& 31)) &&& 1 = 0) (hp : post 0 (nI N, nI R, nI Q, cc, cr, de, dc, ro, es, st, sm, fa, co)) : wpX_repliesAtOnce post (nI N, nI R, nI Q, cc, cr, de, dc, ro, es, st, sm, fa, co) (nI p) (nI r) := by
  unfold wpX_repliesAtOnce wpX_slot
  dsimp only
  rw [kc_s1, nI_clamp (n := 45 + r * 5 + p) (by omega)]
  refine ⟨vp_in_nI (by omega) (by omega), br_f h (kc_xcoord hB h1 (by omega) ?_)⟩
  unfold wpX_suspects
  dsimp only
  rw [nI_clamp (n := p) (by omega)]
  exact ⟨vp_in_nI hp5 (by omega), br_t hb (br_t rfl hp)⟩
theorem kc_xra3 {post : Int32 → SX → Prop} {r p : Nat} (hB : kc_B N R Q) (h1 : 1 ≤ r) (hr : r ≤ 8) (hp5 : p < 5) (h : fa (45 + r * 5 + p) ≠ 2) (hb : ¬ ((sm p) >>> (nI (kc_cd N r) &&& 31)) &&& 1 = 0) (hp : post 1 (nI N, nI R, nI Q, cc, cr, de, dc, ro, es, st, sm, upd fa (90 + r * 5 + p) 1, upd co (90 + r * 5 + p) 0)) : wpX_repliesAtOnce post (nI N, nI R, nI Q, cc, cr, de, dc, ro, es, st, sm, fa, co) (nI p) (nI r) := by
  unfold wpX_repliesAtOnce wpX_slot
  dsimp only
  rw [kc_s1, nI_clamp (n := 45 + r * 5 + p) (by omega)]
  refine ⟨vp_in_nI (by omega) (by omega), br_f h (kc_xcoord hB h1 (by omega) ?_)⟩
  unfold wpX_suspects
  dsimp only
  rw [nI_clamp (n := p) (by omega)]
  exact ⟨vp_in_nI hp5 (by omega), br_f hb (br_f (by decide) (kc_xref hr hp5 hp))⟩
theorem kc_ytake {post : SY → Prop} {r p : Nat} (hB : kc_B N R Q) (h : kc_PQ N R fa co m K A B C F σ) (h1 : 1 ≤ r) (hr : r ≤ R) (hpN : p < N) (hz : fa (45 + r * 5 + p) ≠ 0) (hm : m < 140) (hp : post (nI N, nI R, nI Q, nI (m + 1), upd K m 2, upd A m (nI r), upd B m (nI p), upd C m 1, upd F m 1, cr, ro, upd es p (co (45 + r * 5 + p)), upd st p (nI r), de, dc, su)) : wpY_takeProposal post (nI N, nI R, nI Q, nI m, K, A, B, C, F, cr, ro, es, st, de, dc, su) (nI p) (nI r) := by
  have hB' := hB
  obtain ⟨b1, b2, b3, b4, b5⟩ := hB'
  have h5 : vp_in (nI p) 5 := vp_in_nI (by omega) (by omega)
  unfold wpY_takeProposal
  dsimp only
  rw [nI_clamp (n := p) (by omega)]
  exact kc_ycont hB h (k := 1) (a := r) (b := p) (s := 45 + r * 5 + p) ⟨hpN, Or.inl ⟨by omega, h1, hr⟩⟩ (by omega) (fun z => absurd z hz) (fun _ => ⟨h5, nm_e ⟨h5, nm_e (kc_ysend hm hp)⟩⟩)
/-- entering round r, and going on -/
theorem kc_enter_lp {p : Nat} (hB : kc_B N R Q) (hM : kc_M N sm su) (hpN : p < N) : ∀ d r, r + d = R + 1 → 1 ≤ r → ∀ (ro es st fa co : Nat → Int32) (m : Nat) (K A B C F : Nat → Int32) (σ : Nat → Nat), kc_I N R Q de (upd ro p (nI r)) es st fa co → (r ≤ R → fa (r * 5 + p) = 0) → kc_PQ N R fa co m K A B C F σ → kc_LK N R Q cc cr sm su (fun post => wX_enter_2 post (nI p) (d + 1) (nI r) (nI N) (nI R) (nI Q) cc cr de dc ro es st sm fa co) (fun post => wY_enter_2 post (nI p) (d + 1) (nI r) (nI N) (nI R) (nI Q) (nI m) K A B C F cr ro es st de dc su) := by
  have hB' := hB
  obtain ⟨b1, b2, b3, b4, b5⟩ := hB'
  have h5 : vp_in (nI p) 5 := vp_in_nI (by omega) (by omega)
  intro d
  induction d with
  | zero =>
    intro r e h1 ro es st fa co m K A B C F σ hI hu hP
    have e' : r = R + 1 := by omega
    subst e'
    refine ⟨de, dc, upd ro p (nI (R + 1)), es, st, fa, co, m, K, A, B, C, F, σ, hI, hP, fun post h => ?_, fun post h => ?_⟩
    · try dsimp only
      rw [wX_enter_2]
      dsimp only
      rw [nI_clamp (n := p) (by omega)]
      exact br_t (nI_lt (by omega) (by omega)) ⟨h5, nm_r (e' := upd ro p (nI (R + 1))) (by rw [nI_1]) h⟩
    · try dsimp only
      rw [wY_enter_2]
      dsimp only
      rw [nI_clamp (n := p) (by omega)]
      exact br_f (by rw [nI_1]; exact nI_nlt (by omega) (by omega)) ⟨h5, nm_e (br_t (nI_1 R).symm h)⟩
  | succ d ih =>
    intro r e h1 ro es st fa co m K A B C F σ hI hu hP
    have hr : r ≤ R := by omega
    have hn0 : kc_nm N R 0 r p := ⟨hpN, Or.inl ⟨by omega, h1, hr⟩⟩
    have hn2 : kc_nm N R 2 r p := ⟨hpN, Or.inl ⟨by omega, h1, hr⟩⟩
    have hn1 : kc_nm N R 1 r p := ⟨hpN, Or.inl ⟨by omega, h1, hr⟩⟩
    have hro : (upd ro p (nI r)) p = nI r := pk_us
    have hrt : ((upd ro p (nI r)) p).toInt = (r : Int) := by rw [hro]; exact nI_toInt (by omega)
    have hcd : kc_cd N r < N := kc_cd_lt b1
    have hc := kc_rng (hI.2.2.2.2.2.1 p hpN).1 (hI.2.2.2.2.2.1 p hpN).2
    have I1 := kc_I_est (r := r) (p := p) (c := es p * 16 + st p) b2 b4 hI hr hpN (by rw [hrt]; exact Int.le_refl _) (hu hr) hc
    obtain ⟨hm, P1⟩ := kc_PQ_sk (s := r * 5 + p) (k := 0) (a := r) (b := p) hB hP hn0 (by omega) (hu hr) (es p * 16 + st p)
    have hu2 : (upd fa (r * 5 + p) 1) (90 + r * 5 + p) = 0 := by
      by_cases z : (upd fa (r * 5 + p) 1) (90 + r * 5 + p) = 0
      · exact z
      · have := I1.2.2.1 r p hr hpN z
        omega
    have hvin : ¬ nI R + 1 < nI r := by rw [nI_1]; exact nI_nlt (by omega) (by omega)
    have hvn : ¬ nI r = nI R + 1 := by rw [nI_1]; exact kc_nI_ne (by omega) (by omega) (by omega)
    have hXR : ¬ nI R < nI r := nI_nlt (by omega) (by omega)
    have e5 : (nI p * 5) + nI (kc_cd N r) = nI (p * 5 + kc_cd N r) := by rw [show nI p * 5 = nI (p * 5) from pk_mul p 5, nI_add]
    by_cases z2 : (upd fa (r * 5 + p) 1) (45 + r * 5 + p) = 2
    · have hz : (upd fa (r * 5 + p) 1) (45 + r * 5 + p) ≠ 0 := by rw [z2]; decide
      have hv : 0 ≤ ((upd co (r * 5 + p) (es p * 16 + st p)) (45 + r * 5 + p)).toInt ∧ ((upd co (r * 5 + p) (es p * 16 + st p)) (45 + r * 5 + p)).toInt ≤ 999 := by
        have := I1.2.2.2.2.2.2.2.1 (r * 5 + p) (by omega)
        rw [show 45 + (r * 5 + p) = 45 + r * 5 + p from by omega] at this
        exact this
      have I2 := kc_I_es (p := p) (y := nI r) I1 hv (by rw [nI_toInt (by omega)]; omega)
      obtain ⟨I3, u3⟩ := kc_I_reply (r := r) (p := p) (c := 1) b2 b4 I2 hr hpN hro (fun _ => (I1.2.2.2.1 r p hr hpN hz).1)
      obtain ⟨hm2, P2⟩ := kc_PQ_sk (s := 90 + r * 5 + p) (k := 2) (a := r) (b := p) hB P1 hn2 (by omega) hu2 1
      refine kc_LK_imp (ih (r + 1) (by omega) (by omega) _ _ _ _ _ _ _ _ _ _ _ _ I3 u3 P2) (fun post g => ?_) (fun post g => ?_)
      · try dsimp only
        rw [wX_enter_2]
        dsimp only
        rw [nI_clamp (n := p) (by omega)]
        exact br_f hXR ⟨h5, nm_e ⟨h5, h5, kc_xsend (k := 0) (a := r) (b := p) (s := r * 5 + p) (by omega) (by omega) (kc_xra1 (by omega) (by omega) z2 (br_f (by decide) (nm_r (nI_1 r) g)))⟩⟩
      · try dsimp only
        rw [wY_enter_2]
        dsimp only
        rw [nI_clamp (n := p) (by omega)]
        exact br_f hvin ⟨h5, nm_e (br_f hvn ⟨h5, h5, kc_ysend hm (kc_ycoord hB h1 (by omega) (kc_yfate hB P1 (k := 1) (a := r) (b := p) (s := 45 + r * 5 + p) hn1 (by omega) (br_t z2 (kc_ytake hB P1 h1 hr hpN hz hm2 (nm_r (nI_1 r) g)))))⟩)⟩
    · by_cases zb : ((sm p) >>> (nI (kc_cd N r) &&& 31)) &&& 1 = 0
      · have zs := ((hM p hpN).2.1 _ hcd).mp zb
        refine ⟨de, dc, _, es, st, _, _, _, _, _, _, _, _, _, I1, P1, fun post g => ?_, fun post g => ?_⟩
        · try dsimp only
          rw [wX_enter_2]
          dsimp only
          rw [nI_clamp (n := p) (by omega)]
          exact br_f hXR ⟨h5, nm_e ⟨h5, h5, kc_xsend (k := 0) (a := r) (b := p) (s := r * 5 + p) (by omega) (by omega) (kc_xra2 hB h1 (by omega) (by omega) z2 zb (br_t rfl g))⟩⟩
        · try dsimp only
          rw [wY_enter_2]
          dsimp only
          rw [nI_clamp (n := p) (by omega)]
          refine br_f hvin ⟨h5, nm_e (br_f hvn ⟨h5, h5, kc_ysend hm (kc_ycoord hB h1 (by omega) (kc_yfate hB P1 (k := 1) (a := r) (b := p) (s := 45 + r * 5 + p) hn1 (by omega) (br_f z2 ?_)))⟩)⟩
          rw [e5, nI_clamp (by omega)]
          exact ⟨vp_in_nI (by omega) (by omega), br_t zs g⟩
      · have zs : ¬ su (p * 5 + kc_cd N r) = 0 := fun z => zb (((hM p hpN).2.1 _ hcd).mpr z)
        obtain ⟨I3, u3⟩ := kc_I_reply (r := r) (p := p) (c := 0) b2 b4 I1 hr hpN hro (fun z => absurd z (by decide))
        obtain ⟨hm2, P2⟩ := kc_PQ_sk (s := 90 + r * 5 + p) (k := 2) (a := r) (b := p) hB P1 hn2 (by omega) hu2 0
        refine kc_LK_imp (ih (r + 1) (by omega) (by omega) _ _ _ _ _ _ _ _ _ _ _ _ I3 u3 P2) (fun post g => ?_) (fun post g => ?_)
        · try dsimp only
          rw [wX_enter_2]
          dsimp only
          rw [nI_clamp (n := p) (by omega)]
          exact br_f hXR ⟨h5, nm_e ⟨h5, h5, kc_xsend (k := 0) (a := r) (b := p) (s := r * 5 + p) (by omega) (by omega) (kc_xra3 hB h1 (by omega) (by omega) z2 zb (br_f (by decide) (nm_r (nI_1 r) g)))⟩⟩
        · try dsimp only
          rw [wY_enter_2]
          dsimp only
          rw [nI_clamp (n := p) (by omega)]
          refine br_f hvin ⟨h5, nm_e (br_f hvn ⟨h5, h5, kc_ysend hm (kc_ycoord hB h1 (by omega) (kc_yfate hB P1 (k := 1) (a := r) (b := p) (s := 45 + r * 5 + p) hn1 (by omega) (br_f z2 ?_)))⟩)⟩
          rw [e5, nI_clamp (by omega)]
          exact ⟨vp_in_nI (by omega) (by omega), br_f zs (kc_ysend hm2 (nm_r (nI_1 r) g))⟩
theorem kc_enter {p r : Nat} (hB : kc_B N R Q) (hM : kc_M N sm su) (hpN : p < N) (h1 : 1 ≤ r) (hr : r ≤ R + 1) (hI : kc_I N R Q de (upd ro p (nI r)) es st fa co) (hu : r ≤ R → fa (r * 5 + p) = 0) (hP : kc_PQ N R fa co m K A B C F σ) : kc_LK N R Q cc cr sm su (fun post => wpX_enter post (nI N, nI R, nI Q, cc, cr, de, dc, ro, es, st, sm, fa, co) (nI p) (nI r)) (fun post => wpY_enter post (nI N, nI R, nI Q, nI m, K, A, B, C, F, cr, ro, es, st, de, dc, su) (nI p) (nI r)) :=
  kc_LK_imp (kc_enter_lp (dc := dc) hB hM hpN (R + 1 - r) r (by omega) h1 ro es st fa co m K A B C F σ hI hu hP) (fun _ g => ⟨_, g⟩) (fun _ g => ⟨_, g⟩)
end
end
section
theorem kc_nar : vp_nar .boolean 1 = 1 := rfl
theorem kc_n_t {P : Nat → Bool} {n : Nat} (h : P n = true) : kc_n P (n + 1) = kc_n P n + 1 := by
  show kc_n P n + _ = _
  rw [if_pos h]
theorem kc_n_f {P : Nat → Bool} {n : Nat} (h : P n = false) : kc_n P (n + 1) = kc_n P n := by
  show kc_n P n + _ = _
  rw [h, if_neg (by decide)]
  rfl
section
variable {N R Q m : Nat} {cc : Int32} {cr de dc ro es st sm fa co K A B C F su : Nat → Int32} {σ : Nat → Nat}
theorem kc_settle_lp {q : Nat} {v : Int32} (hB : kc_B N R Q) (hq : q < N) (hd : de q ≠ 0) : ∀ d b, b + d = N → ∀ (fa co : Nat → Int32) (m : Nat) (K A B C F : Nat → Int32) (σ : Nat → Nat), kc_I N R Q de ro es st fa co → kc_PQ N R fa co m K A B C F σ → (∀ b', b ≤ b' → b' < N → fa (135 + q * 5 + b') = 0) → kc_LK N R Q cc cr sm su (fun post => wX_settle_16 post (nI q) v (d + 1) (nI b) (nI N) (nI R) (nI Q) cc cr de dc ro es st sm fa co) (fun post => wY_settle_16 post (nI q) v (d + 1) (nI b) (nI N) (nI R) (nI Q) (nI m) K A B C F cr ro es st de dc su) := by
  have hB' := hB
  obtain ⟨b1, b2, b3, b4, b5⟩ := hB'
  intro d
  induction d with
  | zero =>
    intro b e fa co m K A B C F σ hI hP hu
    have hb : nI N ≤ nI b := nI_le (by omega) (by omega)
    exact ⟨de, dc, ro, es, st, fa, co, m, K, A, B, C, F, σ, hI, hP, fun post h => br_t hb h, fun post h => br_t hb h⟩
  | succ d ih =>
    intro b e fa co m K A B C F σ hI hP hu
    have hb : ¬ nI N ≤ nI b := nI_ge (by omega) (by omega)
    by_cases eb : b = q
    · refine kc_LK_imp (ih (b + 1) (by omega) fa co m K A B C F σ hI hP (fun b' h1 h2 => hu b' (by omega) h2)) (fun post g => ?_) (fun post g => ?_)
      · exact br_f hb (br_t (congrArg nI eb) (nm_r (nI_1 b) g))
      · exact br_f hb (br_t (congrArg nI eb) (nm_r (nI_1 b) g))
    · have hbn : ¬ nI b = nI q := kc_nI_ne (by omega) (by omega) eb
      have hn : kc_nm N R 3 q b := ⟨by omega, Or.inr ⟨rfl, hq, fun z => eb z.symm⟩⟩
      have hu0 := hu b (Nat.le_refl _) (by omega)
      obtain ⟨hm, P1⟩ := kc_PQ_sk (s := 135 + q * 5 + b) (k := 3) (a := q) (b := b) hB hP hn (by omega) hu0 v
      have I1 := kc_I_dec (q := q) (p := b) (c := v) b2 b4 hI hq (by omega) hd
      refine kc_LK_imp (ih (b + 1) (by omega) _ _ _ _ _ _ _ _ _ I1 P1 (fun b' h1 h2 => ?_)) (fun post g => ?_) (fun post g => ?_)
      · rw [pk_un (by omega)]; exact hu b' (by omega) h2
      · exact br_f hb (br_f hbn (kc_xsend (k := 3) (a := q) (b := b) (s := 135 + q * 5 + b) (by omega) (by omega) (nm_r (nI_1 b) g)))
      · exact br_f hb (br_f hbn (kc_ysend hm (nm_r (nI_1 b) g)))
theorem kc_settle {q : Nat} {v : Int32} (hB : kc_B N R Q) (hq : q < N) (hd : de q = 0) (hI : kc_I N R Q de ro es st fa co) (hP : kc_PQ N R fa co m K A B C F σ) : kc_LK N R Q cc cr sm su (fun post => wpX_settle post (nI N, nI R, nI Q, cc, cr, de, dc, ro, es, st, sm, fa, co) (nI q) v) (fun post => wpY_settle post (nI N, nI R, nI Q, nI m, K, A, B, C, F, cr, ro, es, st, de, dc, su) (nI q) v) := by
  have hB' := hB
  obtain ⟨b1, b2, b3, b4, b5⟩ := hB'
  have h5 : vp_in (nI q) 5 := vp_in_nI (by omega) (by omega)
  have hu : ∀ b', 0 ≤ b' → b' < N → fa (135 + q * 5 + b') = 0 := fun b' _ hb => by
    by_cases z : fa (135 + q * 5 + b') = 0
    · exact z
    · exact absurd hd (hI.2.2.2.2.1 q b' hq hb z)
  have hde : (upd de q 1) q ≠ 0 := by rw [pk_us]; decide
  refine kc_LK_imp (kc_settle_lp (dc := upd dc q v) (v := v) hB hq hde N 0 (by omega) fa co m K A B C F σ (kc_I_de hI) hP hu) (fun post g => ?_) (fun post g => ?_)
  · unfold wpX_settle
    dsimp only
    rw [nI_clamp (n := q) (by omega), kc_nar]
    exact ⟨h5, nm_e ⟨h5, nm_e ⟨_, g⟩⟩⟩
  · unfold wpY_settle
    dsimp only
    rw [nI_clamp (n := q) (by omega), kc_nar]
    exact ⟨h5, nm_e ⟨h5, nm_e ⟨_, g⟩⟩⟩
theorem kc_prop_lp {r : Nat} {v : Int32} (hB : kc_B N R Q) (h1 : 1 ≤ r) (hr : r ≤ R) (hv : 0 ≤ v.toInt ∧ v.toInt ≤ 999) : ∀ d x, x + d = N → ∀ (fa co : Nat → Int32) (m : Nat) (K A B C F : Nat → Int32) (σ : Nat → Nat), kc_I N R Q de ro es st fa co → kc_PQ N R fa co m K A B C F σ → (x = 0 ∨ fa (45 + r * 5) ≠ 0) → Q ≤ kc_n (fun y => decide (fa (r * 5 + y) = 2)) N → (∀ x', x ≤ x' → x' < N → fa (45 + r * 5 + x') = 0) → kc_LK N R Q cc cr sm su (fun post => wX_onEstimate_22 post (nI r) v (d + 1) (nI x) (nI N) (nI R) (nI Q) cc cr de dc ro es st sm fa co) (fun post => wY_estimateArrived_148 post (nI r) v (d + 1) (nI x) (nI N) (nI R) (nI Q) (nI m) K A B C F cr ro es st de dc su) := by
  have hB' := hB
  obtain ⟨b1, b2, b3, b4, b5⟩ := hB'
  intro d
  induction d with
  | zero =>
    intro b e fa co m K A B C F σ hI hP h0 hq hu
    have hb : nI N ≤ nI b := nI_le (by omega) (by omega)
    exact ⟨de, dc, ro, es, st, fa, co, m, K, A, B, C, F, σ, hI, hP, fun post h => br_t hb h, fun post h => br_t hb h⟩
  | succ d ih =>
    intro b e fa co m K A B C F σ hI hP h0 hq hu
    have hb : ¬ nI N ≤ nI b := nI_ge (by omega) (by omega)
    have hn : kc_nm N R 1 r b := ⟨by omega, Or.inl ⟨by omega, h1, hr⟩⟩
    have hu0 := hu b (Nat.le_refl _) (by omega)
    obtain ⟨hm, P1⟩ := kc_PQ_sk (s := 45 + r * 5 + b) (k := 1) (a := r) (b := b) hB hP hn (by omega) hu0 v
    obtain ⟨I1, g1, g2⟩ := kc_I_prop (r := r) (p := b) (c := v) b2 b4 hI hr (by omega) h0 hq hv
    refine kc_LK_imp (ih (b + 1) (by omega) _ _ _ _ _ _ _ _ _ I1 P1 (Or.inr g1) g2 (fun b' h1 h2 => ?_)) (fun post g => ?_) (fun post g => ?_)
    · rw [pk_un (by omega)]; exact hu b' (by omega) h2
    · exact br_f hb (kc_xsend (k := 1) (a := r) (b := b) (s := 45 + r * 5 + b) (by omega) (by omega) (nm_r (nI_1 b) g))
    · exact br_f hb (kc_ysend hm (nm_r (nI_1 b) g))
/-! X's counts -/
theorem kc_xcount_lp {post : Int32 → Prop} {k r b0 : Nat} (hB : kc_B N R Q) (hk : k < 3) (hr : r ≤ 8) (hb0 : b0 = k * 45 + r * 5) (hp : post (nI (kc_n (fun y => decide (fa (b0 + y) = 2)) N))) : ∀ d x, x + d = N → wX_deliveredCount_5 post (nI k) (nI r) (nI N) (nI R) (nI Q) cc cr de dc ro es st sm fa co (d + 1) (nI (kc_n (fun y => decide (fa (b0 + y) = 2)) x)) (nI x) := by
  obtain ⟨b1, b2, b3, b4, b5⟩ := hB
  intro d
  induction d with
  | zero =>
    intro x e
    have e' : x = N := by omega
    subst e'
    exact br_t (nI_le (by omega) (by omega)) hp
  | succ d ih =>
    intro x e
    have g := ih (x + 1) (by omega)
    rw [wX_deliveredCount_5]
    unfold wpX_slot
    dsimp only
    rw [kc_sl, ← hb0, nI_clamp (n := b0 + x) (by omega)]
    refine br_f (nI_ge (by omega) (by omega)) ⟨vp_in_nI (by omega) (by omega), br_c (fun z => nm_r (nI_1 _) (nm_r (nI_1 x) ?_)) (fun z => nm_r (nI_1 x) ?_)⟩
    · rw [kc_n_t (decide_eq_true z)] at g; exact g
    · rw [kc_n_f (decide_eq_false z)] at g; exact g
theorem kc_xcount {post : Int32 → Prop} {k r b0 : Nat} (hB : kc_B N R Q) (hk : k < 3) (hr : r ≤ 8) (hb0 : b0 = k * 45 + r * 5) (hp : post (nI (kc_n (fun y => decide (fa (b0 + y) = 2)) N))) : wpX_deliveredCount post (nI N, nI R, nI Q, cc, cr, de, dc, ro, es, st, sm, fa, co) (nI k) (nI r) :=
  ⟨N + 1, kc_xcount_lp hB hk hr hb0 hp N 0 (by omega)⟩
theorem kc_s2 (r p : Nat) : (((2 : Int32) * 45) + (nI r * 5)) + nI p = nI (90 + r * 5 + p) := (kc_sl 2 r p).trans (congrArg nI (by omega))
theorem kc_xacks_lp {post : Int32 → Prop} {r : Nat} (hB : kc_B N R Q) (hr : r ≤ 8) (hp : post (nI (kc_n (fun y => decide (fa (90 + r * 5 + y) = 2) && decide (co (90 + r * 5 + y) = 1)) N))) : ∀ d x, x + d = N → wX_deliveredAcks_4 post (nI r) (nI N) (nI R) (nI Q) cc cr de dc ro es st sm fa co (d + 1) (nI (kc_n (fun y => decide (fa (90 + r * 5 + y) = 2) && decide (co (90 + r * 5 + y) = 1)) x)) (nI x) := by
  obtain ⟨b1, b2, b3, b4, b5⟩ := hB
  intro d
  induction d with
  | zero =>
    intro x e
    have e' : x = N := by omega
    subst e'
    exact br_t (nI_le (by omega) (by omega)) hp
  | succ d ih =>
    intro x e
    have g := ih (x + 1) (by omega)
    have hin : vp_in (nI (90 + r * 5 + x)) 180 := vp_in_nI (by omega) (by omega)
    rw [wX_deliveredAcks_4]
    unfold wpX_slot
    dsimp only
    rw [kc_s2, nI_clamp (n := 90 + r * 5 + x) (by omega)]
    refine br_f (nI_ge (by omega) (by omega)) ⟨hin, br_c (fun z => ⟨hin, br_c (fun z1 => nm_r (nI_1 _) (nm_r (nI_1 x) ?_)) (fun z1 => nm_r (nI_1 x) ?_)⟩) (fun z => nm_r (nI_1 x) ?_)⟩
    · rw [kc_n_t (by rw [decide_eq_true z, decide_eq_true z1]; rfl)] at g; exact g
    · rw [kc_n_f (by rw [decide_eq_false z1, Bool.and_false])] at g; exact g
    · rw [kc_n_f (by rw [decide_eq_false z, Bool.false_and])] at g; exact g
theorem kc_xacks {post : Int32 → Prop} {r : Nat} (hB : kc_B N R Q) (hr : r ≤ 8) (hp : post (nI (kc_n (fun y => decide (fa (90 + r * 5 + y) = 2) && decide (co (90 + r * 5 + y) = 1)) N))) : wpX_deliveredAcks post (nI N, nI R, nI Q, cc, cr, de, dc, ro, es, st, sm, fa, co) (nI r) :=
  ⟨N + 1, kc_xacks_lp hB hr hp N 0 (by omega)⟩
theorem kc_xsacks_lp {post : Int32 → Prop} {r : Nat} (hB : kc_B N R Q) (hr : r ≤ 8) (hp : post (nI (kc_n (fun y => !decide (fa (90 + r * 5 + y) = 0) && decide (co (90 + r * 5 + y) = 1)) N))) : ∀ d x, x + d = N → wX_sentAcks_4 post (nI r) (nI N) (nI R) (nI Q) cc cr de dc ro es st sm fa co (d + 1) (nI (kc_n (fun y => !decide (fa (90 + r * 5 + y) = 0) && decide (co (90 + r * 5 + y) = 1)) x)) (nI x) := by
  obtain ⟨b1, b2, b3, b4, b5⟩ := hB
  intro d
  induction d with
  | zero =>
    intro x e
    have e' : x = N := by omega
    subst e'
    exact br_t (nI_le (by omega) (by omega)) hp
  | succ d ih =>
    intro x e
    have g := ih (x + 1) (by omega)
    have hin : vp_in (nI (90 + r * 5 + x)) 180 := vp_in_nI (by omega) (by omega)
    rw [wX_sentAcks_4]
    unfold wpX_slot
    dsimp only
    rw [kc_s2, nI_clamp (n := 90 + r * 5 + x) (by omega)]
    refine br_f (nI_ge (by omega) (by omega)) ⟨hin, br_c (fun z => nm_r (nI_1 x) ?_) (fun z => ⟨hin, br_c (fun z1 => nm_r (nI_1 _) (nm_r (nI_1 x) ?_)) (fun z1 => nm_r (nI_1 x) ?_)⟩)⟩
    · rw [kc_n_f (by rw [decide_eq_true z]; rfl)] at g; exact g
    · rw [kc_n_t (by rw [decide_eq_false z, decide_eq_true z1]; rfl)] at g; exact g
    · rw [kc_n_f (by rw [decide_eq_false z1, Bool.and_false])] at g; exact g
theorem kc_xsacks {post : Int32 → Prop} {r : Nat} (hB : kc_B N R Q) (hr : r ≤ 8) (hp : post (nI (kc_n (fun y => !decide (fa (90 + r * 5 + y) = 0) && decide (co (90 + r * 5 + y) = 1)) N))) : wpX_sentAcks post (nI N, nI R, nI Q, cc, cr, de, dc, ro, es, st, sm, fa, co) (nI r) :=
  ⟨N + 1, kc_xsacks_lp hB hr hp N 0 (by omega)⟩
theorem kc_xpv {post : Int32 → Prop} {r : Nat} (hr : r ≤ 8) (hp : post (co (45 + r * 5))) : wpX_proposedValue post (nI N, nI R, nI Q, cc, cr, de, dc, ro, es, st, sm, fa, co) (nI r) := by
  unfold wpX_proposedValue wpX_slot
  dsimp only
  rw [show (((1 : Int32) * 45) + (nI r * 5)) + 0 = nI (45 + r * 5) from kc_s1 r 0, nI_clamp (n := 45 + r * 5) (by omega)]
  exact ⟨vp_in_nI (by omega) (by omega), hp⟩
end
end
section
def kc_ar (fa : Nat → Int32) (k r t : Nat) : Bool := decide (t / 45 = k ∧ t % 45 / 5 = r ∧ fa t = 2)
def kc_w (co : Nat → Int32) (t : Nat) : Nat := (co t).toInt.toNat
theorem kc_w_eq {co : Nat → Int32} {t : Nat} (h : 0 ≤ (co t).toInt ∧ (co t).toInt < 16000) : co t = nI (kc_w co t) ∧ kc_w co t < 16000 := by
  obtain ⟨j, hj, e⟩ := kc_rep (x := co t) (n := 15999) h.1 (by omega)
  have e2 : kc_w co t = j := by
    unfold kc_w
    rw [e, nI_toInt (by omega)]
    omega
  rw [e2]
  exact ⟨e, by omega⟩
def kc_top (P : Nat → Bool) (f : Nat → Nat) : Nat → Nat
  | 0 => 0
  | n + 1 => if P n = true ∧ kc_top P f n < f n then f n else kc_top P f n
def kc_min (P : Nat → Bool) (f : Nat → Nat) : Nat → Nat
  | 0 => 1000
  | n + 1 => if P n = true ∧ f n < kc_min P f n then f n else kc_min P f n
theorem kc_top_t {P : Nat → Bool} {f : Nat → Nat} {n : Nat} (h : P n = true ∧ kc_top P f n < f n) : kc_top P f (n + 1) = f n := if_pos h
theorem kc_top_f {P : Nat → Bool} {f : Nat → Nat} {n : Nat} (h : ¬ (P n = true ∧ kc_top P f n < f n)) : kc_top P f (n + 1) = kc_top P f n := if_neg h
theorem kc_min_t {P : Nat → Bool} {f : Nat → Nat} {n : Nat} (h : P n = true ∧ f n < kc_min P f n) : kc_min P f (n + 1) = f n := if_pos h
theorem kc_min_f {P : Nat → Bool} {f : Nat → Nat} {n : Nat} (h : ¬ (P n = true ∧ f n < kc_min P f n)) : kc_min P f (n + 1) = kc_min P f n := if_neg h
theorem kc_top_ch (P : Nat → Bool) (f : Nat → Nat) : ∀ n, (∀ i, i < n → P i = true → f i ≤ kc_top P f n) ∧ (kc_top P f n = 0 ∨ ∃ i, i < n ∧ P i = true ∧ f i = kc_top P f n) := by
  intro n
  induction n with
  | zero => exact ⟨fun i h => absurd h (Nat.not_lt_zero i), Or.inl rfl⟩
  | succ n ih =>
    obtain ⟨h1, h2⟩ := ih
    by_cases c : P n = true ∧ kc_top P f n < f n
    · rw [kc_top_t c]
      refine ⟨fun i hi hp => ?_, Or.inr ⟨n, by omega, c.1, rfl⟩⟩
      by_cases e : i = n
      · rw [e]; exact Nat.le_refl _
      · have := h1 i (by omega) hp
        omega
    · rw [kc_top_f c]
      refine ⟨fun i hi hp => ?_, ?_⟩
      · by_cases e : i = n
        · rw [e] at hp ⊢
          exact Nat.le_of_not_lt (fun z => c ⟨hp, z⟩)
        · exact h1 i (by omega) hp
      · rcases h2 with h2 | ⟨i, hi, hp, e⟩
        · exact Or.inl h2
        · exact Or.inr ⟨i, by omega, hp, e⟩
theorem kc_min_ch (P : Nat → Bool) (f : Nat → Nat) : ∀ n, (∀ i, i < n → P i = true → kc_min P f n ≤ f i) ∧ (kc_min P f n = 1000 ∨ ∃ i, i < n ∧ P i = true ∧ f i = kc_min P f n) := by
  intro n
  induction n with
  | zero => exact ⟨fun i h => absurd h (Nat.not_lt_zero i), Or.inl rfl⟩
  | succ n ih =>
    obtain ⟨h1, h2⟩ := ih
    by_cases c : P n = true ∧ f n < kc_min P f n
    · rw [kc_min_t c]
      refine ⟨fun i hi hp => ?_, Or.inr ⟨n, by omega, c.1, rfl⟩⟩
      by_cases e : i = n
      · rw [e]; exact Nat.le_refl _
      · have := h1 i (by omega) hp
        omega
    · rw [kc_min_f c]
      refine ⟨fun i hi hp => ?_, ?_⟩
      · by_cases e : i = n
        · rw [e] at hp ⊢
          exact Nat.le_of_not_lt (fun z => c ⟨hp, z⟩)
        · exact h1 i (by omega) hp
      · rcases h2 with h2 | ⟨i, hi, hp, e⟩
        · exact Or.inl h2
        · exact Or.inr ⟨i, by omega, hp, e⟩
theorem kc_top_lt {P : Nat → Bool} {f : Nat → Nat} (hf : ∀ i, f i < 16) (n : Nat) : kc_top P f n < 16 := by
  rcases (kc_top_ch P f n).2 with h | ⟨i, hi, hp, e⟩
  · omega
  · have := hf i
    omega
theorem kc_min_le {P : Nat → Bool} {f : Nat → Nat} : ∀ n, kc_min P f n ≤ 1000 := by
  intro n
  induction n with
  | zero => exact Nat.le_refl _
  | succ n ih =>
    by_cases c : P n = true ∧ f n < kc_min P f n
    · rw [kc_min_t c]; omega
    · rw [kc_min_f c]; exact ih
section
variable {N R Q m : Nat} {cc : Int32} {cr de dc ro es st sm fa co K A B C F su : Nat → Int32} {σ : Nat → Nat}
theorem kc_yarr {post : Int32 → Prop} {i k r : Nat} (hB : kc_B N R Q) (h : kc_PQ N R fa co m K A B C F σ) (hi : i < m) (hk : k < 180) (hr : r < 180) (h1 : kc_ar fa k r (σ i) = true → post 1) (h0 : kc_ar fa k r (σ i) = false → post 0) : wpY_arrived post (nI N, nI R, nI Q, nI m, K, A, B, C, F, cr, ro, es, st, de, dc, su) (nI i) (nI k) (nI r) := by
  obtain ⟨b1, b2, b3, b4, b5⟩ := hB
  have hm := kc_PQ_le b2 b4 h
  obtain ⟨hv, hK, hA, hBB, hC, hF, hz⟩ := h.1 i hi
  have hs := hv.1
  have hin : vp_in (nI i) 140 := vp_in_nI (by omega) (by omega)
  unfold wpY_arrived
  (try dsimp only)
  rw [nI_clamp (by omega), hK, hA, hF]
  exact ⟨hin, pk_eq (σ i / 45) k (fun e1 => ⟨hin, pk_eq (σ i % 45 / 5) r (fun e2 => ⟨hin, br_c (fun e3 => h1 (decide_eq_true ⟨e1, e2, e3⟩)) (fun e3 => h0 (decide_eq_false (fun z => e3 z.2.2)))⟩) (fun e2 => h0 (decide_eq_false (fun z => e2 z.2.1)))⟩) (fun e1 => h0 (decide_eq_false (fun z => e1 z.1)))⟩
/-- a count over the list is a count over the round's slots -/
theorem kc_cnt_eq {k r b0 : Nat} (hB : kc_B N R Q) (h : kc_PQ N R fa co m K A B C F σ) (hk : k < 3) (hr : r ≤ 8) (hb0 : b0 = k * 45 + r * 5) (P : Nat → Bool) (hP : ∀ t, P t = true → t / 45 = k ∧ t % 45 / 5 = r ∧ fa t ≠ 0) : kc_n (fun i => P (σ i)) m = kc_n (fun x => P (b0 + x)) N := by
  obtain ⟨b1, b2, b3, b4, b5⟩ := hB
  refine kc_inj_eq σ (fun x => b0 + x) N m P h.2.1 (fun i j _ _ e => by (try dsimp only at e); omega) (fun i hi hp => ?_) (fun x hx hp => ?_)
  · obtain ⟨e1, e2, e3⟩ := hP _ hp
    have hv := (h.1 i hi).1
    have h1 := hv.1
    have h2 := hv.2.1
    exact ⟨σ i % 5, h2, by (try dsimp only); omega⟩
  · obtain ⟨e1, e2, e3⟩ := hP _ hp
    exact h.2.2 (b0 + x) (by omega) e3
theorem kc_ar_b {k r b0 x : Nat} (hr : r ≤ 8) (hx : x < 5) (hb0 : b0 = k * 45 + r * 5) : kc_ar fa k r (b0 + x) = decide (fa (b0 + x) = 2) := by
  unfold kc_ar
  by_cases z : fa (b0 + x) = 2
  · rw [decide_eq_true z, decide_eq_true ⟨by omega, by omega, z⟩]
  · rw [decide_eq_false z, decide_eq_false (fun y => z y.2.2)]
theorem kc_ar_of {k r t : Nat} (h : kc_ar fa k r t = true) : t / 45 = k ∧ t % 45 / 5 = r ∧ fa t = 2 := of_decide_eq_true h
theorem kc_cnt_d {k r b0 : Nat} (hB : kc_B N R Q) (h : kc_PQ N R fa co m K A B C F σ) (hk : k < 3) (hr : r ≤ 8) (hb0 : b0 = k * 45 + r * 5) : kc_n (fun i => kc_ar fa k r (σ i)) m = kc_n (fun y => decide (fa (b0 + y) = 2)) N := by
  rw [kc_cnt_eq hB h hk hr hb0 (kc_ar fa k r) (fun t ht => ⟨(kc_ar_of ht).1, (kc_ar_of ht).2.1, by rw [(kc_ar_of ht).2.2]; decide⟩)]
  obtain ⟨b1, b2, b3, b4, b5⟩ := hB
  exact kc_n_congr N (fun x hx => kc_ar_b hr (by omega) hb0)
theorem kc_cnt_a {r : Nat} (hB : kc_B N R Q) (h : kc_PQ N R fa co m K A B C F σ) (hr : r ≤ 8) : kc_n (fun i => kc_ar fa 2 r (σ i) && decide (co (σ i) = 1)) m = kc_n (fun y => decide (fa (90 + r * 5 + y) = 2) && decide (co (90 + r * 5 + y) = 1)) N := by
  rw [kc_cnt_eq hB h (k := 2) (r := r) (b0 := 90 + r * 5) (by omega) hr (by omega) (fun t => kc_ar fa 2 r t && decide (co t = 1)) (fun t ht => by
    have ht' : (kc_ar fa 2 r t && decide (co t = 1)) = true := ht
    rw [Bool.and_eq_true] at ht'
    have g := kc_ar_of ht'.1
    exact ⟨g.1, g.2.1, by rw [g.2.2]; decide⟩)]
  obtain ⟨b1, b2, b3, b4, b5⟩ := hB
  refine kc_n_congr N (fun x hx => ?_)
  (try dsimp only)
  rw [kc_ar_b (k := 2) hr (by omega) (by omega)]
/-! Y's estimates -/
theorem kc_yest69 {post : SY → Prop} {r top : Nat} {x2 : Int32} (hB : kc_B N R Q) (h : kc_PQ N R fa co m K A B C F σ) (hI7 : ∀ s, s < 45 → 0 ≤ (co s).toInt ∧ (co s).toInt < 16000) (hr : r ≤ 8) (ht : top < 16) (hb : wY_estimateArrived_69 post (nI r) x2 (nI top) (nI N) (nI R) (nI Q) (nI m) K A B C F cr ro es st de dc su 1 (nI (kc_min (fun i => kc_ar fa 0 r (σ i) && decide (kc_w co (σ i) % 16 = top)) (fun i => kc_w co (σ i) / 16) m)) (nI m)) : ∀ d j, j + d = m → wY_estimateArrived_69 post (nI r) x2 (nI top) (nI N) (nI R) (nI Q) (nI m) K A B C F cr ro es st de dc su (d + 1) (nI (kc_min (fun i => kc_ar fa 0 r (σ i) && decide (kc_w co (σ i) % 16 = top)) (fun i => kc_w co (σ i) / 16) j)) (nI j) := by
  have hB' := hB
  obtain ⟨b1, b2, b3, b4, b5⟩ := hB'
  have hm := kc_PQ_le b2 b4 h
  intro d
  induction d with
  | zero =>
    intro j e
    have e' : j = m := by omega
    rw [e']
    exact hb
  | succ d ih =>
    intro j e
    have g := ih (j + 1) (by omega)
    have hj : j < m := by omega
    have hin : vp_in (nI j) 140 := vp_in_nI (by omega) (by omega)
    have hC := (h.1 j hj).2.2.2.2.1
    have hml := kc_min_le (P := fun i => kc_ar fa 0 r (σ i) && decide (kc_w co (σ i) % 16 = top)) (f := fun i => kc_w co (σ i) / 16) j
    rw [wY_estimateArrived_69]
    (try dsimp only)
    rw [nI_clamp (n := j) (by omega)]
    refine br_f (nI_ge (by omega) (by omega)) (kc_yarr hB h hj (k := 0) (by omega) (by omega) (fun ha => ?_) (fun ha => ?_))
    · have hs : σ j < 45 := by have := (kc_ar_of ha).1; omega
      obtain ⟨ew, hw⟩ := kc_w_eq (hI7 _ hs)
      have e16 : C j - C j / 16 * 16 = nI (kc_w co (σ j) % 16) := by rw [hC, ew]; exact pk_rem (d := 16) (by omega) (by omega) (by omega)
      have e1d : C j / 16 = nI (kc_w co (σ j) / 16) := by rw [hC, ew]; exact pk_div (d := 16) (by omega) (by omega) (by omega)
      refine br_f (by decide) ⟨hin, by decide, pk_eq (kc_w co (σ j) % 16) top (fun z => ⟨hin, by decide, pk_le _ (kc_w co (σ j) / 16) (fun y => nm_r (nI_1 j) ?_) (fun y => ⟨hin, by decide, nm_r e1d (nm_r (nI_1 j) ?_)⟩) rfl e1d⟩) (fun z => nm_r (nI_1 j) ?_) e16⟩
      · rw [kc_min_f (fun q => Nat.not_lt_of_le y q.2)] at g; exact g
      · rw [kc_min_t ⟨by (try dsimp only); rw [ha, decide_eq_true z]; rfl, y⟩] at g; exact g
      · rw [kc_min_f (fun q => by
          have q1 := q.1
          (try dsimp only at q1)
          rw [decide_eq_false z, Bool.and_false] at q1
          exact absurd q1 (by decide))] at g
        exact g
    · refine br_t rfl (nm_r (nI_1 j) ?_)
      rw [kc_min_f (fun q => by
          have q1 := q.1
          (try dsimp only at q1)
          rw [ha, Bool.false_and] at q1
          exact absurd q1 (by decide))] at g
      exact g
theorem kc_yest12 {post : SY → Prop} {r : Nat} {x4 : Int32} (hB : kc_B N R Q) (h : kc_PQ N R fa co m K A B C F σ) (hI7 : ∀ s, s < 45 → 0 ≤ (co s).toInt ∧ (co s).toInt < 16000) (hr : r ≤ 8) (hb : wY_estimateArrived_12 post (nI r) x4 (nI N) (nI R) (nI Q) (nI m) K A B C F cr ro es st de dc su 1 (nI (kc_n (fun i => kc_ar fa 0 r (σ i)) m)) (nI (kc_top (fun i => kc_ar fa 0 r (σ i)) (fun i => kc_w co (σ i) % 16) m)) (nI m)) : ∀ d j, j + d = m → wY_estimateArrived_12 post (nI r) x4 (nI N) (nI R) (nI Q) (nI m) K A B C F cr ro es st de dc su (d + 1) (nI (kc_n (fun i => kc_ar fa 0 r (σ i)) j)) (nI (kc_top (fun i => kc_ar fa 0 r (σ i)) (fun i => kc_w co (σ i) % 16) j)) (nI j) := by
  have hB' := hB
  obtain ⟨b1, b2, b3, b4, b5⟩ := hB'
  have hm := kc_PQ_le b2 b4 h
  intro d
  induction d with
  | zero =>
    intro j e
    have e' : j = m := by omega
    rw [e']
    exact hb
  | succ d ih =>
    intro j e
    have g := ih (j + 1) (by omega)
    have hj : j < m := by omega
    have hin : vp_in (nI j) 140 := vp_in_nI (by omega) (by omega)
    have hC := (h.1 j hj).2.2.2.2.1
    have htl := kc_top_lt (P := fun i => kc_ar fa 0 r (σ i)) (f := fun i => kc_w co (σ i) % 16) (fun i => Nat.mod_lt _ (by omega)) j
    rw [wY_estimateArrived_12]
    (try dsimp only)
    rw [nI_clamp (n := j) (by omega)]
    refine br_f (nI_ge (by omega) (by omega)) (kc_yarr hB h hj (k := 0) (by omega) (by omega) (fun ha => ?_) (fun ha => ?_))
    · have hs : σ j < 45 := by have := (kc_ar_of ha).1; omega
      obtain ⟨ew, hw⟩ := kc_w_eq (hI7 _ hs)
      have e16 : C j - C j / 16 * 16 = nI (kc_w co (σ j) % 16) := by rw [hC, ew]; exact pk_rem (d := 16) (by omega) (by omega) (by omega)
      rw [kc_n_t (P := fun i => kc_ar fa 0 r (σ i)) ha] at g
      refine br_f (by decide) (nm_r (nI_1 _) ⟨hin, by decide, pk_le (kc_w co (σ j) % 16) _ (fun y => nm_r (nI_1 j) ?_) (fun y => ⟨hin, by decide, nm_r e16 (nm_r (nI_1 j) ?_)⟩) e16 rfl⟩)
      · rw [kc_top_f (fun q => Nat.not_lt_of_le y q.2)] at g; exact g
      · rw [kc_top_t (P := fun i => kc_ar fa 0 r (σ i)) (f := fun i => kc_w co (σ i) % 16) (n := j) ⟨ha, y⟩] at g; exact g
    · refine br_t rfl (nm_r (nI_1 j) ?_)
      rw [kc_n_f (P := fun i => kc_ar fa 0 r (σ i)) ha, kc_top_f (fun q => by
          have q1 := q.1
          (try dsimp only at q1)
          rw [ha] at q1
          exact absurd q1 (by decide))] at g
      exact g
end
/-- the value that Y picks in round r -/
def kc_lv (fa co : Nat → Int32) (m : Nat) (σ : Nat → Nat) (r : Nat) : Nat :=
  kc_min (fun i => kc_ar fa 0 r (σ i) && decide (kc_w co (σ i) % 16 = kc_top (fun i => kc_ar fa 0 r (σ i)) (fun i => kc_w co (σ i) % 16) m)) (fun i => kc_w co (σ i) / 16) m
section
variable {N R Q m : Nat} {cc : Int32} {cr de dc ro es st sm fa co K A B C F su : Nat → Int32} {σ : Nat → Nat}
theorem kc_yest {post : SY → Prop} {r : Nat} (hB : kc_B N R Q) (h : kc_PQ N R fa co m K A B C F σ) (hI7 : ∀ s, s < 45 → 0 ≤ (co s).toInt ∧ (co s).toInt < 16000) (hr : r ≤ 8) (h1 : kc_n (fun i => kc_ar fa 0 r (σ i)) m = Q → ∃ n, wY_estimateArrived_148 post (nI r) (nI (kc_lv fa co m σ r)) n 0 (nI N) (nI R) (nI Q) (nI m) K A B C F cr ro es st de dc su) (h0 : kc_n (fun i => kc_ar fa 0 r (σ i)) m ≠ Q → post (nI N, nI R, nI Q, nI m, K, A, B, C, F, cr, ro, es, st, de, dc, su)) : wpY_estimateArrived post (nI N, nI R, nI Q, nI m, K, A, B, C, F, cr, ro, es, st, de, dc, su) (nI r) := by
  have hB' := hB
  obtain ⟨b1, b2, b3, b4, b5⟩ := hB'
  have hm := kc_PQ_le b2 b4 h
  have hbd := kc_n_bd (P := fun i => kc_ar fa 0 r (σ i)) m
  have htl := kc_top_lt (P := fun i => kc_ar fa 0 r (σ i)) (f := fun i => kc_w co (σ i) % 16) (fun i => Nat.mod_lt _ (by omega)) m
  have hmm : nI m ≤ nI m := nI_le (by omega) (by omega)
  refine ⟨m + 1, kc_yest12 hB h hI7 hr ?_ m 0 (by omega)⟩
  refine br_t hmm ⟨m + 1, kc_yest69 hB h hI7 hr htl ?_ m 0 (by omega)⟩
  exact br_t hmm (pk_eq _ Q h1 h0)
end
end
section
/-- what X keeps while it looks for the freshest estimate -/
def kc_Best (fa : Nat → Int32) (w : Nat → Nat) (b x : Nat) (bs bv : Int32) : Prop :=
  (bs = -1 ∧ ∀ y, y < x → fa (b + y) ≠ 2) ∨ (∃ t v, t < 16 ∧ v < 1000 ∧ bs = nI t ∧ bv = nI v ∧ (∃ y, y < x ∧ fa (b + y) = 2 ∧ w (b + y) % 16 = t ∧ w (b + y) / 16 = v) ∧ ∀ y, y < x → fa (b + y) = 2 → w (b + y) % 16 < t ∨ (w (b + y) % 16 = t ∧ v ≤ w (b + y) / 16))
section
variable {N R Q m : Nat} {cc : Int32} {cr de dc ro es st sm fa co K A B C F su : Nat → Int32} {σ : Nat → Nat}
theorem kc_Best_keep {w : Nat → Nat} {b x : Nat} {bs bv : Int32} (h : kc_Best fa w b x bs bv) (hx : fa (b + x) ≠ 2) : kc_Best fa w b (x + 1) bs bv := by
  rcases h with ⟨h1, h2⟩ | ⟨t, v, ht, hv, h1, h2, ⟨y, hy, g⟩, h3⟩
  · refine Or.inl ⟨h1, fun y hy => ?_⟩
    by_cases e : y = x
    · rw [e]; exact hx
    · exact h2 y (by omega)
  · refine Or.inr ⟨t, v, ht, hv, h1, h2, ⟨y, by omega, g⟩, fun y hy hf => ?_⟩
    by_cases e : y = x
    · rw [e] at hf; exact absurd hf hx
    · exact h3 y (by omega) hf
theorem kc_xfresh_lp {post : Int32 → Prop} {r : Nat} (hB : kc_B N R Q) (hI7 : ∀ s, s < 45 → 0 ≤ (co s).toInt ∧ (co s).toInt < 16000) (hr : r ≤ 8) (hf : ∀ bs bv, kc_Best fa (kc_w co) (r * 5) N bs bv → post bv) : ∀ d x bs bv, x + d = N → kc_Best fa (kc_w co) (r * 5) x bs bv → wX_freshestValue_7 post (nI r) (nI N) (nI R) (nI Q) cc cr de dc ro es st sm fa co (d + 1) bs bv (nI x) := by
  obtain ⟨b1, b2, b3, b4, b5⟩ := hB
  intro d
  induction d with
  | zero =>
    intro x bs bv e h
    have e' : x = N := by omega
    subst e'
    exact br_t (nI_le (by omega) (by omega)) (hf _ _ h)
  | succ d ih =>
    intro x bs bv e h
    have hin : vp_in (nI (r * 5 + x)) 180 := vp_in_nI (by omega) (by omega)
    rw [wX_freshestValue_7]
    unfold wpX_slot
    (try dsimp only)
    rw [show (((0 : Int32) * 45) + (nI r * 5)) + nI x = nI (r * 5 + x) from (kc_sl 0 r x).trans (congrArg nI (by omega)), nI_clamp (n := r * 5 + x) (by omega)]
    obtain ⟨ew, hw⟩ := kc_w_eq (hI7 (r * 5 + x) (by omega))
    have e16 : co (r * 5 + x) - co (r * 5 + x) / 16 * 16 = nI (kc_w co (r * 5 + x) % 16) := by rw [ew]; exact pk_rem (d := 16) (by omega) (by omega) (by omega)
    have e1d : co (r * 5 + x) / 16 = nI (kc_w co (r * 5 + x) / 16) := by rw [ew]; exact pk_div (d := 16) (by omega) (by omega) (by omega)
    refine br_f (nI_ge (by omega) (by omega)) ⟨hin, br_c (fun z => ⟨hin, by decide, nm_r e1d ⟨hin, by decide, nm_r e16 ?_⟩⟩) (fun z => nm_r (nI_1 x) (ih (x + 1) _ _ (by omega) (kc_Best_keep h z)))⟩
    rcases h with ⟨h1, h2⟩ | ⟨t, v, ht, hv, h1, h2, ⟨y, hy, g⟩, h3⟩
    · rw [h1]
      refine br_t ?_ (nm_r (nI_1 x) (ih (x + 1) _ _ (by omega) (Or.inr ⟨_, _, by omega, by omega, rfl, rfl, ⟨x, by omega, z, rfl, rfl⟩, fun y hy hfy => ?_⟩)))
      · rw [Int32.lt_iff_toInt_lt, nI_toInt (by omega), show (-1 : Int32).toInt = -1 from by decide]
        omega
      · by_cases ey : y = x
        · rw [ey]; exact Or.inr ⟨rfl, Nat.le_refl _⟩
        · exact absurd hfy (h2 y (by omega))
    · rw [h1, h2]
      refine pk_lt t (kc_w co (r * 5 + x) % 16) (fun c => nm_r (nI_1 x) (ih (x + 1) _ _ (by omega) (Or.inr ⟨_, _, by omega, by omega, rfl, rfl, ⟨x, by omega, z, rfl, rfl⟩, fun y hy hfy => ?_⟩))) (fun c => pk_eq (kc_w co (r * 5 + x) % 16) t (fun c1 => pk_le v (kc_w co (r * 5 + x) / 16) (fun c2 => nm_r (nI_1 x) (ih (x + 1) _ _ (by omega) (Or.inr ⟨t, v, ht, hv, rfl, rfl, ⟨y, by omega, g⟩, fun y hy hfy => ?_⟩))) (fun c2 => nm_r (nI_1 x) (ih (x + 1) _ _ (by omega) (Or.inr ⟨_, _, by omega, by omega, rfl, rfl, ⟨x, by omega, z, rfl, rfl⟩, fun y hy hfy => ?_⟩)))) (fun c1 => nm_r (nI_1 x) (ih (x + 1) _ _ (by omega) (Or.inr ⟨t, v, ht, hv, rfl, rfl, ⟨y, by omega, g⟩, fun y hy hfy => ?_⟩))))
      · by_cases ey : y = x
        · rw [ey]; exact Or.inr ⟨rfl, Nat.le_refl _⟩
        · have := h3 y (by omega) hfy; omega
      · by_cases ey : y = x
        · rw [ey]; exact Or.inr ⟨c1, c2⟩
        · exact h3 y (by omega) hfy
      · by_cases ey : y = x
        · rw [ey]; exact Or.inr ⟨rfl, Nat.le_refl _⟩
        · have := h3 y (by omega) hfy; omega
      · by_cases ey : y = x
        · rw [ey]; omega
        · exact h3 y (by omega) hfy
theorem kc_xfresh {post : Int32 → Prop} {r : Nat} (hB : kc_B N R Q) (hI7 : ∀ s, s < 45 → 0 ≤ (co s).toInt ∧ (co s).toInt < 16000) (hr : r ≤ 8) (hf : ∀ bs bv, kc_Best fa (kc_w co) (r * 5) N bs bv → post bv) : wpX_freshestValue post (nI N, nI R, nI Q, cc, cr, de, dc, ro, es, st, sm, fa, co) (nI r) :=
  ⟨N + 1, kc_xfresh_lp hB hI7 hr hf N 0 (-1) 0 (by omega) (Or.inl ⟨rfl, fun y hy => absurd hy (Nat.not_lt_zero y)⟩)⟩
/-- both pick the same value -/
theorem kc_fresh_eq {r : Nat} (hB : kc_B N R Q) (h : kc_PQ N R fa co m K A B C F σ) (hI7 : ∀ s, s < 45 → 0 ≤ (co s).toInt ∧ (co s).toInt < 16000) (hr : r ≤ 8) (hne : ∃ y, y < N ∧ fa (r * 5 + y) = 2) : kc_lv fa co m σ r < 1000 ∧ ∀ bs bv, kc_Best fa (kc_w co) (r * 5) N bs bv → bv = nI (kc_lv fa co m σ r) := by
  obtain ⟨b1, b2, b3, b4, b5⟩ := hB
  have toI : ∀ y, y < N → fa (r * 5 + y) = 2 → ∃ i, i < m ∧ σ i = r * 5 + y ∧ kc_ar fa 0 r (σ i) = true := fun y hy hf => by
    obtain ⟨i, hi, e⟩ := h.2.2 (r * 5 + y) (by omega) (by rw [hf]; decide)
    refine ⟨i, hi, e, decide_eq_true ?_⟩
    rw [e]
    exact ⟨by omega, by omega, hf⟩
  have toY : ∀ i, i < m → kc_ar fa 0 r (σ i) = true → ∃ y, y < N ∧ σ i = r * 5 + y ∧ fa (r * 5 + y) = 2 := fun i hi ha => by
    obtain ⟨e1, e2, e3⟩ := kc_ar_of ha
    have hv := (h.1 i hi).1
    have h1 := hv.1
    have h2 := hv.2.1
    have e : σ i = r * 5 + σ i % 5 := by omega
    exact ⟨σ i % 5, h2, e, by rw [← e]; exact e3⟩
  obtain ⟨t1, t2⟩ := kc_top_ch (fun i => kc_ar fa 0 r (σ i)) (fun i => kc_w co (σ i) % 16) m
  obtain ⟨m1, m2⟩ := kc_min_ch (fun i => kc_ar fa 0 r (σ i) && decide (kc_w co (σ i) % 16 = kc_top (fun i => kc_ar fa 0 r (σ i)) (fun i => kc_w co (σ i) % 16) m)) (fun i => kc_w co (σ i) / 16) m
  have hlv : kc_min (fun i => kc_ar fa 0 r (σ i) && decide (kc_w co (σ i) % 16 = kc_top (fun i => kc_ar fa 0 r (σ i)) (fun i => kc_w co (σ i) % 16) m)) (fun i => kc_w co (σ i) / 16) m = kc_lv fa co m σ r := rfl
  rw [hlv] at m1 m2
  generalize kc_lv fa co m σ r = lv at m1 m2
  generalize kc_top (fun i => kc_ar fa 0 r (σ i)) (fun i => kc_w co (σ i) % 16) m = top at t1 t2 m1 m2
  have hwl : ∀ y, y < N → kc_w co (r * 5 + y) < 16000 := fun y hy => (kc_w_eq (hI7 (r * 5 + y) (by omega))).2
  have m1' : ∀ i, i < m → kc_ar fa 0 r (σ i) = true → kc_w co (σ i) % 16 = top → lv ≤ kc_w co (σ i) / 16 := fun i hi ha e => m1 i hi (by (try dsimp only); rw [ha, decide_eq_true e]; rfl)
  have m2' : lv = 1000 ∨ ∃ i, i < m ∧ kc_ar fa 0 r (σ i) = true ∧ kc_w co (σ i) % 16 = top ∧ kc_w co (σ i) / 16 = lv := by
    rcases m2 with m2 | ⟨i, hi, hp, e⟩
    · exact Or.inl m2
    · (try dsimp only at hp e)
      rw [Bool.and_eq_true] at hp
      exact Or.inr ⟨i, hi, hp.1, of_decide_eq_true hp.2, e⟩
  -- one with the greatest stamp
  have hmax : ∃ i, i < m ∧ kc_ar fa 0 r (σ i) = true ∧ kc_w co (σ i) % 16 = top := by
    rcases t2 with t2 | ⟨i, hi, hp, e⟩
    · obtain ⟨y, hy, hf⟩ := hne
      obtain ⟨i, hi, e, ha⟩ := toI y hy hf
      have := t1 i hi ha
      (try dsimp only at this)
      exact ⟨i, hi, ha, by omega⟩
    · exact ⟨i, hi, hp, e⟩
  have hlt : lv < 1000 := by
    obtain ⟨i, hi, ha, e⟩ := hmax
    have g := m1' i hi ha e
    obtain ⟨y, hy, e2, _⟩ := toY i hi ha
    have := hwl y hy
    rw [e2] at g
    omega
  refine ⟨hlt, fun bs bv hb => ?_⟩
  rcases hb with ⟨h1, h2⟩ | ⟨t, v, ht, hv, h1, h2, ⟨y, hy, f1, f2, f3⟩, h3⟩
  · obtain ⟨y, hy, hf⟩ := hne
    exact absurd hf (h2 y hy)
  · rw [h2]
    obtain ⟨i, hi, e, ha⟩ := toI y hy f1
    have g1 := t1 i hi ha
    (try dsimp only at g1)
    rw [e] at g1
    obtain ⟨j, hj, hja, hje⟩ := hmax
    obtain ⟨y', hy', e', f'⟩ := toY j hj hja
    have g2 := h3 y' hy' f'
    rw [e'] at hje
    have et : t = top := by omega
    have g3 := m1' i hi ha (by rw [e]; omega)
    rw [e] at g3
    rcases m2' with m2' | ⟨l, hl, hla, hle, hlv2⟩
    · omega
    · obtain ⟨z, hz, ez, fz⟩ := toY l hl hla
      have g4 := h3 z hz fz
      rw [ez] at hle hlv2
      have ev : v = lv := by omega
      rw [ev]
/-- an estimate has arrived -/
theorem kc_onEst {r : Nat} (hB : kc_B N R Q) (h1 : 1 ≤ r) (hr : r ≤ R) (hI : kc_I N R Q de ro es st fa co) (hP : kc_PQ N R fa co m K A B C F σ) (hun : kc_n (fun y => decide (fa (r * 5 + y) = 2)) N = Q → ∀ x, x < N → fa (45 + r * 5 + x) = 0) : kc_LK N R Q cc cr sm su (fun post => wpX_onEstimate post (nI N, nI R, nI Q, cc, cr, de, dc, ro, es, st, sm, fa, co) (nI r)) (fun post => wpY_estimateArrived post (nI N, nI R, nI Q, nI m, K, A, B, C, F, cr, ro, es, st, de, dc, su) (nI r)) := by
  have hB' := hB
  obtain ⟨b1, b2, b3, b4, b5⟩ := hB'
  have hI7 := hI.2.2.2.2.2.2.1
  have hce := kc_cnt_d (k := 0) (r := r) (b0 := r * 5) hB hP (by omega) (by omega) (by omega)
  have hbd := kc_n_bd (P := fun y => decide (fa (r * 5 + y) = 2)) N
  by_cases hc : kc_n (fun y => decide (fa (r * 5 + y) = 2)) N = Q
  · obtain ⟨y0, hy0, hp0⟩ := kc_n_pos (P := fun y => decide (fa (r * 5 + y) = 2)) N (by omega)
    obtain ⟨hlt, hbe⟩ := kc_fresh_eq (r := r) hB hP hI7 (by omega) ⟨y0, hy0, of_decide_eq_true hp0⟩
    refine kc_LK_imp (kc_prop_lp (dc := dc) (r := r) (v := nI (kc_lv fa co m σ r)) hB h1 hr (by rw [nI_toInt (by omega)]; omega) N 0 (by omega) fa co m K A B C F σ hI hP (Or.inl rfl) (by omega) (fun x _ hx => hun hc x hx)) (fun post g => ?_) (fun post g => ?_)
    · unfold wpX_onEstimate
      refine kc_xcount (k := 0) (r := r) (b0 := r * 5) hB (by omega) (by omega) (by omega) (br_t (congrArg nI hc) (kc_xfresh hB hI7 (by omega) (fun bs bv hb => ?_)))
      rw [hbe bs bv hb]
      exact ⟨_, g⟩
    · exact kc_yest hB hP hI7 (by omega) (fun _ => ⟨_, g⟩) (fun z => absurd (hce.trans hc) z)
  · refine ⟨de, dc, ro, es, st, fa, co, m, K, A, B, C, F, σ, hI, hP, fun post g => ?_, fun post g => ?_⟩
    · unfold wpX_onEstimate
      exact kc_xcount (k := 0) (r := r) (b0 := r * 5) hB (by omega) (by omega) (by omega) (br_f (kc_nI_ne (by omega) (by omega) hc) g)
    · exact kc_yest hB hP hI7 (by omega) (fun z => absurd (hce.symm.trans z) hc) (fun _ => g)
/-! replies -/
theorem kc_yrep_lp {post : SY → Prop} {q r : Nat} (hB : kc_B N R Q) (h : kc_PQ N R fa co m K A B C F σ) (hr : r ≤ 8) (hb : wY_replyArrived_8 post (nI q) (nI r) (nI N) (nI R) (nI Q) (nI m) K A B C F cr ro es st de dc su 1 (nI (kc_n (fun i => kc_ar fa 2 r (σ i)) m)) (nI (kc_n (fun i => kc_ar fa 2 r (σ i) && decide (co (σ i) = 1)) m)) (nI m)) : ∀ d j, j + d = m → wY_replyArrived_8 post (nI q) (nI r) (nI N) (nI R) (nI Q) (nI m) K A B C F cr ro es st de dc su (d + 1) (nI (kc_n (fun i => kc_ar fa 2 r (σ i)) j)) (nI (kc_n (fun i => kc_ar fa 2 r (σ i) && decide (co (σ i) = 1)) j)) (nI j) := by
  have hB' := hB
  obtain ⟨b1, b2, b3, b4, b5⟩ := hB'
  have hm := kc_PQ_le b2 b4 h
  intro d
  induction d with
  | zero =>
    intro j e
    have e' : j = m := by omega
    rw [e']
    exact hb
  | succ d ih =>
    intro j e
    have g := ih (j + 1) (by omega)
    have hj : j < m := by omega
    have hin : vp_in (nI j) 140 := vp_in_nI (by omega) (by omega)
    have hC := (h.1 j hj).2.2.2.2.1
    rw [wY_replyArrived_8]
    (try dsimp only)
    rw [nI_clamp (n := j) (by omega), hC]
    refine br_f (nI_ge (by omega) (by omega)) (kc_yarr hB h hj (k := 2) (by omega) (by omega) (fun ha => ?_) (fun ha => ?_))
    · rw [kc_n_t (P := fun i => kc_ar fa 2 r (σ i)) ha] at g
      refine br_f (by decide) (nm_r (nI_1 _) ⟨hin, br_c (fun y => nm_r (nI_1 _) (nm_r (nI_1 j) ?_)) (fun y => nm_r (nI_1 j) ?_)⟩)
      · rw [kc_n_t (P := fun i => kc_ar fa 2 r (σ i) && decide (co (σ i) = 1)) (by (try dsimp only); rw [ha, decide_eq_true y]; rfl)] at g; exact g
      · rw [kc_n_f (P := fun i => kc_ar fa 2 r (σ i) && decide (co (σ i) = 1)) (by (try dsimp only); rw [decide_eq_false y, Bool.and_false])] at g; exact g
    · refine br_t rfl (nm_r (nI_1 j) ?_)
      rw [kc_n_f (P := fun i => kc_ar fa 2 r (σ i)) ha, kc_n_f (P := fun i => kc_ar fa 2 r (σ i) && decide (co (σ i) = 1)) (by (try dsimp only); rw [ha, Bool.false_and])] at g
      exact g
theorem kc_onRep {q r : Nat} (hB : kc_B N R Q) (h1 : 1 ≤ r) (hr : r ≤ R) (hq : q < N) (hd : de q = 0) (hI : kc_I N R Q de ro es st fa co) (hP : kc_PQ N R fa co m K A B C F σ) : kc_LK N R Q cc cr sm su (fun post => wpX_onReply post (nI N, nI R, nI Q, cc, cr, de, dc, ro, es, st, sm, fa, co) (nI q) (nI r)) (fun post => wpY_replyArrived post (nI N, nI R, nI Q, nI m, K, A, B, C, F, cr, ro, es, st, de, dc, su) (nI q) (nI r)) := by
  have hB' := hB
  obtain ⟨b1, b2, b3, b4, b5⟩ := hB'
  have hm := kc_PQ_le b2 b4 hP
  have hce := kc_cnt_d (k := 2) (r := r) (b0 := 90 + r * 5) hB hP (by omega) (by omega) (by omega)
  have hca := kc_cnt_a (r := r) hB hP (by omega)
  have hbd := kc_n_bd (P := fun y => decide (fa (90 + r * 5 + y) = 2)) N
  have hba := kc_n_bd (P := fun y => decide (fa (90 + r * 5 + y) = 2) && decide (co (90 + r * 5 + y) = 1)) N
  have hmm : nI m ≤ nI m := nI_le (by omega) (by omega)
  have hn : kc_nm N R 1 r 0 := ⟨by omega, Or.inl ⟨by omega, h1, hr⟩⟩
  by_cases hc : kc_n (fun y => decide (fa (90 + r * 5 + y) = 2)) N = Q
  · by_cases ha : kc_n (fun y => decide (fa (90 + r * 5 + y) = 2) && decide (co (90 + r * 5 + y) = 1)) N = Q
    · obtain ⟨y0, hy0, hp0⟩ := kc_n_pos (P := fun y => decide (fa (90 + r * 5 + y) = 2) && decide (co (90 + r * 5 + y) = 1)) N (by omega)
      (try dsimp only at hp0)
      rw [Bool.and_eq_true] at hp0
      have hf2 := of_decide_eq_true hp0.1
      have hz : fa (45 + r * 5) ≠ 0 := hI.2.2.2.2.2.2.2.2 r y0 hr hy0 (by rw [hf2]; decide) (of_decide_eq_true hp0.2)
      refine kc_LK_bind (kc_settle (dc := dc) (v := co (45 + r * 5)) hB hq hd hI hP) (fun de' dc' ro' es' st' fa' co' hX post g => ?_) (fun de' dc' ro' es' st' m' K' A' B' C' F' hY post g => ?_)
      · unfold wpX_onReply
        exact kc_xcount (k := 2) (r := r) (b0 := 90 + r * 5) hB (by omega) (by omega) (by omega) (br_t (congrArg nI hc) (kc_xacks hB (by omega) (br_t (congrArg nI ha) (kc_xpv (by omega) (hX _ g)))))
      · refine ⟨m + 1, kc_yrep_lp hB hP (by omega) ?_ m 0 (by omega)⟩
        rw [hce, hca, hc, ha]
        exact br_t hmm (kc_ycont hB hP (k := 1) (a := r) (b := 0) (s := 45 + r * 5) hn (by omega) (fun z => absurd z hz) (fun _ => br_t rfl (br_t rfl (hY _ g))))
    · refine ⟨de, dc, ro, es, st, fa, co, m, K, A, B, C, F, σ, hI, hP, fun post g => ?_, fun post g => ?_⟩
      · unfold wpX_onReply
        exact kc_xcount (k := 2) (r := r) (b0 := 90 + r * 5) hB (by omega) (by omega) (by omega) (br_t (congrArg nI hc) (kc_xacks hB (by omega) (br_f (kc_nI_ne (by omega) (by omega) ha) g)))
      · refine ⟨m + 1, kc_yrep_lp hB hP (by omega) ?_ m 0 (by omega)⟩
        rw [hce, hca, hc]
        have hne := kc_nI_ne (by omega) (by omega) ha
        exact br_t hmm (kc_ycont hB hP (k := 1) (a := r) (b := 0) (s := 45 + r * 5) hn (by omega) (fun z => br_t rfl (br_f hne g)) (fun _ => br_t rfl (br_f hne g)))
  · refine ⟨de, dc, ro, es, st, fa, co, m, K, A, B, C, F, σ, hI, hP, fun post g => ?_, fun post g => ?_⟩
    · unfold wpX_onReply
      exact kc_xcount (k := 2) (r := r) (b0 := 90 + r * 5) hB (by omega) (by omega) (by omega) (br_f (kc_nI_ne (by omega) (by omega) hc) g)
    · refine ⟨m + 1, kc_yrep_lp hB hP (by omega) ?_ m 0 (by omega)⟩
      rw [hce, hca]
      have hne := kc_nI_ne (by omega) (by omega) hc
      exact br_t hmm (kc_ycont hB hP (k := 1) (a := r) (b := 0) (s := 45 + r * 5) hn (by omega) (fun z => br_f hne g) (fun _ => br_f hne g))
end
end
section
section
variable {N R Q m : Nat} {cc : Int32} {cr de dc ro es st sm fa co K A B C F su : Nat → Int32} {σ : Nat → Nat}
/-- one message is handed over -/
theorem kc_hand {i : Nat} (hB : kc_B N R Q) (hM : kc_M N sm su) (hI : kc_I N R Q de ro es st fa co) (hP : kc_PQ N R fa co m K A B C F σ) (hi : i < m) (hf : fa (σ i) = 1) : kc_LK N R Q cc cr sm su (fun post => wpX_handOver post (nI N, nI R, nI Q, cc, cr, de, dc, ro, es, st, sm, fa, co) (nI (σ i))) (fun post => wpY_handOver post (nI N, nI R, nI Q, nI m, K, A, B, C, F, cr, ro, es, st, de, dc, su) (nI i)) := by
  have hB' := hB
  obtain ⟨b1, b2, b3, b4, b5⟩ := hB'
  have hm := kc_PQ_le b2 b4 hP
  obtain ⟨hv, hK, hA, hBB, hC, hF, hz⟩ := hP.1 i hi
  have hs := hv.1
  have hnm := hv.2
  have hq := kc_ad_lt b1 hv
  have P1 := kc_PQ_mark (f := 2) hP hi (by decide)
  have I1 := kc_I_mark (f := 2) b2 b4 hI hf (by decide)
  have hin : vp_in (nI i) 140 := vp_in_nI (by omega) (by omega)
  have hix : vp_in (nI (σ i)) 180 := vp_in_nI (by omega) (by omega)
  have h5 : vp_in (nI (kc_ad N (σ i))) 5 := vp_in_nI (by omega) (by omega)
  by_cases hd : de (kc_ad N (σ i)) = 0
  · unfold kc_nm at hnm
    have hk : σ i / 45 = 0 ∨ σ i / 45 = 1 ∨ σ i / 45 = 2 ∨ σ i / 45 = 3 := by omega
    rcases hk with hk | hk | hk | hk
    · -- an estimate
      have hkI : nI (σ i / 45) = 0 := by rw [hk]; rfl
      have hr1 : 1 ≤ σ i % 45 / 5 := by omega
      have hrR : σ i % 45 / 5 ≤ R := by omega
      have hS : σ i = σ i % 45 / 5 * 5 + σ i % 5 := by omega
      have hun : kc_n (fun y => decide (upd fa (σ i) 2 (σ i % 45 / 5 * 5 + y) = 2)) N = Q → ∀ x, x < N → upd fa (σ i) 2 (45 + σ i % 45 / 5 * 5 + x) = 0 := by
        intro hc x hx
        have e := kc_n_flip (P := fun y => decide (fa (σ i % 45 / 5 * 5 + y) = 2)) (P' := fun y => decide (upd fa (σ i) 2 (σ i % 45 / 5 * 5 + y) = 2)) N (σ i % 5) hnm.1 (by
          (try dsimp only)
          rw [← hS, hf]; decide) (by
          (try dsimp only)
          rw [← hS, pk_us]; decide) (fun y hy hne => by
          (try dsimp only)
          rw [pk_un (by omega)])
        rw [pk_un (by omega)]
        by_cases z : fa (45 + σ i % 45 / 5 * 5 + x) = 0
        · exact z
        · have := (hI.2.2.2.1 _ x hrR hx z).2
          omega
      refine kc_LK_bind (kc_onEst (dc := dc) hB hr1 hrR I1 P1 hun) (fun de' dc' ro' es' st' fa' co' hX post g => ?_) (fun de' dc' ro' es' st' m' K' A' B' C' F' hY post g => ?_)
      · unfold wpX_handOver; refine kc_xaddr hB hv ?_; (try dsimp only); rw [nI_clamp (n := σ i) (by omega), nI_clamp (n := kc_ad N (σ i)) (by omega)]
        exact ⟨hix, nm_e ⟨h5, br_t hd (kc_xkind hs (kc_xfirst hs (br_t hkI (hX _ g))))⟩⟩
      · unfold wpY_handOver; refine kc_yaddr hB hP hi ?_; (try dsimp only); rw [nI_clamp (n := i) (by omega), nI_clamp (n := kc_ad N (σ i)) (by omega), hK, hA]
        exact ⟨hin, nm_e ⟨hin, nm_e ⟨h5, br_t hd ⟨hin, br_t hkI (hY _ g)⟩⟩⟩⟩
    · -- a proposal
      have hk0 : ¬ nI (σ i / 45) = 0 := by rw [hk]; decide
      have hk1 : nI (σ i / 45) = 1 := by rw [hk]; rfl
      have hk2 : ¬ nI (σ i / 45) = 2 := by rw [hk]; decide
      have hk3 : ¬ nI (σ i / 45) = 3 := by rw [hk]; decide
      have hr1 : 1 ≤ σ i % 45 / 5 := by omega
      have hrR : σ i % 45 / 5 ≤ R := by omega
      have ead : kc_ad N (σ i) = σ i % 5 := if_neg (by omega)
      have hS : 45 + σ i % 45 / 5 * 5 + kc_ad N (σ i) = σ i := by omega
      generalize hr : σ i % 45 / 5 = r at *
      generalize hqq : kc_ad N (σ i) = q at *
      have hf2 : upd fa (σ i) 2 (45 + r * 5 + q) = 2 := by rw [hS, pk_us]
      have hfz : upd fa (σ i) 2 (45 + r * 5 + q) ≠ 0 := by rw [hf2]; decide
      by_cases hro : ro q = nI r
      · have hv9 : 0 ≤ (co (45 + r * 5 + q)).toInt ∧ (co (45 + r * 5 + q)).toInt ≤ 999 := by
          have := I1.2.2.2.2.2.2.2.1 (r * 5 + q) (by omega)
          rw [show 45 + (r * 5 + q) = 45 + r * 5 + q from by omega] at this
          exact this
        have hu2 : upd fa (σ i) 2 (90 + r * 5 + q) = 0 := by
          by_cases z : upd fa (σ i) 2 (90 + r * 5 + q) = 0
          · exact z
          · have := I1.2.2.1 r q hrR hq z
            rw [hro, nI_toInt (by omega)] at this
            omega
        have I2 := kc_I_es (p := q) (y := nI r) I1 hv9 (by rw [nI_toInt (by omega)]; omega)
        obtain ⟨I3, u3⟩ := kc_I_reply (r := r) (p := q) (c := 1) b2 b4 I2 hrR hq hro (fun _ => (I1.2.2.2.1 r q hrR hq hfz).1)
        obtain ⟨hm2, P2⟩ := kc_PQ_sk (s := 90 + r * 5 + q) (k := 2) (a := r) (b := q) hB P1 ⟨hq, Or.inl ⟨by omega, hr1, hrR⟩⟩ (by omega) hu2 1
        refine kc_LK_bind (kc_enter (dc := dc) (r := r + 1) hB hM hq (by omega) (by omega) I3 u3 P2) (fun de' dc' ro' es' st' fa' co' hX post g => ?_) (fun de' dc' ro' es' st' m' K' A' B' C' F' hY post g => ?_)
        · unfold wpX_handOver
          refine kc_xaddr hB hv ?_
          rw [hqq]
          (try dsimp only)
          rw [nI_clamp (n := σ i) (by omega), nI_clamp (n := q) (by omega)]
          refine ⟨hix, nm_e ⟨h5, br_t hd (kc_xkind hs (kc_xfirst hs (br_f hk0 (br_t hk1 ?_))))⟩⟩
          rw [hr]
          unfold wpX_onProposal
          (try dsimp only)
          rw [nI_clamp (n := q) (by omega), nI_1]
          exact ⟨h5, br_t hro (kc_xacc (by omega) (by omega) (hX _ g))⟩
        · unfold wpY_handOver
          refine kc_yaddr hB hP hi ?_
          rw [hqq]
          (try dsimp only)
          rw [nI_clamp (n := i) (by omega), nI_clamp (n := q) (by omega), hK, hA]
          refine ⟨hin, nm_e ⟨hin, nm_e ⟨h5, br_t hd ⟨hin, br_f hk0 ⟨hin, br_f hk2 ⟨hin, br_f hk3 ⟨h5, br_t hro ?_⟩⟩⟩⟩⟩⟩⟩
          rw [nI_1]
          exact kc_ytake hB P1 hr1 hrR hq hfz hm2 (hY _ g)
      · refine ⟨de, dc, ro, es, st, _, co, m, K, A, B, C, _, σ, I1, P1, fun post g => ?_, fun post g => ?_⟩
        · unfold wpX_handOver
          refine kc_xaddr hB hv ?_
          rw [hqq]
          (try dsimp only)
          rw [nI_clamp (n := σ i) (by omega), nI_clamp (n := q) (by omega)]
          refine ⟨hix, nm_e ⟨h5, br_t hd (kc_xkind hs (kc_xfirst hs (br_f hk0 (br_t hk1 ?_))))⟩⟩
          rw [hr]
          unfold wpX_onProposal
          (try dsimp only)
          rw [nI_clamp (n := q) (by omega)]
          exact ⟨h5, br_f hro g⟩
        · unfold wpY_handOver
          refine kc_yaddr hB hP hi ?_
          rw [hqq]
          (try dsimp only)
          rw [nI_clamp (n := i) (by omega), nI_clamp (n := q) (by omega), hK, hA]
          exact ⟨hin, nm_e ⟨hin, nm_e ⟨h5, br_t hd ⟨hin, br_f hk0 ⟨hin, br_f hk2 ⟨hin, br_f hk3 ⟨h5, br_f hro g⟩⟩⟩⟩⟩⟩⟩
    · -- a reply
      have hk0 : ¬ nI (σ i / 45) = 0 := by rw [hk]; decide
      have hk1 : ¬ nI (σ i / 45) = 1 := by rw [hk]; decide
      have hk2 : nI (σ i / 45) = 2 := by rw [hk]; rfl
      have hr1 : 1 ≤ σ i % 45 / 5 := by omega
      have hrR : σ i % 45 / 5 ≤ R := by omega
      refine kc_LK_bind (kc_onRep (dc := dc) hB hr1 hrR hq hd I1 P1) (fun de' dc' ro' es' st' fa' co' hX post g => ?_) (fun de' dc' ro' es' st' m' K' A' B' C' F' hY post g => ?_)
      · unfold wpX_handOver; refine kc_xaddr hB hv ?_; (try dsimp only); rw [nI_clamp (n := σ i) (by omega), nI_clamp (n := kc_ad N (σ i)) (by omega)]
        exact ⟨hix, nm_e ⟨h5, br_t hd (kc_xkind hs (kc_xfirst hs (br_f hk0 (br_f hk1 (br_t hk2 (hX _ g))))))⟩⟩
      · unfold wpY_handOver; refine kc_yaddr hB hP hi ?_; (try dsimp only); rw [nI_clamp (n := i) (by omega), nI_clamp (n := kc_ad N (σ i)) (by omega), hK, hA]
        exact ⟨hin, nm_e ⟨hin, nm_e ⟨h5, br_t hd ⟨hin, br_f hk0 ⟨hin, br_t hk2 (hY _ g)⟩⟩⟩⟩⟩
    · -- a decision
      have hk0 : ¬ nI (σ i / 45) = 0 := by rw [hk]; decide
      have hk1 : ¬ nI (σ i / 45) = 1 := by rw [hk]; decide
      have hk2 : ¬ nI (σ i / 45) = 2 := by rw [hk]; decide
      have hk3 : nI (σ i / 45) = 3 := by rw [hk]; rfl
      refine kc_LK_bind (kc_settle (dc := dc) (v := co (σ i)) hB hq hd I1 P1) (fun de' dc' ro' es' st' fa' co' hX post g => ?_) (fun de' dc' ro' es' st' m' K' A' B' C' F' hY post g => ?_)
      · unfold wpX_handOver; refine kc_xaddr hB hv ?_; (try dsimp only); rw [nI_clamp (n := σ i) (by omega), nI_clamp (n := kc_ad N (σ i)) (by omega)]
        exact ⟨hix, nm_e ⟨h5, br_t hd (kc_xkind hs (kc_xfirst hs (br_f hk0 (br_f hk1 (br_f hk2 ⟨hix, hX _ g⟩)))))⟩⟩
      · unfold wpY_handOver; refine kc_yaddr hB hP hi ?_; (try dsimp only); rw [nI_clamp (n := i) (by omega), nI_clamp (n := kc_ad N (σ i)) (by omega), hK, hA]
        rw [hC]
        exact ⟨hin, nm_e ⟨hin, nm_e ⟨h5, br_t hd ⟨hin, br_f hk0 ⟨hin, br_f hk2 ⟨hin, br_t hk3 ⟨hin, hY _ g⟩⟩⟩⟩⟩⟩⟩
  · refine ⟨de, dc, ro, es, st, _, co, m, K, A, B, C, _, σ, I1, P1, fun post g => ?_, fun post g => ?_⟩
    · unfold wpX_handOver; refine kc_xaddr hB hv ?_; (try dsimp only); rw [nI_clamp (n := σ i) (by omega), nI_clamp (n := kc_ad N (σ i)) (by omega)]
      exact ⟨hix, nm_e ⟨h5, br_f hd g⟩⟩
    · unfold wpY_handOver; refine kc_yaddr hB hP hi ?_; (try dsimp only); rw [nI_clamp (n := i) (by omega), nI_clamp (n := kc_ad N (σ i)) (by omega), hK, hA]
      exact ⟨hin, nm_e ⟨hin, nm_e ⟨h5, br_f hd g⟩⟩⟩
end
end
section
theorem pk_least (P : Nat → Prop) (h : ∃ k, P k) : ∃ k, P k ∧ ∀ j, j < k → ¬ P j := by
  obtain ⟨k, hk⟩ := h
  induction k using Nat.strongRecOn with
  | ind k ih =>
    by_cases e : ∃ j, j < k ∧ P j
    · obtain ⟨j, hj, pj⟩ := e
      exact ih j hj pj
    · exact ⟨k, hk, fun j hj pj => e ⟨j, hj, pj⟩⟩
/-- the message in slot s may be handed over by pump p -/
def kc_el (N : Nat) (fa cr : Nat → Int32) (p : Int32) (s : Nat) : Prop := fa s = 1 ∧ cr (kc_ad N s) = 0 ∧ (p = 5 ∨ p = nI (kc_ad N s))
def kc_tau (o : Int32) (j : Nat) : Nat := if o = 0 then j else 179 - j
def kc_key (s : Nat) : Nat := s / 45 * 100 + s % 45 / 5 * 10 + s % 5
theorem kc_key_le {s t : Nat} (hs : s < 180) (ht : t < 180) : kc_key s ≤ kc_key t ↔ s ≤ t := by
  unfold kc_key
  omega
def kc_bi (E : Nat → Prop) (o : Int32) (σ : Nat → Nat) (j : Nat) (x6 x7 : Int32) : Prop :=
  (x6 = -1 ∧ ∀ i, i < j → ¬ E (σ i)) ∨ (∃ b, b < j ∧ x6 = nI b ∧ x7 = nI (kc_key (σ b)) ∧ E (σ b) ∧ ∀ i, i < j → E (σ i) → (o = 0 → σ b ≤ σ i) ∧ (o ≠ 0 → σ i ≤ σ b))
/-- both sides come to an end with one answer, in related states -/
def kc_LA (N R Q : Nat) (cc : Int32) (cr sm su : Nat → Int32) (fX : (Int32 → SX → Prop) → Prop) (fY : (Int32 → SY → Prop) → Prop) : Prop :=
  ∃ (a : Int32) (de dc ro es st fa co : Nat → Int32) (m : Nat) (K A B C F : Nat → Int32) (σ : Nat → Nat), kc_I N R Q de ro es st fa co ∧ kc_PQ N R fa co m K A B C F σ ∧ (∀ post : Int32 → SX → Prop, post a (nI N, nI R, nI Q, cc, cr, de, dc, ro, es, st, sm, fa, co) → fX post) ∧ (∀ post : Int32 → SY → Prop, post a (nI N, nI R, nI Q, nI m, K, A, B, C, F, cr, ro, es, st, de, dc, su) → fY post)
section
variable {N R Q m : Nat} {cc : Int32} {cr de dc ro es st sm fa co K A B C F su : Nat → Int32} {σ : Nat → Nat}
theorem kc_PQ_vs {s : Nat} (h : kc_PQ N R fa co m K A B C F σ) (hs : s < 180) (hz : fa s ≠ 0) : kc_vs N R s := by
  obtain ⟨i, hi, e⟩ := h.2.2 s hs hz
  rw [← e]
  exact (h.1 i hi).1
theorem kc_xel {post : Int32 → Prop} {s : Nat} {p : Int32} (hB : kc_B N R Q) (h : kc_PQ N R fa co m K A B C F σ) (hs : s < 180) (h1 : kc_el N fa cr p s → post 1) (h0 : ¬ kc_el N fa cr p s → post 0) : wpX_isEligible post (nI N, nI R, nI Q, cc, cr, de, dc, ro, es, st, sm, fa, co) (nI s) p := by
  have hB' := hB
  obtain ⟨b1, b2, b3, b4, b5⟩ := hB'
  unfold wpX_isEligible
  (try dsimp only)
  rw [nI_clamp (n := s) (by omega)]
  refine ⟨vp_in_nI hs (by omega), br_c (fun z => ?_) (fun z => h0 (fun y => z y.1))⟩
  have hv := kc_PQ_vs h hs (by rw [z]; decide)
  have hq := kc_ad_lt b1 hv
  refine kc_xaddr hB hv ?_
  (try dsimp only)
  rw [nI_clamp (n := kc_ad N s) (by omega)]
  exact ⟨vp_in_nI (by omega) (by omega), br_c (fun c => br_c (fun e => h1 ⟨z, c, Or.inl e⟩) (fun e => br_c (fun e2 => h1 ⟨z, c, Or.inr e2⟩) (fun e2 => h0 (fun y => y.2.2.elim e e2)))) (fun c => h0 (fun y => c y.2.1))⟩
theorem kc_xp22 {post J : Int32 → Prop} {s j : Nat} {p o : Int32} (hB : kc_B N R Q) (h : kc_PQ N R fa co m K A B C F σ) (hs : s < 180) (h1 : kc_el N fa cr p s → post (nI s)) (h0 : ¬ kc_el N fa cr p s → J (nI (j + 1))) : wX_pick_22 post J p o (nI j) (nI s) (nI N) (nI R) (nI Q) cc cr de dc ro es st sm fa co := by
  unfold wX_pick_22
  exact kc_xel hB h hs (fun e => br_f (by decide) (h1 e)) (fun e => br_t rfl (nm_r (nI_1 j) (h0 e)))
theorem kc_xp2 {post : Int32 → Prop} {j n : Nat} {p o : Int32} (hB : kc_B N R Q) (h : kc_PQ N R fa co m K A B C F σ) (hj : j < 180) (h1 : kc_el N fa cr p (kc_tau o j) → post (nI (kc_tau o j))) (h0 : ¬ kc_el N fa cr p (kc_tau o j) → wX_pick_2 post p o (nI N) (nI R) (nI Q) cc cr de dc ro es st sm fa co n (nI (j + 1))) : wX_pick_2 post p o (nI N) (nI R) (nI Q) cc cr de dc ro es st sm fa co (n + 1) (nI j) := by
  refine br_f (nI_ge (b := 180) hj (by omega)) (br_c (fun z => ?_) (fun z => ?_))
  · rw [show kc_tau o j = j from if_pos z] at h1 h0
    exact kc_xp22 hB h hj h1 h0
  · rw [show kc_tau o j = 179 - j from if_neg z] at h1 h0
    have e : (179 : Int32) - nI j = nI (179 - j) := pk_sub (a := 179) (by omega)
    rw [e]
    exact kc_xp22 hB h (by omega) h1 h0
theorem kc_xpick_lp {post : Int32 → Prop} {p o rr : Int32} {e0 : Nat} (hB : kc_B N R Q) (h : kc_PQ N R fa co m K A B C F σ) (h0 : (e0 = 180 ∧ rr = -1) ∨ (e0 < 180 ∧ kc_el N fa cr p (kc_tau o e0) ∧ rr = nI (kc_tau o e0))) (hb : ∀ j, j < e0 → ¬ kc_el N fa cr p (kc_tau o j)) (hp : post rr) : ∀ d j, j + d = e0 → wX_pick_2 post p o (nI N) (nI R) (nI Q) cc cr de dc ro es st sm fa co (d + 1) (nI j) := by
  intro d
  induction d with
  | zero =>
    intro j e
    have e' : j = e0 := by omega
    rw [e']
    rcases h0 with ⟨e1, er⟩ | ⟨h1, he, er⟩
    · rw [er] at hp
      exact br_t (nI_le (a := 180) (by omega) (by omega)) hp
    · rw [er] at hp
      exact kc_xp2 hB h h1 (fun _ => hp) (fun z => absurd he z)
  | succ d ih =>
    intro j e
    exact kc_xp2 hB h (by omega) (fun z => absurd z (hb j (by omega))) (fun _ => ih (j + 1) (by omega))
theorem kc_y84 {post : Int32 → SY → Prop} {J : Int32 → Int32 → Int32 → Int32 → Int32 → (Nat → Int32) → (Nat → Int32) → (Nat → Int32) → (Nat → Int32) → (Nat → Int32) → (Nat → Int32) → (Nat → Int32) → (Nat → Int32) → (Nat → Int32) → (Nat → Int32) → (Nat → Int32) → (Nat → Int32) → Prop} {p o x4 x5 : Int32} (hB : kc_B N R Q) (h : kc_PQ N R fa co m K A B C F σ) (hb : ∀ x6 x7, kc_bi (kc_el N fa cr p) o σ m x6 x7 → wY_pump_84 post J p o x4 x5 (nI N) (nI R) (nI Q) (nI m) K A B C F cr ro es st de dc su 1 x6 x7 (nI m)) : ∀ d j x6 x7, j + d = m → kc_bi (kc_el N fa cr p) o σ j x6 x7 → wY_pump_84 post J p o x4 x5 (nI N) (nI R) (nI Q) (nI m) K A B C F cr ro es st de dc su (d + 1) x6 x7 (nI j) := by
  have hB' := hB
  obtain ⟨b1, b2, b3, b4, b5⟩ := hB'
  have hm := kc_PQ_le b2 b4 h
  intro d
  induction d with
  | zero =>
    intro j x6 x7 e hbi
    have e' : j = m := by omega
    rw [e'] at hbi ⊢
    exact hb x6 x7 hbi
  | succ d ih =>
    intro j x6 x7 e hbi
    have hj : j < m := by omega
    obtain ⟨hv, hK, hA, hBB, hC, hF, hz⟩ := h.1 j hj
    have hs := hv.1
    have hq := kc_ad_lt b1 hv
    have hin : vp_in (nI j) 140 := vp_in_nI (by omega) (by omega)
    have h5 : vp_in (nI (kc_ad N (σ j))) 5 := vp_in_nI (by omega) (by omega)
    have hkb : ∀ s, s < 180 → kc_key s < 1000 := fun s hs => by unfold kc_key; omega
    have ekey : ((nI (σ j / 45) * 100) + (nI (σ j % 45 / 5) * 10)) + nI (σ j % 5) = nI (kc_key (σ j)) := by
      rw [show nI (σ j / 45) * 100 = nI (σ j / 45 * 100) from pk_mul _ 100, show nI (σ j % 45 / 5) * 10 = nI (σ j % 45 / 5 * 10) from pk_mul _ 10, nI_add, nI_add]
      rfl
    have g2 : ¬ kc_el N fa cr p (σ j) → wY_pump_168 post J (wY_pump_84 post J p o x4 x5 (nI N) (nI R) (nI Q) (nI m) K A B C F cr ro es st de dc su (d + 1)) p o x4 x5 x6 x7 (nI j) (nI (kc_key (σ j))) (nI N) (nI R) (nI Q) (nI m) K A B C F cr ro es st de dc su := fun he => by
      unfold wY_pump_168 wY_pump_169
      refine br_t rfl (nm_r (nI_1 j) (ih (j + 1) _ _ (by omega) ?_))
      rcases hbi with ⟨c1, c2⟩ | ⟨b, c1, c2, c3, c4, c5⟩
      · refine Or.inl ⟨c1, fun i hi => ?_⟩
        by_cases ei : i = j
        · rw [ei]; exact he
        · exact c2 i (by omega)
      · refine Or.inr ⟨b, by omega, c2, c3, c4, fun i hi hE => ?_⟩
        by_cases ei : i = j
        · rw [ei] at hE; exact absurd hE he
        · exact c5 i (by omega) hE
    have g1 : kc_el N fa cr p (σ j) → wY_pump_164 post J (wY_pump_84 post J p o x4 x5 (nI N) (nI R) (nI Q) (nI m) K A B C F cr ro es st de dc su (d + 1)) p o x4 x5 x6 x7 (nI j) (nI (kc_key (σ j))) (nI N) (nI R) (nI Q) (nI m) K A B C F cr ro es st de dc su := fun he => by
      unfold wY_pump_164 wY_pump_169
      refine br_f (by decide) ?_
      rcases hbi with ⟨c1, c2⟩ | ⟨b, c1, c2, c3, c4, c5⟩
      · rw [c1]
        refine br_t (by decide) (nm_r (nI_1 j) (ih (j + 1) _ _ (by omega) (Or.inr ⟨j, by omega, rfl, rfl, he, fun i hi hE => ?_⟩)))
        by_cases ei : i = j
        · rw [ei]; exact ⟨fun _ => Nat.le_refl _, fun _ => Nat.le_refl _⟩
        · exact absurd hE (c2 i (by omega))
      · rw [c2, c3]
        have hsb := ((h.1 b (by omega)).1).1
        have k1 := hkb _ hs
        have k2 := hkb _ hsb
        have q1 := kc_key_le hsb hs
        have q2 := kc_key_le hs hsb
        refine br_f (nI_pos (by omega)) (br_c (fun o0 => pk_le (kc_key (σ b)) (kc_key (σ j)) (fun y => nm_r (nI_1 j) (ih (j + 1) _ _ (by omega) (Or.inr ⟨b, by omega, rfl, rfl, c4, fun i hi hE => ?_⟩))) (fun y => nm_r (nI_1 j) (ih (j + 1) _ _ (by omega) (Or.inr ⟨j, by omega, rfl, rfl, he, fun i hi hE => ?_⟩)))) (fun o0 => pk_le (kc_key (σ j)) (kc_key (σ b)) (fun y => nm_r (nI_1 j) (ih (j + 1) _ _ (by omega) (Or.inr ⟨b, by omega, rfl, rfl, c4, fun i hi hE => ?_⟩))) (fun y => nm_r (nI_1 j) (ih (j + 1) _ _ (by omega) (Or.inr ⟨j, by omega, rfl, rfl, he, fun i hi hE => ?_⟩)))))
        · refine ⟨fun _ => ?_, fun z => absurd o0 z⟩
          by_cases ei : i = j
          · rw [ei]; exact q1.mp y
          · exact (c5 i (by omega) hE).1 o0
        · refine ⟨fun _ => ?_, fun z => absurd o0 z⟩
          by_cases ei : i = j
          · rw [ei]; exact Nat.le_refl _
          · have := (c5 i (by omega) hE).1 o0
            have : ¬ σ b ≤ σ j := fun z => Nat.not_lt_of_le (q1.mpr z) y
            omega
        · refine ⟨fun z => absurd z o0, fun _ => ?_⟩
          by_cases ei : i = j
          · rw [ei]; exact q2.mp y
          · exact (c5 i (by omega) hE).2 o0
        · refine ⟨fun z => absurd z o0, fun _ => ?_⟩
          by_cases ei : i = j
          · rw [ei]; exact Nat.le_refl _
          · have := (c5 i (by omega) hE).2 o0
            have : ¬ σ j ≤ σ b := fun z => Nat.not_lt_of_le (q2.mpr z) y
            omega
    rw [wY_pump_84]
    (try dsimp only)
    rw [nI_clamp (n := j) (by omega)]
    refine br_f (nI_ge hj (by omega)) (kc_yaddr hB h hj ?_)
    (try dsimp only)
    rw [nI_clamp (n := kc_ad N (σ j)) (by omega), hK, hA, hBB, hF]
    exact ⟨hin, hin, hin, nm_r ekey ⟨hin, br_c (fun z => ⟨h5, br_c (fun c => br_c (fun e => g1 ⟨z, c, Or.inl e⟩) (fun e => br_c (fun e2 => g1 ⟨z, c, Or.inr e2⟩) (fun e2 => g2 (fun y => y.2.2.elim e e2)))) (fun c => g2 (fun y => c y.2.1))⟩) (fun z => g2 (fun y => z y.1))⟩⟩
/-- both pick the same message -/
theorem kc_pick (hB : kc_B N R Q) (h : kc_PQ N R fa co m K A B C F σ) (p o : Int32) : ((∀ post : Int32 → Prop, post (-1) → wpX_pick post (nI N, nI R, nI Q, cc, cr, de, dc, ro, es, st, sm, fa, co) p o) ∧ (∀ x6 x7, kc_bi (kc_el N fa cr p) o σ m x6 x7 → x6 = -1)) ∨ (∃ i, i < m ∧ fa (σ i) = 1 ∧ (∀ post : Int32 → Prop, post (nI (σ i)) → wpX_pick post (nI N, nI R, nI Q, cc, cr, de, dc, ro, es, st, sm, fa, co) p o) ∧ (∀ x6 x7, kc_bi (kc_el N fa cr p) o σ m x6 x7 → x6 = nI i)) := by
  by_cases hex : ∃ j, j < 180 ∧ kc_el N fa cr p (kc_tau o j)
  · obtain ⟨e0, ⟨he0, hE0⟩, hmin⟩ := pk_least (fun j => j < 180 ∧ kc_el N fa cr p (kc_tau o j)) hex
    have ht : kc_tau o e0 < 180 := by unfold kc_tau; split <;> omega
    obtain ⟨i, hi, ei⟩ := h.2.2 (kc_tau o e0) ht (by rw [hE0.1]; decide)
    refine Or.inr ⟨i, hi, by rw [ei]; exact hE0.1, fun post hp => ⟨e0 + 1, kc_xpick_lp hB h (Or.inr ⟨he0, hE0, rfl⟩) (fun j hj hE => hmin j hj ⟨by omega, hE⟩) (by rw [ei] at hp; exact hp) e0 0 (by omega)⟩, fun x6 x7 hb => ?_⟩
    rcases hb with ⟨c1, c2⟩ | ⟨b, c1, c2, c3, c4, c5⟩
    · exact absurd (by rw [ei]; exact hE0) (c2 i hi)
    · have g := c5 i hi (by rw [ei]; exact hE0)
      have hsb := ((h.1 b c1).1).1
      have eb : σ b = σ i := by
        by_cases z : o = 0
        · have g1 := g.1 z
          have et : kc_tau o e0 = e0 := if_pos z
          have := hmin (σ b)
          have n1 : ¬ σ b < e0 := fun y => hmin (σ b) y ⟨hsb, by rw [show kc_tau o (σ b) = σ b from if_pos z]; exact c4⟩
          omega
        · have g1 := g.2 z
          have et : kc_tau o e0 = 179 - e0 := if_neg z
          have n1 : ¬ 179 - σ b < e0 := fun y => hmin (179 - σ b) y ⟨by omega, by
            rw [show kc_tau o (179 - σ b) = 179 - (179 - σ b) from if_neg z, show 179 - (179 - σ b) = σ b from by omega]; exact c4⟩
          omega
      rw [c2, h.2.1 b i c1 hi eb]
  · refine Or.inl ⟨fun post hp => ⟨180 + 1, kc_xpick_lp hB h (Or.inl ⟨rfl, rfl⟩) (fun j hj hE => hex ⟨j, hj, hE⟩) hp 180 0 (by omega)⟩, fun x6 x7 hb => ?_⟩
    rcases hb with ⟨c1, c2⟩ | ⟨b, c1, c2, c3, c4, c5⟩
    · exact c1
    · have hsb := ((h.1 b c1).1).1
      by_cases z : o = 0
      · exact absurd ⟨σ b, hsb, by rw [show kc_tau o (σ b) = σ b from if_pos z]; exact c4⟩ hex
      · exact absurd ⟨179 - σ b, by omega, by
          rw [show kc_tau o (179 - σ b) = 179 - (179 - σ b) from if_neg z, show 179 - (179 - σ b) = σ b from by omega]; exact c4⟩ hex
theorem kc_pump_lp {p o : Int32} {lim : Nat} (hB : kc_B N R Q) (hM : kc_M N sm su) (hl : lim ≤ 32) : ∀ d k, k + d = lim → ∀ (de dc ro es st fa co : Nat → Int32) (m : Nat) (K A B C F : Nat → Int32) (σ : Nat → Nat), kc_I N R Q de ro es st fa co → kc_PQ N R fa co m K A B C F σ → kc_LA N R Q cc cr sm su (fun post => wX_pump_59 post p o (nI lim) (d + 1) (nI k) (nI N) (nI R) (nI Q) cc cr de dc ro es st sm fa co) (fun post => wY_pump_68 post p o (nI lim) (d + 1) (nI k) (nI N) (nI R) (nI Q) (nI m) K A B C F cr ro es st de dc su) := by
  have hB' := hB
  obtain ⟨b1, b2, b3, b4, b5⟩ := hB'
  intro d
  induction d with
  | zero =>
    intro k e de dc ro es st fa co m K A B C F σ hI hP
    have hle : nI lim ≤ nI k := nI_le (by omega) (by omega)
    exact ⟨nI lim, de, dc, ro, es, st, fa, co, m, K, A, B, C, F, σ, hI, hP, fun post g => br_t hle g, fun post g => br_t hle g⟩
  | succ d ih =>
    intro k e de dc ro es st fa co m K A B C F σ hI hP
    have hle : ¬ nI lim ≤ nI k := nI_ge (by omega) (by omega)
    have hm := kc_PQ_le b2 b4 hP
    have hmm : nI m ≤ nI m := nI_le (by omega) (by omega)
    have hb0 : kc_bi (kc_el N fa cr p) o σ 0 (-1) 0 := Or.inl ⟨rfl, fun i hi => absurd hi (Nat.not_lt_zero i)⟩
    rcases kc_pick (cc := cc) (cr := cr) (de := de) (dc := dc) (ro := ro) (es := es) (st := st) (sm := sm) hB hP p o with ⟨hx, hy⟩ | ⟨i, hi, hf, hx, hy⟩
    · refine ⟨nI k, de, dc, ro, es, st, fa, co, m, K, A, B, C, F, σ, hI, hP, fun post g => br_f hle (hx _ (br_f (by decide) g)), fun post g => br_f hle ⟨m + 1, kc_y84 hB hP (fun x6 x7 hb => ?_) m 0 (-1) 0 (by omega) hb0⟩⟩
      rw [hy x6 x7 hb]
      exact br_t hmm (br_f (by decide) g)
    · obtain ⟨de', dc', ro', es', st', fa', co', m', K', A', B', C', F', σ', hI', hP', hX, hY⟩ := kc_hand (cc := cc) (cr := cr) (dc := dc) hB hM hI hP hi hf
      obtain ⟨a, de2, dc2, ro2, es2, st2, fa2, co2, m2, K2, A2, B2, C2, F2, σ2, hI2, hP2, hX2, hY2⟩ := ih (k + 1) (by omega) de' dc' ro' es' st' fa' co' m' K' A' B' C' F' σ' hI' hP'
      have hs := ((hP.1 i hi).1).1
      refine ⟨a, de2, dc2, ro2, es2, st2, fa2, co2, m2, K2, A2, B2, C2, F2, σ2, hI2, hP2, fun post g => br_f hle (hx _ (br_t (nI_pos' (by omega)) (hX _ (nm_r (nI_1 k) (hX2 post g))))), fun post g => br_f hle ⟨m + 1, kc_y84 hB hP (fun x6 x7 hb => ?_) m 0 (-1) 0 (by omega) hb0⟩⟩
      rw [hy x6 x7 hb]
      exact br_t hmm (br_t (nI_pos' (by omega)) (hY _ (nm_r (nI_1 k) (hY2 post g))))
end
end
section
/-- the fates below j, those that are lost turned to LOST -/
def kc_lf (f : Nat → Int32) (lo : Nat → Bool) (j : Nat) : Nat → Int32 := fun t => if t < j ∧ lo t = true then 3 else f t
theorem kc_lf_0 (f : Nat → Int32) (lo : Nat → Bool) : kc_lf f lo 0 = f := funext fun t => if_neg (fun z => absurd z.1 (Nat.not_lt_zero t))
theorem kc_lf_at (f : Nat → Int32) (lo : Nat → Bool) (j : Nat) : kc_lf f lo j j = f j := if_neg (fun z => absurd z.1 (Nat.lt_irrefl j))
theorem kc_lf_t {f : Nat → Int32} {lo : Nat → Bool} {j : Nat} (h : lo j = true) : upd (kc_lf f lo j) j 3 = kc_lf f lo (j + 1) := by
  funext t
  unfold upd kc_lf
  by_cases e : t = j
  · rw [if_pos e, if_pos ⟨by omega, by rw [e]; exact h⟩]
  · rw [if_neg e]
    by_cases c : t < j ∧ lo t = true
    · rw [if_pos c, if_pos ⟨by omega, c.2⟩]
    · rw [if_neg c, if_neg (fun z => c ⟨by omega, z.2⟩)]
theorem kc_lf_f {f : Nat → Int32} {lo : Nat → Bool} {j : Nat} (h : lo j = false) : kc_lf f lo (j + 1) = kc_lf f lo j := by
  funext t
  unfold kc_lf
  by_cases c : t < j ∧ lo t = true
  · rw [if_pos c, if_pos ⟨by omega, c.2⟩]
  · rw [if_neg c, if_neg (fun z => c ⟨by
      have h1 := z.1
      have h2 : t ≠ j := fun e => by
        rw [← e, z.2] at h
        exact absurd h (by decide)
      omega, z.2⟩)]
/-- the message in slot t is lost when p crashes -/
def kc_lo (N : Nat) (fa : Nat → Int32) (p : Nat) (keep : Int32) (t : Nat) : Bool := decide (fa t = 1 ∧ kc_sd N t = p ∧ (keep >>> (nI (kc_ad N t) &&& 31)) &&& 1 = 0)
section
variable {N R Q m : Nat} {cc : Int32} {cr de dc ro es st sm fa co K A B C F su : Nat → Int32} {σ : Nat → Nat}
theorem kc_sd_lt {s : Nat} (h : 3 ≤ N) (hv : kc_vs N R s) : kc_sd N s < 2 ^ 31 := by
  have h1 := hv.1
  unfold kc_sd
  split
  · have := kc_cd_lt (r := s % 45 / 5) h
    unfold kc_cd at *
    have h2 : (s % 45 / 5 - 1) % N ≤ s % 45 / 5 - 1 := Nat.mod_le _ _
    omega
  · split <;> omega
theorem kc_xlose_lp {post : Int32 → SX → Prop} {p : Nat} {keep : Int32} (hB : kc_B N R Q) (h : kc_PQ N R fa co m K A B C F σ) (hpN : p < N) (hp : post (nI (kc_n (kc_lo N fa p keep) 180)) (nI N, nI R, nI Q, cc, cr, de, dc, ro, es, st, sm, kc_lf fa (kc_lo N fa p keep) 180, co)) : ∀ d j, j + d = 180 → wX_loseUnkept_5 post (nI p) keep (nI N) (nI R) (nI Q) cc (d + 1) (nI (kc_n (kc_lo N fa p keep) j)) (nI j) cr de dc ro es st sm (kc_lf fa (kc_lo N fa p keep) j) co := by
  have hB' := hB
  obtain ⟨b1, b2, b3, b4, b5⟩ := hB'
  intro d
  induction d with
  | zero =>
    intro j e
    have e' : j = 180 := by omega
    subst e'
    exact br_t (nI_le (a := 180) (by omega) (by omega)) hp
  | succ d ih =>
    intro j e
    have g := ih (j + 1) (by omega)
    have hin : vp_in (nI j) 180 := vp_in_nI (by omega) (by omega)
    have gk : kc_lo N fa p keep j = false → wX_loseUnkept_5 post (nI p) keep (nI N) (nI R) (nI Q) cc (d + 1) (nI (kc_n (kc_lo N fa p keep) j)) (nI (j + 1)) cr de dc ro es st sm (kc_lf fa (kc_lo N fa p keep) j) co := fun hl => by
      rw [kc_n_f hl, kc_lf_f hl] at g
      exact g
    rw [wX_loseUnkept_5]
    (try dsimp only)
    rw [nI_clamp (n := j) (by omega), kc_lf_at]
    refine br_f (nI_ge (b := 180) (by omega) (by omega)) ⟨hin, br_c (fun z => ?_) (fun z => nm_r (nI_1 j) (gk (decide_eq_false (fun y => z y.1))))⟩
    have hv := kc_PQ_vs h (s := j) (by omega) (by rw [z]; decide)
    have hsl := kc_sd_lt b1 hv
    refine kc_xsender hB hv (pk_eq (kc_sd N j) p (fun c => kc_xaddr hB hv (br_c (fun y => ⟨hin, nm_r (kc_lf_t (decide_eq_true ⟨z, c, y⟩)) (nm_r (nI_1 _) (nm_r (nI_1 j) ?_))⟩) (fun y => nm_r (nI_1 j) (gk (decide_eq_false (fun w => y w.2.2)))))) (fun c => nm_r (nI_1 j) (gk (decide_eq_false (fun y => c y.2.1)))))
    rw [kc_n_t (decide_eq_true ⟨z, c, y⟩)] at g
    exact g
theorem kc_ylose_lp {post : Int32 → SY → Prop} {p : Nat} {keep : Int32} (hB : kc_B N R Q) (h : kc_PQ N R fa co m K A B C F σ) (hpN : p < N) (hp : post (nI (kc_n (fun i => kc_lo N fa p keep (σ i)) m)) (nI N, nI R, nI Q, nI m, K, A, B, C, kc_lf F (fun i => kc_lo N fa p keep (σ i)) m, cr, ro, es, st, de, dc, su)) : ∀ d j, j + d = m → wY_crash_84 post (nI p) keep (nI N) (nI R) (nI Q) (nI m) (d + 1) (nI (kc_n (fun i => kc_lo N fa p keep (σ i)) j)) (nI j) K A B C (kc_lf F (fun i => kc_lo N fa p keep (σ i)) j) cr ro es st de dc su := by
  have hB' := hB
  obtain ⟨b1, b2, b3, b4, b5⟩ := hB'
  have hm := kc_PQ_le b2 b4 h
  intro d
  induction d with
  | zero =>
    intro j e
    have e' : j = m := by omega
    subst e'
    exact br_t (nI_le (by omega) (by omega)) hp
  | succ d ih =>
    intro j e
    have hj : j < m := by omega
    have g := ih (j + 1) (by omega)
    have hin : vp_in (nI j) 140 := vp_in_nI (by omega) (by omega)
    obtain ⟨hv, hK, hA, hBB, hC, hF, hz⟩ := h.1 j hj
    have gk : kc_lo N fa p keep (σ j) = false → wY_crash_84 post (nI p) keep (nI N) (nI R) (nI Q) (nI m) (d + 1) (nI (kc_n (fun i => kc_lo N fa p keep (σ i)) j)) (nI (j + 1)) K A B C (kc_lf F (fun i => kc_lo N fa p keep (σ i)) j) cr ro es st de dc su := fun hl => by
      rw [kc_n_f (P := fun i => kc_lo N fa p keep (σ i)) hl, kc_lf_f (lo := fun i => kc_lo N fa p keep (σ i)) hl] at g
      exact g
    -- the list's other columns are as they were
    have h' : kc_PQ N R (fun t => if kc_lo N fa p keep t = true ∧ t ∈ (List.range j).map σ then 3 else fa t) co m K A B C (kc_lf F (fun i => kc_lo N fa p keep (σ i)) j) σ := by
      refine ⟨fun i hi => ?_, h.2.1, fun s hs hf => ?_⟩
      · obtain ⟨c1, c2, c3, c4, c5, c6, c7⟩ := h.1 i hi
        refine ⟨c1, c2, c3, c4, c5, ?_⟩
        dsimp only
        unfold kc_lf
        by_cases c : i < j ∧ kc_lo N fa p keep (σ i) = true
        · rw [if_pos c, if_pos ⟨c.2, List.mem_map.mpr ⟨i, List.mem_range.mpr c.1, rfl⟩⟩]
          exact ⟨rfl, by decide⟩
        · rw [if_neg c, if_neg (fun z => c (by
            obtain ⟨z1, z2⟩ := z
            obtain ⟨l, hl, el⟩ := List.mem_map.mp z2
            have hl' := List.mem_range.mp hl
            have := h.2.1 l i (by omega) hi el
            exact ⟨by omega, z1⟩))]
          exact ⟨c6, c7⟩
      · dsimp only at hf
        by_cases c : kc_lo N fa p keep s = true ∧ s ∈ (List.range j).map σ
        · exact h.2.2 s hs (by rw [(of_decide_eq_true c.1).1]; decide)
        · rw [if_neg c] at hf
          exact h.2.2 s hs hf
    rw [wY_crash_84]
    (try dsimp only)
    rw [nI_clamp (n := j) (by omega), kc_lf_at, hF]
    have hsl := kc_sd_lt b1 hv
    refine br_f (nI_ge hj (by omega)) (kc_yaddr hB h' hj ⟨hin, br_c (fun z => kc_ysender hB h' hj (pk_eq (kc_sd N (σ j)) p (fun c => br_c (fun y => ⟨hin, nm_r (kc_lf_t (lo := fun i => kc_lo N fa p keep (σ i)) (decide_eq_true ⟨z, c, y⟩)) (nm_r (nI_1 _) (nm_r (nI_1 j) ?_))⟩) (fun y => nm_r (nI_1 j) (gk (decide_eq_false (fun w => y w.2.2))))) (fun c => nm_r (nI_1 j) (gk (decide_eq_false (fun y => c y.2.1)))))) (fun z => nm_r (nI_1 j) (gk (decide_eq_false (fun y => z y.1))))⟩)
    rw [kc_n_t (P := fun i => kc_lo N fa p keep (σ i)) (decide_eq_true ⟨z, c, y⟩)] at g
    exact g
theorem kc_lose_PQ {p : Nat} {keep : Int32} (h : kc_PQ N R fa co m K A B C F σ) : kc_PQ N R (kc_lf fa (kc_lo N fa p keep) 180) co m K A B C (kc_lf F (fun i => kc_lo N fa p keep (σ i)) m) σ := by
  refine ⟨fun i hi => ?_, h.2.1, fun s hs hf => ?_⟩
  · obtain ⟨c1, c2, c3, c4, c5, c6, c7⟩ := h.1 i hi
    refine ⟨c1, c2, c3, c4, c5, ?_⟩
    unfold kc_lf
    by_cases c : kc_lo N fa p keep (σ i) = true
    · rw [if_pos ⟨hi, c⟩, if_pos ⟨c1.1, c⟩]
      exact ⟨rfl, by decide⟩
    · rw [if_neg (fun z => c z.2), if_neg (fun z => c z.2)]
      exact ⟨c6, c7⟩
  · unfold kc_lf at hf
    by_cases c : s < 180 ∧ kc_lo N fa p keep s = true
    · exact h.2.2 s hs (by rw [(of_decide_eq_true c.2).1]; decide)
    · rw [if_neg c] at hf
      exact h.2.2 s hs hf
theorem kc_lose_I {p : Nat} {keep : Int32} (hB : kc_B N R Q) (h : kc_I N R Q de ro es st fa co) : kc_I N R Q de ro es st (kc_lf fa (kc_lo N fa p keep) 180) co := by
  obtain ⟨b1, b2, b3, b4, b5⟩ := hB
  refine kc_I_fates b2 b4 h (fun t ht => ?_) (fun t ht h2 => ?_)
  · unfold kc_lf
    by_cases c : t < 180 ∧ kc_lo N fa p keep t = true
    · rw [if_pos c, (of_decide_eq_true c.2).1]
      exact ⟨fun _ => by decide, fun _ => by decide⟩
    · rw [if_neg c]
  · unfold kc_lf
    by_cases c : t < 180 ∧ kc_lo N fa p keep t = true
    · have := (of_decide_eq_true c.2).1
      rw [h2] at this
      exact absurd this (by decide)
    · rw [if_neg c]; exact h2
theorem kc_lose_n {p : Nat} {keep : Int32} (h : kc_PQ N R fa co m K A B C F σ) : kc_n (fun i => kc_lo N fa p keep (σ i)) m = kc_n (kc_lo N fa p keep) 180 :=
  kc_inj_eq σ (fun x => x) 180 m (kc_lo N fa p keep) h.2.1 (fun _ _ _ _ e => e) (fun i hi _ => ⟨σ i, (h.1 i hi).1.1, rfl⟩) (fun x hx hp => h.2.2 x hx (by rw [(of_decide_eq_true hp).1]; decide))
theorem kc_y27 {post : Int32 → SY → Prop} {p : Nat} {keep : Int32} (hB : kc_B N R Q) (hb : wY_crash_27 post (nI p) keep (nI N) (nI R) (nI Q) (nI m) K A B C F cr ro es st de dc su 1 (nI (kc_n (fun x => !decide (cr x = 0)) N)) (nI N)) : ∀ d j, j + d = N → wY_crash_27 post (nI p) keep (nI N) (nI R) (nI Q) (nI m) K A B C F cr ro es st de dc su (d + 1) (nI (kc_n (fun x => !decide (cr x = 0)) j)) (nI j) := by
  obtain ⟨b1, b2, b3, b4, b5⟩ := hB
  intro d
  induction d with
  | zero =>
    intro j e
    have e' : j = N := by omega
    subst e'
    exact hb
  | succ d ih =>
    intro j e
    have g := ih (j + 1) (by omega)
    rw [wY_crash_27]
    (try dsimp only)
    rw [nI_clamp (n := j) (by omega)]
    refine br_f (nI_ge (by omega) (by omega)) ⟨vp_in_nI (by omega) (by omega), br_c (fun z => nm_r (nI_1 j) ?_) (fun z => nm_r (nI_1 _) (nm_r (nI_1 j) ?_))⟩
    · rw [kc_n_f (P := fun x => !decide (cr x = 0)) (by (try dsimp only); rw [decide_eq_true z]; rfl)] at g
      exact g
    · rw [kc_n_t (P := fun x => !decide (cr x = 0)) (by (try dsimp only); rw [decide_eq_false z]; rfl)] at g
      exact g
end
end
section
/-! masks -/
theorem kc_or_tab : ∀ k, k < 32 → ∀ q, q < 5 → (nI k ||| ((1 : Int32) <<< (nI q &&& 31))) = nI (k ||| 2 ^ q) ∧ (k ||| 2 ^ q) < 32 ∧ ∀ q', q' < 5 → (((nI (k ||| 2 ^ q)) >>> (nI q' &&& 31)) &&& 1 = 0 ↔ (q' ≠ q ∧ (nI k >>> (nI q' &&& 31)) &&& 1 = 0)) := by decide +kernel
theorem kc_and_tab : ∀ k, k < 32 → ∀ q, q < 5 → (nI k &&& (((1 : Int32) <<< (nI q &&& 31)) ^^^ (-1))) = nI (k &&& (31 - 2 ^ q)) ∧ (k &&& (31 - 2 ^ q)) < 32 ∧ ∀ q', q' < 5 → (((nI (k &&& (31 - 2 ^ q))) >>> (nI q' &&& 31)) &&& 1 = 0 ↔ (q' = q ∨ (nI k >>> (nI q' &&& 31)) &&& 1 = 0)) := by decide +kernel
def kc_bs (z : Int32) : Nat → Int32
  | 0 => 0
  | n + 1 => if (z >>> (nI n &&& 31)) &&& 1 = 0 then kc_bs z n else kc_bs z n + (1 <<< (nI n &&& 31))
theorem kc_bs_tab : ∀ k, k < 32 → ∀ n, n < 6 → 3 ≤ n → (∀ q, q < 5 → n ≤ q → (nI k >>> (nI q &&& 31)) &&& 1 = 0) → kc_bs (nI k) n = nI k := by decide +kernel
section
variable {N R Q m : Nat} {cc : Int32} {cr de dc ro es st sm fa co K A B C F su : Nat → Int32} {σ : Nat → Nat}
theorem kc_M_set {p q : Nat} (hB : kc_B N R Q) (hM : kc_M N sm su) (hp : p < N) (hq : q < N) : kc_M N (upd sm p ((sm p) ||| ((1 : Int32) <<< (nI q &&& 31)))) (upd su (p * 5 + q) 1) := by
  obtain ⟨b1, b2, b3, b4, b5⟩ := hB
  intro p' hp'
  by_cases e : p' = p
  · rw [e, pk_us]
    obtain ⟨⟨k, hk, ek⟩, h1, h2⟩ := hM p hp
    rw [ek] at h1 h2 ⊢
    obtain ⟨t1, t2, t3⟩ := kc_or_tab k hk q (by omega)
    rw [t1]
    refine ⟨⟨_, t2, rfl⟩, fun q' hq' => ?_, fun q' ha hb => ?_⟩
    · rw [t3 q' (by omega)]
      by_cases e' : q' = q
      · rw [e', pk_us]
        exact ⟨fun z => absurd rfl z.1, fun z => absurd z (by decide)⟩
      · rw [pk_un (by omega)]
        exact ⟨fun z => (h1 q' hq').mp z.2, fun z => ⟨e', (h1 q' hq').mpr z⟩⟩
    · rw [t3 q' hb]
      exact ⟨by omega, h2 q' ha hb⟩
  · rw [pk_un e]
    obtain ⟨h0, h1, h2⟩ := hM p' hp'
    refine ⟨h0, fun q' hq' => ?_, h2⟩
    rw [pk_un (by omega)]
    exact h1 q' hq'
theorem kc_M_clr {p q : Nat} (hB : kc_B N R Q) (hM : kc_M N sm su) (hp : p < N) (hq : q < N) : kc_M N (upd sm p ((sm p) &&& (((1 : Int32) <<< (nI q &&& 31)) ^^^ (-1)))) (upd su (p * 5 + q) 0) := by
  obtain ⟨b1, b2, b3, b4, b5⟩ := hB
  intro p' hp'
  by_cases e : p' = p
  · rw [e, pk_us]
    obtain ⟨⟨k, hk, ek⟩, h1, h2⟩ := hM p hp
    rw [ek] at h1 h2 ⊢
    obtain ⟨t1, t2, t3⟩ := kc_and_tab k hk q (by omega)
    rw [t1]
    refine ⟨⟨_, t2, rfl⟩, fun q' hq' => ?_, fun q' ha hb => ?_⟩
    · rw [t3 q' (by omega)]
      by_cases e' : q' = q
      · rw [e', pk_us]
        exact ⟨fun _ => rfl, fun _ => Or.inl rfl⟩
      · rw [pk_un (by omega)]
        exact ⟨fun z => (h1 q' hq').mp (z.resolve_left e'), fun z => Or.inr ((h1 q' hq').mpr z)⟩
    · rw [t3 q' hb]
      exact Or.inr (h2 q' ha hb)
  · rw [pk_un e]
    obtain ⟨h0, h1, h2⟩ := hM p' hp'
    refine ⟨h0, fun q' hq' => ?_, h2⟩
    rw [pk_un (by omega)]
    exact h1 q' hq'
theorem kc_sum_eq {p : Nat} (hB : kc_B N R Q) (hM : kc_M N sm su) (hp : p < N) : kc_sum su (p * 5) N = sm p := by
  obtain ⟨b1, b2, b3, b4, b5⟩ := hB
  obtain ⟨⟨k, hk, ek⟩, h1, h2⟩ := hM p hp
  rw [ek] at h1 h2 ⊢
  have g : ∀ n, n ≤ N → kc_sum su (p * 5) n = kc_bs (nI k) n := by
    intro n
    induction n with
    | zero => intro _; rfl
    | succ n ih =>
      intro hn
      show (if su (p * 5 + n) = 0 then kc_sum su (p * 5) n else kc_sum su (p * 5) n + (1 <<< (nI n &&& 31))) = (if (nI k >>> (nI n &&& 31)) &&& 1 = 0 then kc_bs (nI k) n else kc_bs (nI k) n + (1 <<< (nI n &&& 31)))
      rw [ih (by omega)]
      by_cases z : su (p * 5 + n) = 0
      · rw [if_pos z, if_pos ((h1 n (by omega)).mpr z)]
      · rw [if_neg z, if_neg (fun y => z ((h1 n (by omega)).mp y))]
  rw [g N (Nat.le_refl _)]
  exact kc_bs_tab k hk N (by omega) b1 (fun q hq hN => h2 q hN hq)
theorem kc_e5 (p q : Nat) : (nI p * 5) + nI q = nI (p * 5 + q) := by rw [show nI p * 5 = nI (p * 5) from pk_mul p 5, nI_add]
theorem kc_ysum {post : Int32 → Prop} {p : Nat} (hB : kc_B N R Q) (hp : p < N) (hpo : post (kc_sum su (p * 5) N)) : ∀ d j, j + d = N → wY_suspicions_14 post (nI p) (nI N) (nI R) (nI Q) (nI m) K A B C F cr ro es st de dc su (d + 1) (kc_sum su (p * 5) j) (nI j) := by
  obtain ⟨b1, b2, b3, b4, b5⟩ := hB
  intro d
  induction d with
  | zero =>
    intro j e
    have e' : j = N := by omega
    subst e'
    exact br_t (nI_le (by omega) (by omega)) hpo
  | succ d ih =>
    intro j e
    have g := ih (j + 1) (by omega)
    rw [wY_suspicions_14]
    (try dsimp only)
    rw [kc_e5, nI_clamp (n := p * 5 + j) (by omega)]
    refine br_f (nI_ge (by omega) (by omega)) ⟨vp_in_nI (by omega) (by omega), br_c (fun z => nm_r (nI_1 j) ?_) (fun z => nm_e (nm_r (nI_1 j) ?_))⟩
    · rw [show kc_sum su (p * 5) (j + 1) = kc_sum su (p * 5) j from if_pos z] at g
      exact g
    · rw [show kc_sum su (p * 5) (j + 1) = kc_sum su (p * 5) j + (1 <<< (nI j &&& 31)) from if_neg z] at g
      exact g
/-! the locked value -/
theorem kc_y14 {post J : Int32 → Prop} {r : Nat} (hB : kc_B N R Q) (h : kc_PQ N R fa co m K A B C F σ) (h1 : 1 ≤ r) (hr : r ≤ R) (hb : wY_lockedValue_14 post J (nI r) (nI N) (nI R) (nI Q) (nI m) K A B C F cr ro es st de dc su 1 (nI (kc_n (fun y => !decide (fa (90 + r * 5 + y) = 0) && decide (co (90 + r * 5 + y) = 1)) N)) (nI N)) : ∀ d x, x + d = N → wY_lockedValue_14 post J (nI r) (nI N) (nI R) (nI Q) (nI m) K A B C F cr ro es st de dc su (d + 1) (nI (kc_n (fun y => !decide (fa (90 + r * 5 + y) = 0) && decide (co (90 + r * 5 + y) = 1)) x)) (nI x) := by
  have hB' := hB
  obtain ⟨b1, b2, b3, b4, b5⟩ := hB'
  intro d
  induction d with
  | zero =>
    intro x e
    have e' : x = N := by omega
    subst e'
    exact hb
  | succ d ih =>
    intro x e
    have g := ih (x + 1) (by omega)
    refine br_f (nI_ge (by omega) (by omega)) (kc_ycont hB h (k := 2) (a := r) (b := x) (s := 90 + r * 5 + x) ⟨by omega, Or.inl ⟨by omega, h1, hr⟩⟩ (by omega) (fun z => br_f (by decide) (nm_r (nI_1 x) ?_)) (fun z => br_c (fun z1 => nm_r (nI_1 _) (nm_r (nI_1 x) ?_)) (fun z1 => nm_r (nI_1 x) ?_)))
    · rw [kc_n_f (P := fun y => !decide (fa (90 + r * 5 + y) = 0) && decide (co (90 + r * 5 + y) = 1)) (by (try dsimp only); rw [decide_eq_true z]; rfl)] at g; exact g
    · rw [kc_n_t (P := fun y => !decide (fa (90 + r * 5 + y) = 0) && decide (co (90 + r * 5 + y) = 1)) (by (try dsimp only); rw [decide_eq_false z, decide_eq_true z1]; rfl)] at g; exact g
    · rw [kc_n_f (P := fun y => !decide (fa (90 + r * 5 + y) = 0) && decide (co (90 + r * 5 + y) = 1)) (by (try dsimp only); rw [decide_eq_false z1, Bool.and_false])] at g; exact g
theorem kc_locked (hB : kc_B N R Q) (hI : kc_I N R Q de ro es st fa co) (h : kc_PQ N R fa co m K A B C F σ) : ∀ d r, r + d = R + 1 → 1 ≤ r → ∃ v : Int32, (∀ post : Int32 → Prop, post v → wX_lockedValue_2 post (nI N) (nI R) (nI Q) cc cr de dc ro es st sm fa co (d + 1) (nI r)) ∧ (∀ post : Int32 → Prop, post v → wY_lockedValue_2 post (nI N) (nI R) (nI Q) (nI m) K A B C F cr ro es st de dc su (d + 1) (nI r)) := by
  have hB' := hB
  obtain ⟨b1, b2, b3, b4, b5⟩ := hB'
  intro d
  induction d with
  | zero =>
    intro r e h1
    have hlt : nI R < nI r := nI_lt (by omega) (by omega)
    exact ⟨-7, fun post g => br_t hlt g, fun post g => br_t hlt g⟩
  | succ d ih =>
    intro r e h1
    have hlt : ¬ nI R < nI r := nI_nlt (by omega) (by omega)
    have hNN : nI N ≤ nI N := nI_le (by omega) (by omega)
    have hbd := kc_n_bd (P := fun y => !decide (fa (90 + r * 5 + y) = 0) && decide (co (90 + r * 5 + y) = 1)) N
    by_cases c : kc_n (fun y => !decide (fa (90 + r * 5 + y) = 0) && decide (co (90 + r * 5 + y) = 1)) N < Q
    · obtain ⟨v, hX, hY⟩ := ih (r + 1) (by omega) (by omega)
      have cI := nI_lt c (by omega)
      exact ⟨v, fun post g => br_f hlt (kc_xsacks hB (by omega) (br_t cI (nm_r (nI_1 r) (hX post g)))), fun post g => br_f hlt ⟨N + 1, kc_y14 hB h h1 (by omega) (br_t hNN (br_t cI (nm_r (nI_1 r) (hY post g)))) N 0 (by omega)⟩⟩
    · have cI := nI_nlt (Nat.le_of_not_lt c) (by omega)
      obtain ⟨y0, hy0, hp0⟩ := kc_n_pos (P := fun y => !decide (fa (90 + r * 5 + y) = 0) && decide (co (90 + r * 5 + y) = 1)) N (by omega)
      (try dsimp only at hp0)
      rw [Bool.and_eq_true] at hp0
      have hf : fa (90 + r * 5 + y0) ≠ 0 := fun z => by
        have q := hp0.1
        rw [decide_eq_true z] at q
        exact absurd q (by decide)
      have hz : fa (45 + r * 5) ≠ 0 := hI.2.2.2.2.2.2.2.2 r y0 (by omega) hy0 hf (of_decide_eq_true hp0.2)
      exact ⟨co (45 + r * 5), fun post g => br_f hlt (kc_xsacks hB (by omega) (br_f cI (kc_xpv (by omega) g))), fun post g => br_f hlt ⟨N + 1, kc_y14 hB h h1 (by omega) (br_t hNN (br_f cI (kc_ycont hB h (k := 1) (a := r) (b := 0) (s := 45 + r * 5) ⟨by omega, Or.inl ⟨by omega, h1, by omega⟩⟩ (by omega) (fun z => absurd z hz) (fun _ => g)))) N 0 (by omega)⟩⟩
end
end
section
/-- the relation: one game's numbers, the processes alike on both sides, the masks, the pool -/
def i_Rel (k : Nat) (u : SX) (v : SY) : Prop :=
  ∃ (N R Q m : Nat) (cc : Int32) (cr de dc ro es st sm fa co K A B C F su : Nat → Int32) (σ : Nat → Nat), u = (nI N, nI R, nI Q, cc, cr, de, dc, ro, es, st, sm, fa, co) ∧ v = (nI N, nI R, nI Q, nI m, K, A, B, C, F, cr, ro, es, st, de, dc, su) ∧ kc_B N R Q ∧ kc_M N sm su ∧ kc_I N R Q de ro es st fa co ∧ kc_PQ N R fa co m K A B C F σ ∧ cc = nI (kc_n (fun x => !decide (cr x = 0)) N)
theorem kc_ri {k N R Q m : Nat} {cc : Int32} {cr de dc ro es st sm fa co K A B C F su : Nat → Int32} {σ : Nat → Nat} (hB : kc_B N R Q) (hM : kc_M N sm su) (hI : kc_I N R Q de ro es st fa co) (hP : kc_PQ N R fa co m K A B C F σ) (hC : cc = nI (kc_n (fun x => !decide (cr x = 0)) N)) : i_Rel k (nI N, nI R, nI Q, cc, cr, de, dc, ro, es, st, sm, fa, co) (nI N, nI R, nI Q, nI m, K, A, B, C, F, cr, ro, es, st, de, dc, su) :=
  ⟨N, R, Q, m, cc, cr, de, dc, ro, es, st, sm, fa, co, K, A, B, C, F, su, σ, rfl, rfl, hB, hM, hI, hP, hC⟩
theorem kc_re {k : Nat} {u : SX} {v : SY} {Z : SX → SY → Prop} (h : ∀ (N R Q m : Nat) (cc : Int32) (cr de dc ro es st sm fa co K A B C F su : Nat → Int32) (σ : Nat → Nat), kc_B N R Q → kc_M N sm su → kc_I N R Q de ro es st fa co → kc_PQ N R fa co m K A B C F σ → cc = nI (kc_n (fun x => !decide (cr x = 0)) N) → Z (nI N, nI R, nI Q, cc, cr, de, dc, ro, es, st, sm, fa, co) (nI N, nI R, nI Q, nI m, K, A, B, C, F, cr, ro, es, st, de, dc, su)) (I : i_Rel k u v) : Z u v := by
  obtain ⟨N, R, Q, m, cc, cr, de, dc, ro, es, st, sm, fa, co, K, A, B, C, F, su, σ, e1, e2, hB, hM, hI, hP, hC⟩ := I
  rw [e1, e2]
  exact h N R Q m cc cr de dc ro es st sm fa co K A B C F su σ hB hM hI hP hC
theorem i_up {k : Nat} {u : SX} {v : SY} (h : i_Rel k u v) : i_Rel (k + 4) u v := h
section
variable {N R Q m : Nat} {cc : Int32} {cr de dc ro es st sm fa co K A B C F su : Nat → Int32} {σ : Nat → Nat}
theorem kc_LA_same {fX : (Int32 → SX → Prop) → Prop} {fY : (Int32 → SY → Prop) → Prop} (hI : kc_I N R Q de ro es st fa co) (hP : kc_PQ N R fa co m K A B C F σ) (a : Int32) (hx : ∀ post : Int32 → SX → Prop, post a (nI N, nI R, nI Q, cc, cr, de, dc, ro, es, st, sm, fa, co) → fX post) (hy : ∀ post : Int32 → SY → Prop, post a (nI N, nI R, nI Q, nI m, K, A, B, C, F, cr, ro, es, st, de, dc, su) → fY post) : kc_LA N R Q cc cr sm su fX fY :=
  ⟨a, de, dc, ro, es, st, fa, co, m, K, A, B, C, F, σ, hI, hP, hx, hy⟩
theorem kc_LA_LK {fX : (SX → Prop) → Prop} {fY : (SY → Prop) → Prop} {gX : (Int32 → SX → Prop) → Prop} {gY : (Int32 → SY → Prop) → Prop} (a : Int32) (h : kc_LK N R Q cc cr sm su fX fY) (hx : ∀ (de dc ro es st fa co : Nat → Int32), (∀ post : SX → Prop, post (nI N, nI R, nI Q, cc, cr, de, dc, ro, es, st, sm, fa, co) → fX post) → ∀ post : Int32 → SX → Prop, post a (nI N, nI R, nI Q, cc, cr, de, dc, ro, es, st, sm, fa, co) → gX post) (hy : ∀ (de dc ro es st : Nat → Int32) (m : Nat) (K A B C F : Nat → Int32), (∀ post : SY → Prop, post (nI N, nI R, nI Q, nI m, K, A, B, C, F, cr, ro, es, st, de, dc, su) → fY post) → ∀ post : Int32 → SY → Prop, post a (nI N, nI R, nI Q, nI m, K, A, B, C, F, cr, ro, es, st, de, dc, su) → gY post) : kc_LA N R Q cc cr sm su gX gY := by
  obtain ⟨de, dc, ro, es, st, fa, co, m, K, A, B, C, F, σ, h1, h2, h3, h4⟩ := h
  exact ⟨a, de, dc, ro, es, st, fa, co, m, K, A, B, C, F, σ, h1, h2, hx _ _ _ _ _ _ _ h3, hy _ _ _ _ _ _ _ _ _ _ _ h4⟩
theorem kc_fin {k : Nat} {fX : (Int32 → SX → Prop) → Prop} {fY : (Int32 → SY → Prop) → Prop} (h : kc_LA N R Q cc cr sm su fX fY) (hB : kc_B N R Q) (hM : kc_M N sm su) (hC : cc = nI (kc_n (fun x => !decide (cr x = 0)) N)) : fX (fun r u' => fY (fun r' v' => r' = r ∧ i_Rel k u' v')) := by
  obtain ⟨a, de, dc, ro, es, st, fa, co, m, K, A, B, C, F, σ, h1, h2, h3, h4⟩ := h
  exact h3 _ (h4 _ ⟨rfl, kc_ri hB hM h1 h2 hC⟩)
end
/-! the constructors -/
theorem kc_clamp (x : Int32) (lo hi : Nat) (hl : lo ≤ hi) (hh : hi < 2 ^ 31) : ∃ n, lo ≤ n ∧ n ≤ hi ∧ (∀ (post : Int32 → Prop) (u : SX), post (nI n) → wpX_clamp post u x (nI lo) (nI hi)) ∧ (∀ f : Int32 → Prop, f (nI n) → ((nI lo ≤ x → ((x ≤ nI hi → f x) ∧ (¬ x ≤ nI hi → f (nI hi)))) ∧ (¬ nI lo ≤ x → f (nI lo)))) := by
  by_cases h1 : nI lo ≤ x
  · by_cases h2 : x ≤ nI hi
    · have h0 : ¬ x < 0 := fun z => absurd (Int32.lt_of_le_of_lt h1 z) (nI_pos (by omega))
      obtain ⟨n, hn, rfl⟩ := nI_of h0
      refine ⟨n, (nI_leI (by omega) hn).mp h1, (nI_leI hn hh).mp h2, fun post u hp => ?_, fun f hf => br_t h1 (br_t h2 hf)⟩
      obtain ⟨a1, a2, a3, a4, a5, a6, a7, a8, a9, a10, a11, a12, a13⟩ := u
      exact br_t h1 (br_t h2 hp)
    · refine ⟨hi, hl, Nat.le_refl _, fun post u hp => ?_, fun f hf => br_t h1 (br_f h2 hf)⟩
      obtain ⟨a1, a2, a3, a4, a5, a6, a7, a8, a9, a10, a11, a12, a13⟩ := u
      exact br_t h1 (br_f h2 hp)
  · refine ⟨lo, Nat.le_refl _, hl, fun post u hp => ?_, fun f hf => br_f h1 hf⟩
    obtain ⟨a1, a2, a3, a4, a5, a6, a7, a8, a9, a10, a11, a12, a13⟩ := u
    exact br_f h1 hp
theorem kc_n_none {P : Nat → Bool} : ∀ n, (∀ i, i < n → P i = false) → kc_n P n = 0 := by
  intro n
  induction n with
  | zero => intro _; rfl
  | succ n ih =>
    intro h
    rw [kc_n_f (h n (by omega))]
    exact ih (fun i hi => h i (by omega))
theorem kc_z_bit : ∀ q, q < 5 → ((0 : Int32) >>> (nI q &&& 31)) &&& 1 = 0 := by decide +kernel
theorem kc_M0 {N : Nat} (hN : N ≤ 5) : kc_M N (fun _ => 0) (fun _ => 0) := fun p hp => ⟨⟨0, by omega, rfl⟩, fun q hq => ⟨fun _ => rfl, fun _ => kc_z_bit q (by omega)⟩, fun q _ hq => kc_z_bit q hq⟩
theorem kc_0I : (0 : Int32).toInt = 0 := by decide
theorem kc_I0 {N R Q : Nat} : kc_I N R Q (fun _ => 0) (fun _ => 0) (fun _ => 0) (fun _ => 0) (fun _ => 0) (fun _ => 0) := by
  refine ⟨fun p hp => ?_, fun r x a b f => absurd rfl f, fun r x a b f => absurd rfl f, fun r x a b f => absurd rfl f, fun r x a b f => absurd rfl f, fun p hp => ?_, fun s hs => ?_, fun s hs => ?_, fun r x a b f => absurd rfl f⟩
  · dsimp only; rw [kc_0I]; omega
  · dsimp only; rw [kc_0I]; omega
  · dsimp only; rw [kc_0I]; omega
  · dsimp only; rw [kc_0I]; omega
theorem kc_PQ0 {N R : Nat} : kc_PQ N R (fun _ => 0) (fun _ => 0) 0 (fun _ => 0) (fun _ => 0) (fun _ => 0) (fun _ => 0) (fun _ => 0) (fun _ => 0) :=
  ⟨fun i hi => absurd hi (Nat.not_lt_zero i), fun i j hi => absurd hi (Nat.not_lt_zero i), fun s _ f => absurd rfl f⟩
theorem i_vc0 (k0 : Int32) (k1 : Int32) : wpX_init (fun u => wpY_init (fun v => i_Rel 2 u v) k0 k1) k0 k1 := by
  obtain ⟨N, n1, n2, hxN, hyN⟩ := kc_clamp k0 3 5 (by omega) (by omega)
  obtain ⟨R, r1, r2, hxR, hyR⟩ := kc_clamp k1 1 8 (by omega) (by omega)
  have eq2 : nI N / 2 + 1 = nI (N / 2 + 1) := by
    rw [show nI N / 2 = nI (N / 2) from pk_div (d := 2) (by omega) (by omega) (by omega), nI_1]
  unfold wpX_init
  refine hxN _ _ (hxR _ _ ⟨by decide, nm_r eq2 ?_⟩)
  unfold wpY_init
  refine hyN (fun z => wY_init_124 _ k1 z 0 0 0 0 (fun _ => 0) (fun _ => 0) (fun _ => 0) (fun _ => 0) (fun _ => 0) (fun _ => 0) (fun _ => 0) (fun _ => 0) (fun _ => 0) (fun _ => 0) (fun _ => 0) (fun _ => 0)) ?_
  unfold wY_init_124
  refine hyR (fun z => wY_init_149 _ z (nI N) 0 0 0 (fun _ => 0) (fun _ => 0) (fun _ => 0) (fun _ => 0) (fun _ => 0) (fun _ => 0) (fun _ => 0) (fun _ => 0) (fun _ => 0) (fun _ => 0) (fun _ => 0) (fun _ => 0)) ?_
  unfold wY_init_149
  refine ⟨by decide, nm_r eq2 ?_⟩
  exact kc_ri (m := 0) (cc := 0) ⟨n1, n2, r1, r2, rfl⟩ (kc_M0 n2) kc_I0 kc_PQ0 (by rw [kc_n_none N (fun i _ => by (try dsimp only); decide)]; rfl)
end
section
section
variable {N R Q m : Nat} {cc : Int32} {cr de dc ro es st sm fa co K A B C F su : Nat → Int32} {σ : Nat → Nat}
theorem kc_v999 {v : Int32} (h0 : ¬ v < 0) (h9 : v ≤ 999) : 0 ≤ v.toInt ∧ v.toInt ≤ 999 := by
  rw [Int32.lt_iff_toInt_lt, show (0 : Int32).toInt = 0 from by decide] at h0
  rw [Int32.le_iff_toInt_le, show (999 : Int32).toInt = 999 from by decide] at h9
  omega
theorem kc_propose (hB : kc_B N R Q) (hM : kc_M N sm su) (hI : kc_I N R Q de ro es st fa co) (hP : kc_PQ N R fa co m K A B C F σ) (v1 v2 : Int32) : kc_LA N R Q cc cr sm su (fun post => wpX_propose post (nI N, nI R, nI Q, cc, cr, de, dc, ro, es, st, sm, fa, co) v1 v2) (fun post => wpY_propose post (nI N, nI R, nI Q, nI m, K, A, B, C, F, cr, ro, es, st, de, dc, su) v1 v2) := by
  have hB' := hB
  obtain ⟨b1, b2, b3, b4, b5⟩ := hB'
  rcases kc_P hB v1 with hx | ⟨p, hp, rfl⟩
  · refine kc_LA_same (dc := dc) hI hP (-1) (fun post g => ?_) (fun post g => ?_)
    · unfold wpX_propose; exact kc_xP0 hx (br_t rfl g)
    · unfold wpY_propose; exact kc_yP0 hx (br_t rfl g)
  have h5 : vp_in (nI p) 5 := vp_in_nI (by omega) (by omega)
  by_cases c1 : v2 < 0
  · refine kc_LA_same (dc := dc) hI hP (-1) (fun post g => ?_) (fun post g => ?_)
    · unfold wpX_propose; exact kc_xP1 hB hp (br_f (by decide) (br_t c1 g))
    · unfold wpY_propose; exact kc_yP1 hB hp (br_f (by decide) (br_t c1 g))
  by_cases c2 : v2 ≤ 999
  case neg =>
    refine kc_LA_same (dc := dc) hI hP (-1) (fun post g => ?_) (fun post g => ?_)
    · unfold wpX_propose; exact kc_xP1 hB hp (br_f (by decide) (br_f c1 (br_f c2 g)))
    · unfold wpY_propose; exact kc_yP1 hB hp (br_f (by decide) (br_f c1 (br_f c2 g)))
  by_cases c3 : cr p = 0
  case neg =>
    refine kc_LA_same (dc := dc) hI hP (-2) (fun post g => ?_) (fun post g => ?_)
    · unfold wpX_propose; dsimp only; rw [nI_clamp (n := p) (by omega)]; exact kc_xP1 hB hp (br_f (by decide) (br_f c1 (br_t c2 ⟨h5, br_f c3 g⟩)))
    · unfold wpY_propose; dsimp only; rw [nI_clamp (n := p) (by omega)]; exact kc_yP1 hB hp (br_f (by decide) (br_f c1 (br_t c2 ⟨h5, br_f c3 g⟩)))
  by_cases c4 : de p = 0
  case neg =>
    refine kc_LA_same (dc := dc) hI hP (-3) (fun post g => ?_) (fun post g => ?_)
    · unfold wpX_propose; dsimp only; rw [nI_clamp (n := p) (by omega)]; exact kc_xP1 hB hp (br_f (by decide) (br_f c1 (br_t c2 ⟨h5, br_t c3 ⟨h5, br_f c4 g⟩⟩)))
    · unfold wpY_propose; dsimp only; rw [nI_clamp (n := p) (by omega)]; exact kc_yP1 hB hp (br_f (by decide) (br_f c1 (br_t c2 ⟨h5, br_t c3 ⟨h5, br_f c4 g⟩⟩)))
  by_cases c5 : ro p = 0
  case neg =>
    refine kc_LA_same (dc := dc) hI hP (-3) (fun post g => ?_) (fun post g => ?_)
    · unfold wpX_propose; dsimp only; rw [nI_clamp (n := p) (by omega)]; exact kc_xP1 hB hp (br_f (by decide) (br_f c1 (br_t c2 ⟨h5, br_t c3 ⟨h5, br_t c4 ⟨h5, br_f c5 g⟩⟩⟩)))
    · unfold wpY_propose; dsimp only; rw [nI_clamp (n := p) (by omega)]; exact kc_yP1 hB hp (br_f (by decide) (br_f c1 (br_t c2 ⟨h5, br_t c3 ⟨h5, br_t c4 ⟨h5, br_f c5 g⟩⟩⟩)))
  obtain ⟨I1, u1⟩ := kc_I_start b2 b4 (kc_I_es (p := p) (x := v2) (y := 0) hI (kc_v999 c1 c2) (by rw [show (0 : Int32).toInt = 0 from by decide]; omega)) hp c5
  refine kc_LA_LK 0 (kc_enter (dc := dc) (r := 1) hB hM hp (by omega) (by omega) I1 u1 hP) (fun de' dc' ro' es' st' fa' co' hX post g => ?_) (fun de' dc' ro' es' st' m' K' A' B' C' F' hY post g => ?_)
  · unfold wpX_propose; dsimp only; rw [nI_clamp (n := p) (by omega)]; exact kc_xP1 hB hp (br_f (by decide) (br_f c1 (br_t c2 ⟨h5, br_t c3 ⟨h5, br_t c4 ⟨h5, br_t c5 ⟨h5, nm_e ⟨h5, nm_e (hX _ g)⟩⟩⟩⟩⟩)))
  · unfold wpY_propose; dsimp only; rw [nI_clamp (n := p) (by omega)]; exact kc_yP1 hB hp (br_f (by decide) (br_f c1 (br_t c2 ⟨h5, br_t c3 ⟨h5, br_t c4 ⟨h5, br_t c5 ⟨h5, nm_e ⟨h5, nm_e (hY _ g)⟩⟩⟩⟩⟩)))
theorem kc_deliver (hB : kc_B N R Q) (hM : kc_M N sm su) (hI : kc_I N R Q de ro es st fa co) (hP : kc_PQ N R fa co m K A B C F σ) (v1 v2 v3 : Int32) : kc_LA N R Q cc cr sm su (fun post => wpX_deliver post (nI N, nI R, nI Q, cc, cr, de, dc, ro, es, st, sm, fa, co) v1 v2 v3) (fun post => wpY_deliver post (nI N, nI R, nI Q, nI m, K, A, B, C, F, cr, ro, es, st, de, dc, su) v1 v2 v3) := by
  have hB' := hB
  obtain ⟨b1, b2, b3, b4, b5⟩ := hB'
  have hm := kc_PQ_le b2 b4 hP
  by_cases hn : ∃ k a b, kc_nm N R k a b ∧ v1 = nI k ∧ v2 = nI a ∧ v3 = nI b
  case neg =>
    refine kc_LA_same (dc := dc) hI hP (-1) (fun post g => ?_) (fun post g => ?_)
    · unfold wpX_deliver; exact kc_xN0 hB hn (br_t rfl g)
    · unfold wpY_deliver; exact kc_yN0 hB hn (br_t rfl g)
  obtain ⟨k, a, b, hn, rfl, rfl, rfl⟩ := hn
  obtain ⟨hv, hs, -, -, -⟩ := kc_nm_vs b2 b4 hn (s := k * 45 + a * 5 + b) rfl
  have hin : vp_in (nI (k * 45 + a * 5 + b)) 180 := vp_in_nI hs (by omega)
  have hq := kc_ad_lt b1 hv
  have h5 : vp_in (nI (kc_ad N (k * 45 + a * 5 + b))) 5 := vp_in_nI (by omega) (by omega)
  by_cases c1 : fa (k * 45 + a * 5 + b) = 1
  case neg =>
    refine kc_LA_same (dc := dc) hI hP (-4) (fun post g => ?_) (fun post g => ?_)
    · unfold wpX_deliver wpX_slot; dsimp only; rw [kc_sl, nI_clamp (n := k * 45 + a * 5 + b) (by omega)]
      exact kc_xN1 hB hn (br_f (by decide) ⟨hin, br_f c1 g⟩)
    · unfold wpY_deliver
      refine kc_yN1 hB hn (br_f (by decide) ?_)
      by_cases z : fa (k * 45 + a * 5 + b) = 0
      · exact kc_yfind0 hB hP hn rfl z (br_t (by decide) g)
      · obtain ⟨i, hi, e⟩ := hP.2.2 _ hs z
        refine kc_yfind1 hB hP hn hi e (br_f (nI_pos (by omega)) ⟨vp_in_nI (by omega) (by omega), br_f ?_ g⟩)
        rw [nI_clamp (by omega), (hP.1 i hi).2.2.2.2.2.1, e]
        exact c1
  obtain ⟨i, hi, e⟩ := hP.2.2 _ hs (by rw [c1]; decide)
  have hii : vp_in (nI i) 140 := vp_in_nI (by omega) (by omega)
  have hFi : F i = 1 := by rw [(hP.1 i hi).2.2.2.2.2.1, e]; exact c1
  by_cases c2 : cr (kc_ad N (k * 45 + a * 5 + b)) = 0
  case neg =>
    refine kc_LA_same (dc := dc) hI hP (-2) (fun post g => ?_) (fun post g => ?_)
    · unfold wpX_deliver wpX_slot; dsimp only; rw [kc_sl, nI_clamp (n := k * 45 + a * 5 + b) (by omega)]
      refine kc_xN1 hB hn (br_f (by decide) ⟨hin, br_t c1 (kc_xaddr hB hv ?_)⟩)
      (try dsimp only)
      rw [nI_clamp (n := kc_ad N (k * 45 + a * 5 + b)) (by omega)]
      exact ⟨h5, br_f c2 g⟩
    · unfold wpY_deliver
      refine kc_yN1 hB hn (br_f (by decide) (kc_yfind1 hB hP hn hi e (br_f (nI_pos (by omega)) ⟨hii, br_t (by rw [nI_clamp (by omega)]; exact hFi) (kc_yaddr hB hP hi ?_)⟩)))
      rw [e]
      (try dsimp only)
      rw [nI_clamp (n := kc_ad N (k * 45 + a * 5 + b)) (by omega)]
      exact ⟨h5, br_f c2 g⟩
  have L := kc_hand (cc := cc) (cr := cr) (dc := dc) hB hM hI hP hi (by rw [e]; exact c1)
  refine kc_LA_LK 0 L (fun de' dc' ro' es' st' fa' co' hX post g => ?_) (fun de' dc' ro' es' st' m' K' A' B' C' F' hY post g => ?_)
  · rw [e] at hX
    unfold wpX_deliver wpX_slot; dsimp only; rw [kc_sl, nI_clamp (n := k * 45 + a * 5 + b) (by omega)]
    refine kc_xN1 hB hn (br_f (by decide) ⟨hin, br_t c1 (kc_xaddr hB hv ?_)⟩)
    (try dsimp only)
    rw [nI_clamp (n := kc_ad N (k * 45 + a * 5 + b)) (by omega)]
    exact ⟨h5, br_t c2 (hX _ g)⟩
  · unfold wpY_deliver
    refine kc_yN1 hB hn (br_f (by decide) (kc_yfind1 hB hP hn hi e (br_f (nI_pos (by omega)) ⟨hii, br_t (by rw [nI_clamp (by omega)]; exact hFi) (kc_yaddr hB hP hi ?_)⟩)))
    rw [e]
    (try dsimp only)
    rw [nI_clamp (n := kc_ad N (k * 45 + a * 5 + b)) (by omega)]
    exact ⟨h5, br_t c2 (hY _ g)⟩
theorem kc_drop (hB : kc_B N R Q) (hI : kc_I N R Q de ro es st fa co) (hP : kc_PQ N R fa co m K A B C F σ) (v1 v2 v3 : Int32) : kc_LA N R Q cc cr sm su (fun post => wpX_drop post (nI N, nI R, nI Q, cc, cr, de, dc, ro, es, st, sm, fa, co) v1 v2 v3) (fun post => wpY_drop post (nI N, nI R, nI Q, nI m, K, A, B, C, F, cr, ro, es, st, de, dc, su) v1 v2 v3) := by
  have hB' := hB
  obtain ⟨b1, b2, b3, b4, b5⟩ := hB'
  have hm := kc_PQ_le b2 b4 hP
  by_cases hn : ∃ k a b, kc_nm N R k a b ∧ v1 = nI k ∧ v2 = nI a ∧ v3 = nI b
  case neg =>
    refine kc_LA_same (dc := dc) hI hP (-1) (fun post g => ?_) (fun post g => ?_)
    · unfold wpX_drop; exact kc_xN0 hB hn (br_t rfl g)
    · unfold wpY_drop; exact kc_yN0 hB hn (br_t rfl g)
  obtain ⟨k, a, b, hn, rfl, rfl, rfl⟩ := hn
  obtain ⟨hv, hs, -, -, -⟩ := kc_nm_vs b2 b4 hn (s := k * 45 + a * 5 + b) rfl
  have hin : vp_in (nI (k * 45 + a * 5 + b)) 180 := vp_in_nI hs (by omega)
  have hq := kc_ad_lt b1 hv
  have h5 : vp_in (nI (kc_ad N (k * 45 + a * 5 + b))) 5 := vp_in_nI (by omega) (by omega)
  by_cases c1 : fa (k * 45 + a * 5 + b) = 1
  case neg =>
    refine kc_LA_same (dc := dc) hI hP (-4) (fun post g => ?_) (fun post g => ?_)
    · unfold wpX_drop wpX_slot; dsimp only; rw [kc_sl, nI_clamp (n := k * 45 + a * 5 + b) (by omega)]
      exact kc_xN1 hB hn (br_f (by decide) ⟨hin, br_f c1 g⟩)
    · unfold wpY_drop
      refine kc_yN1 hB hn (br_f (by decide) ?_)
      by_cases z : fa (k * 45 + a * 5 + b) = 0
      · exact kc_yfind0 hB hP hn rfl z (br_t (by decide) g)
      · obtain ⟨i, hi, e⟩ := hP.2.2 _ hs z
        refine kc_yfind1 hB hP hn hi e (br_f (nI_pos (by omega)) ⟨vp_in_nI (by omega) (by omega), br_f ?_ g⟩)
        rw [nI_clamp (by omega), (hP.1 i hi).2.2.2.2.2.1, e]
        exact c1
  obtain ⟨i, hi, e⟩ := hP.2.2 _ hs (by rw [c1]; decide)
  have hii : vp_in (nI i) 140 := vp_in_nI (by omega) (by omega)
  have hFi : F i = 1 := by rw [(hP.1 i hi).2.2.2.2.2.1, e]; exact c1
  by_cases c2 : cr (kc_ad N (k * 45 + a * 5 + b)) = 0
  · refine kc_LA_same (dc := dc) hI hP (-6) (fun post g => ?_) (fun post g => ?_)
    · unfold wpX_drop wpX_slot; dsimp only; rw [kc_sl, nI_clamp (n := k * 45 + a * 5 + b) (by omega)]
      refine kc_xN1 hB hn (br_f (by decide) ⟨hin, br_t c1 (kc_xaddr hB hv ?_)⟩)
      (try dsimp only)
      rw [nI_clamp (n := kc_ad N (k * 45 + a * 5 + b)) (by omega)]
      exact ⟨h5, br_t c2 g⟩
    · unfold wpY_drop
      refine kc_yN1 hB hn (br_f (by decide) (kc_yfind1 hB hP hn hi e (br_f (nI_pos (by omega)) ⟨hii, br_t (by rw [nI_clamp (by omega)]; exact hFi) (kc_yaddr hB hP hi ?_)⟩)))
      rw [e]
      (try dsimp only)
      rw [nI_clamp (n := kc_ad N (k * 45 + a * 5 + b)) (by omega)]
      exact ⟨h5, br_t c2 g⟩
  have P1 := kc_PQ_mark (f := 3) hP hi (by decide)
  rw [e] at P1
  refine kc_LA_same (dc := dc) (kc_I_mark (f := 3) b2 b4 hI c1 (by decide)) P1 0 (fun post g => ?_) (fun post g => ?_)
  · unfold wpX_drop wpX_slot; dsimp only; rw [kc_sl, nI_clamp (n := k * 45 + a * 5 + b) (by omega)]
    refine kc_xN1 hB hn (br_f (by decide) ⟨hin, br_t c1 (kc_xaddr hB hv ?_)⟩)
    (try dsimp only)
    rw [nI_clamp (n := kc_ad N (k * 45 + a * 5 + b)) (by omega)]
    exact ⟨h5, br_f c2 ⟨hin, nm_e g⟩⟩
  · unfold wpY_drop
    refine kc_yN1 hB hn (br_f (by decide) (kc_yfind1 hB hP hn hi e (br_f (nI_pos (by omega)) ⟨hii, br_t (by rw [nI_clamp (by omega)]; exact hFi) (kc_yaddr hB hP hi ?_)⟩)))
    rw [e]
    (try dsimp only)
    rw [nI_clamp (n := kc_ad N (k * 45 + a * 5 + b)) (by omega), nI_clamp (n := i) (by omega)]
    exact ⟨h5, br_f c2 ⟨hii, nm_e g⟩⟩
theorem kc_pump (hB : kc_B N R Q) (hM : kc_M N sm su) (hI : kc_I N R Q de ro es st fa co) (hP : kc_PQ N R fa co m K A B C F σ) (p o c : Int32) : kc_LA N R Q cc cr sm su (fun post => wpX_pump post (nI N, nI R, nI Q, cc, cr, de, dc, ro, es, st, sm, fa, co) p o c) (fun post => wpY_pump post (nI N, nI R, nI Q, nI m, K, A, B, C, F, cr, ro, es, st, de, dc, su) p o c) := by
  have hB' := hB
  obtain ⟨b1, b2, b3, b4, b5⟩ := hB'
  have h5no : (5 : Int32) < 0 ∨ nI N ≤ 5 := Or.inr (nI_le (b := 5) b2 (by omega))
  -- behind the tests of the arguments
  have tail : kc_LA N R Q cc cr sm su (fun post => wX_pump_46 post p o c (nI N) (nI R) (nI Q) cc cr de dc ro es st sm fa co) (fun post => wY_pump_43 post p o c (nI N) (nI R) (nI Q) (nI m) K A B C F cr ro es st de dc su) := by
    obtain ⟨lim, l1, l2, hx, hy⟩ := kc_clamp c 0 32 (by omega) (by omega)
    obtain ⟨a, de2, dc2, ro2, es2, st2, fa2, co2, m2, K2, A2, B2, C2, F2, σ2, hI2, hP2, hX2, hY2⟩ := kc_pump_lp (cc := cc) (cr := cr) (p := p) (o := o) hB hM l2 lim 0 (by omega) de dc ro es st fa co m K A B C F σ hI hP
    refine ⟨a, de2, dc2, ro2, es2, st2, fa2, co2, m2, K2, A2, B2, C2, F2, σ2, hI2, hP2, fun post g => ?_, fun post g => ?_⟩
    · (try dsimp only)
      unfold wX_pump_46
      exact hx _ _ ⟨_, hX2 post g⟩
    · (try dsimp only)
      unfold wY_pump_43
      exact hy (fun z => ∃ n68 : Nat, wY_pump_68 post p o z n68 0 (nI N) (nI R) (nI Q) (nI m) K A B C F cr ro es st de dc su) ⟨_, hY2 post g⟩
  by_cases ho : o = 0 ∨ o = 1
  · have hx15 : ∀ post : Int32 → SX → Prop, wX_pump_26 post p o c (nI N) (nI R) (nI Q) cc cr de dc ro es st sm fa co → wX_pump_15 post p o c (nI N) (nI R) (nI Q) cc cr de dc ro es st sm fa co := fun post g => by
      unfold wX_pump_15
      exact br_c (fun _ => g) (fun z => br_t (ho.resolve_left z) g)
    have hy15 : ∀ post : Int32 → SY → Prop, wY_pump_26 post p o c (nI N) (nI R) (nI Q) (nI m) K A B C F cr ro es st de dc su → wY_pump_15 post p o c (nI N) (nI R) (nI Q) (nI m) K A B C F cr ro es st de dc su := fun post g => by
      unfold wY_pump_15
      exact br_c (fun _ => g) (fun z => br_t (ho.resolve_left z) g)
    obtain ⟨a, de2, dc2, ro2, es2, st2, fa2, co2, m2, K2, A2, B2, C2, F2, σ2, hI2, hP2, hX2, hY2⟩ := tail
    (try dsimp only at hX2 hY2)
    rcases kc_P hB p with hx | ⟨j, hj, rfl⟩
    · by_cases e5 : p = 5
      · subst e5
        refine ⟨a, de2, dc2, ro2, es2, st2, fa2, co2, m2, K2, A2, B2, C2, F2, σ2, hI2, hP2, fun post g => ?_, fun post g => ?_⟩
        · (try dsimp only)
          unfold wpX_pump
          refine kc_xP0 h5no (br_t rfl (br_t rfl (hx15 post ?_)))
          unfold wX_pump_26
          exact kc_xP0 h5no (br_t rfl (hX2 post g))
        · (try dsimp only)
          unfold wpY_pump
          refine kc_yP0 h5no (br_t rfl (br_t rfl (hy15 post ?_)))
          unfold wY_pump_26
          exact br_t rfl (hY2 post g)
      · refine kc_LA_same (dc := dc) hI hP (-1) (fun post g => ?_) (fun post g => ?_)
        · unfold wpX_pump; exact kc_xP0 hx (br_t rfl (br_f e5 g))
        · unfold wpY_pump; exact kc_yP0 hx (br_t rfl (br_f e5 g))
    · have h5 : vp_in (nI j) 5 := vp_in_nI (by omega) (by omega)
      have e5 : ¬ nI j = 5 := kc_nI_ne (b := 5) (by omega) (by omega) (by omega)
      by_cases c1 : cr j = 0
      · refine ⟨a, de2, dc2, ro2, es2, st2, fa2, co2, m2, K2, A2, B2, C2, F2, σ2, hI2, hP2, fun post g => ?_, fun post g => ?_⟩
        · (try dsimp only)
          unfold wpX_pump
          refine kc_xP1 hB hj (br_f (by decide) (hx15 post ?_))
          unfold wX_pump_26
          rw [nI_clamp (n := j) (by omega)]
          exact kc_xP1 hB hj (br_f (by decide) ⟨h5, br_t c1 (hX2 post g)⟩)
        · (try dsimp only)
          unfold wpY_pump
          refine kc_yP1 hB hj (br_f (by decide) (hy15 post ?_))
          unfold wY_pump_26
          rw [nI_clamp (n := j) (by omega)]
          exact br_f e5 ⟨h5, br_t c1 (hY2 post g)⟩
      · refine kc_LA_same (dc := dc) hI hP (-2) (fun post g => ?_) (fun post g => ?_)
        · unfold wpX_pump
          refine kc_xP1 hB hj (br_f (by decide) (hx15 post ?_))
          unfold wX_pump_26
          rw [nI_clamp (n := j) (by omega)]
          exact kc_xP1 hB hj (br_f (by decide) ⟨h5, br_f c1 g⟩)
        · unfold wpY_pump
          refine kc_yP1 hB hj (br_f (by decide) (hy15 post ?_))
          unfold wY_pump_26
          rw [nI_clamp (n := j) (by omega)]
          exact br_f e5 ⟨h5, br_f c1 g⟩
  · have hx15 : ∀ post : Int32 → SX → Prop, post (-1) (nI N, nI R, nI Q, cc, cr, de, dc, ro, es, st, sm, fa, co) → wX_pump_15 post p o c (nI N) (nI R) (nI Q) cc cr de dc ro es st sm fa co := fun post g => by
      unfold wX_pump_15
      exact br_f (fun z => ho (Or.inl z)) (br_f (fun z => ho (Or.inr z)) g)
    have hy15 : ∀ post : Int32 → SY → Prop, post (-1) (nI N, nI R, nI Q, nI m, K, A, B, C, F, cr, ro, es, st, de, dc, su) → wY_pump_15 post p o c (nI N) (nI R) (nI Q) (nI m) K A B C F cr ro es st de dc su := fun post g => by
      unfold wY_pump_15
      exact br_f (fun z => ho (Or.inl z)) (br_f (fun z => ho (Or.inr z)) g)
    refine kc_LA_same (dc := dc) hI hP (-1) (fun post g => ?_) (fun post g => ?_)
    · unfold wpX_pump
      rcases kc_P hB p with hx | ⟨j, hj, rfl⟩
      · exact kc_xP0 hx (br_t rfl (br_c (fun _ => hx15 post g) (fun _ => g)))
      · exact kc_xP1 hB hj (br_f (by decide) (hx15 post g))
    · unfold wpY_pump
      rcases kc_P hB p with hx | ⟨j, hj, rfl⟩
      · exact kc_yP0 hx (br_t rfl (br_c (fun _ => hy15 post g) (fun _ => g)))
      · exact kc_yP1 hB hj (br_f (by decide) (hy15 post g))
end
theorem i_vc_propose {k : Nat} {u : SX} {v : SY} (I : i_Rel k u v) (hk : k + 4 ≤ 2050) (v1 : Int32) (v2 : Int32) : wpX_propose (fun r u' => wpY_propose (fun r' v' => r' = r ∧ i_Rel (k + 4) u' v') v v1 v2) u v1 v2 := by
  refine kc_re (Z := fun u v => wpX_propose (fun r u' => wpY_propose (fun r' v' => r' = r ∧ i_Rel (k + 4) u' v') v v1 v2) u v1 v2) ?_ I
  intro N R Q m cc cr de dc ro es st sm fa co K A B C F su σ hB hM hI hP hC
  exact kc_fin (fX := fun post => wpX_propose post (nI N, nI R, nI Q, cc, cr, de, dc, ro, es, st, sm, fa, co) v1 v2) (fY := fun post => wpY_propose post (nI N, nI R, nI Q, nI m, K, A, B, C, F, cr, ro, es, st, de, dc, su) v1 v2) (kc_propose hB hM hI hP v1 v2) hB hM hC
theorem i_vc_deliver {k : Nat} {u : SX} {v : SY} (I : i_Rel k u v) (hk : k + 4 ≤ 2050) (v1 : Int32) (v2 : Int32) (v3 : Int32) : wpX_deliver (fun r u' => wpY_deliver (fun r' v' => r' = r ∧ i_Rel (k + 4) u' v') v v1 v2 v3) u v1 v2 v3 := by
  refine kc_re (Z := fun u v => wpX_deliver (fun r u' => wpY_deliver (fun r' v' => r' = r ∧ i_Rel (k + 4) u' v') v v1 v2 v3) u v1 v2 v3) ?_ I
  intro N R Q m cc cr de dc ro es st sm fa co K A B C F su σ hB hM hI hP hC
  exact kc_fin (fX := fun post => wpX_deliver post (nI N, nI R, nI Q, cc, cr, de, dc, ro, es, st, sm, fa, co) v1 v2 v3) (fY := fun post => wpY_deliver post (nI N, nI R, nI Q, nI m, K, A, B, C, F, cr, ro, es, st, de, dc, su) v1 v2 v3) (kc_deliver hB hM hI hP v1 v2 v3) hB hM hC
theorem i_vc_pump {k : Nat} {u : SX} {v : SY} (I : i_Rel k u v) (hk : k + 4 ≤ 2050) (v1 : Int32) (v2 : Int32) (v3 : Int32) : wpX_pump (fun r u' => wpY_pump (fun r' v' => r' = r ∧ i_Rel (k + 4) u' v') v v1 v2 v3) u v1 v2 v3 := by
  refine kc_re (Z := fun u v => wpX_pump (fun r u' => wpY_pump (fun r' v' => r' = r ∧ i_Rel (k + 4) u' v') v v1 v2 v3) u v1 v2 v3) ?_ I
  intro N R Q m cc cr de dc ro es st sm fa co K A B C F su σ hB hM hI hP hC
  exact kc_fin (fX := fun post => wpX_pump post (nI N, nI R, nI Q, cc, cr, de, dc, ro, es, st, sm, fa, co) v1 v2 v3) (fY := fun post => wpY_pump post (nI N, nI R, nI Q, nI m, K, A, B, C, F, cr, ro, es, st, de, dc, su) v1 v2 v3) (kc_pump hB hM hI hP v1 v2 v3) hB hM hC
theorem i_vc_drop {k : Nat} {u : SX} {v : SY} (I : i_Rel k u v) (hk : k + 4 ≤ 2050) (v1 : Int32) (v2 : Int32) (v3 : Int32) : wpX_drop (fun r u' => wpY_drop (fun r' v' => r' = r ∧ i_Rel (k + 4) u' v') v v1 v2 v3) u v1 v2 v3 := by
  refine kc_re (Z := fun u v => wpX_drop (fun r u' => wpY_drop (fun r' v' => r' = r ∧ i_Rel (k + 4) u' v') v v1 v2 v3) u v1 v2 v3) ?_ I
  intro N R Q m cc cr de dc ro es st sm fa co K A B C F su σ hB hM hI hP hC
  exact kc_fin (fX := fun post => wpX_drop post (nI N, nI R, nI Q, cc, cr, de, dc, ro, es, st, sm, fa, co) v1 v2 v3) (fY := fun post => wpY_drop post (nI N, nI R, nI Q, nI m, K, A, B, C, F, cr, ro, es, st, de, dc, su) v1 v2 v3) (kc_drop hB hI hP v1 v2 v3) hB hM hC
end
section
theorem kc_nar0 : vp_nar .boolean 0 = 0 := rfl
theorem i_vc_crash {k : Nat} {u : SX} {v : SY} (I : i_Rel k u v) (hk : k + 4 ≤ 2050) (v1 : Int32) (v2 : Int32) : wpX_crash (fun r u' => wpY_crash (fun r' v' => r' = r ∧ i_Rel (k + 4) u' v') v v1 v2) u v1 v2 := by
  refine kc_re (Z := fun u v => wpX_crash (fun r u' => wpY_crash (fun r' v' => r' = r ∧ i_Rel (k + 4) u' v') v v1 v2) u v1 v2) ?_ I
  intro N R Q m cc cr de dc ro es st sm fa co K A B C F su σ hB hM hI hP hC
  have hB' := hB
  obtain ⟨b1, b2, b3, b4, b5⟩ := hB'
  rcases kc_P hB v1 with hx | ⟨p, hp, rfl⟩
  · refine kc_fin (fX := fun post => wpX_crash post (nI N, nI R, nI Q, cc, cr, de, dc, ro, es, st, sm, fa, co) v1 v2) (fY := fun post => wpY_crash post (nI N, nI R, nI Q, nI m, K, A, B, C, F, cr, ro, es, st, de, dc, su) v1 v2) (kc_LA_same (dc := dc) hI hP (-1) (fun post g => ?_) (fun post g => ?_)) hB hM hC
    · unfold wpX_crash; exact kc_xP0 hx (br_t rfl g)
    · unfold wpY_crash; exact kc_yP0 hx (br_t rfl g)
  have h5 : vp_in (nI p) 5 := vp_in_nI (by omega) (by omega)
  by_cases c1 : cr p = 0
  case neg =>
    refine kc_fin (fX := fun post => wpX_crash post (nI N, nI R, nI Q, cc, cr, de, dc, ro, es, st, sm, fa, co) (nI p) v2) (fY := fun post => wpY_crash post (nI N, nI R, nI Q, nI m, K, A, B, C, F, cr, ro, es, st, de, dc, su) (nI p) v2) (kc_LA_same (dc := dc) hI hP (-2) (fun post g => ?_) (fun post g => ?_)) hB hM hC
    · unfold wpX_crash; dsimp only; rw [nI_clamp (n := p) (by omega)]; exact kc_xP1 hB hp (br_f (by decide) ⟨h5, br_f c1 g⟩)
    · unfold wpY_crash; dsimp only; rw [nI_clamp (n := p) (by omega)]; exact kc_yP1 hB hp (br_f (by decide) ⟨h5, br_f c1 g⟩)
  have hNN : nI N ≤ nI N := nI_le (by omega) (by omega)
  by_cases c2 : cc < nI N - nI Q
  case neg =>
    refine kc_fin (fX := fun post => wpX_crash post (nI N, nI R, nI Q, cc, cr, de, dc, ro, es, st, sm, fa, co) (nI p) v2) (fY := fun post => wpY_crash post (nI N, nI R, nI Q, nI m, K, A, B, C, F, cr, ro, es, st, de, dc, su) (nI p) v2) (kc_LA_same (dc := dc) hI hP (-5) (fun post g => ?_) (fun post g => ?_)) hB hM hC
    · unfold wpX_crash; dsimp only; rw [nI_clamp (n := p) (by omega)]; exact kc_xP1 hB hp (br_f (by decide) ⟨h5, br_t c1 (br_f c2 g)⟩)
    · rw [hC] at c2
      unfold wpY_crash; dsimp only; rw [nI_clamp (n := p) (by omega)]
      exact kc_yP1 hB hp (br_f (by decide) ⟨h5, br_t c1 ⟨N + 1, kc_y27 hB (br_t hNN (br_f c2 g)) N 0 (by omega)⟩⟩)
  have hfl := kc_n_flip (P := fun x => !decide (cr x = 0)) (P' := fun x => !decide (upd cr p 1 x = 0)) N p hp (by (try dsimp only); rw [decide_eq_true c1]; rfl) (by (try dsimp only); rw [pk_us]; rfl) (fun i _ hne => by (try dsimp only); rw [pk_un hne])
  have hC' : cc + 1 = nI (kc_n (fun x => !decide (upd cr p 1 x = 0)) N) := by rw [hfl, hC, nI_1]
  have hln := kc_lose_n (p := p) (keep := v2) hP
  refine kc_fin (fX := fun post => wpX_crash post (nI N, nI R, nI Q, cc, cr, de, dc, ro, es, st, sm, fa, co) (nI p) v2) (fY := fun post => wpY_crash post (nI N, nI R, nI Q, nI m, K, A, B, C, F, cr, ro, es, st, de, dc, su) (nI p) v2) (kc_LA_same (dc := dc) (cr := upd cr p 1) (cc := cc + 1) (kc_lose_I (p := p) (keep := v2) hB hI) (kc_lose_PQ (p := p) (keep := v2) hP) (nI (kc_n (kc_lo N fa p v2) 180)) (fun post g => ?_) (fun post g => ?_)) hB hM hC'
  · unfold wpX_crash; dsimp only; rw [nI_clamp (n := p) (by omega), kc_nar]
    have L := kc_xlose_lp (post := post) (cc := cc + 1) (cr := upd cr p 1) (keep := v2) hB hP hp g 180 0 (by omega)
    rw [kc_lf_0] at L
    exact kc_xP1 hB hp (br_f (by decide) ⟨h5, br_t c1 (br_t c2 ⟨h5, nm_e (nm_e ⟨_, L⟩)⟩)⟩)
  · rw [hC] at c2
    rw [← hln] at g
    have L := kc_ylose_lp (post := post) (cr := upd cr p 1) (keep := v2) hB hP hp g m 0 (by omega)
    rw [kc_lf_0] at L
    unfold wpY_crash; dsimp only; rw [nI_clamp (n := p) (by omega)]
    refine kc_yP1 hB hp (br_f (by decide) ⟨h5, br_t c1 ⟨N + 1, kc_y27 hB (br_t hNN (br_t c2 ?_)) N 0 (by omega)⟩⟩)
    rw [nI_clamp (n := p) (by omega), kc_nar]
    exact ⟨h5, nm_e ⟨_, L⟩⟩
section
variable {N R Q m : Nat} {cc : Int32} {cr de dc ro es st sm fa co K A B C F su : Nat → Int32} {σ : Nat → Nat}
theorem kc_ysu0 {post : Int32 → SY → Prop} {x y : Int32} (hB : kc_B N R Q) (h : ¬ ∃ a b, a < N ∧ b < N ∧ a ≠ b ∧ x = nI a ∧ y = nI b) (hp : post (-1) (nI N, nI R, nI Q, nI m, K, A, B, C, F, cr, ro, es, st, de, dc, su)) : wpY_suspect post (nI N, nI R, nI Q, nI m, K, A, B, C, F, cr, ro, es, st, de, dc, su) x y ∧ wpY_unsuspect post (nI N, nI R, nI Q, nI m, K, A, B, C, F, cr, ro, es, st, de, dc, su) x y := by
  unfold wpY_suspect wpY_unsuspect
  rcases kc_P hB x with hx | ⟨a, ha, rfl⟩
  · exact ⟨kc_yP0 hx (br_t rfl hp), kc_yP0 hx (br_t rfl hp)⟩
  · rcases kc_P hB y with hy | ⟨b, hb, rfl⟩
    · exact ⟨kc_yP1 hB ha (br_f (by decide) (kc_yP0 hy (br_t rfl hp))), kc_yP1 hB ha (br_f (by decide) (kc_yP0 hy (br_t rfl hp)))⟩
    · by_cases e : a = b
      · have e' : nI a = nI b := by rw [e]
        exact ⟨kc_yP1 hB ha (br_f (by decide) (kc_yP1 hB hb (br_f (by decide) (br_t e' hp)))), kc_yP1 hB ha (br_f (by decide) (kc_yP1 hB hb (br_f (by decide) (br_t e' hp))))⟩
      · exact absurd ⟨a, b, ha, hb, e, rfl, rfl⟩ h
theorem kc_xsus {post : Int32 → Prop} {p q : Nat} (hp5 : p < 5) (h0 : ((sm p) >>> (nI q &&& 31)) &&& 1 = 0 → post 0) (h1 : ¬ ((sm p) >>> (nI q &&& 31)) &&& 1 = 0 → post 1) : wpX_suspects post (nI N, nI R, nI Q, cc, cr, de, dc, ro, es, st, sm, fa, co) (nI p) (nI q) := by
  unfold wpX_suspects
  dsimp only
  rw [nI_clamp (n := p) (by omega)]
  exact ⟨vp_in_nI hp5 (by omega), br_c h0 h1⟩
end
theorem i_vc_unsuspect {k : Nat} {u : SX} {v : SY} (I : i_Rel k u v) (hk : k + 4 ≤ 2050) (v1 : Int32) (v2 : Int32) : wpX_unsuspect (fun r u' => wpY_unsuspect (fun r' v' => r' = r ∧ i_Rel (k + 4) u' v') v v1 v2) u v1 v2 := by
  refine kc_re (Z := fun u v => wpX_unsuspect (fun r u' => wpY_unsuspect (fun r' v' => r' = r ∧ i_Rel (k + 4) u' v') v v1 v2) u v1 v2) ?_ I
  intro N R Q m cc cr de dc ro es st sm fa co K A B C F su σ hB hM hI hP hC
  have hB' := hB
  obtain ⟨b1, b2, b3, b4, b5⟩ := hB'
  by_cases hpr : ∃ a b, a < N ∧ b < N ∧ a ≠ b ∧ v1 = nI a ∧ v2 = nI b
  case neg =>
    refine kc_fin (fX := fun post => wpX_unsuspect post (nI N, nI R, nI Q, cc, cr, de, dc, ro, es, st, sm, fa, co) v1 v2) (fY := fun post => wpY_unsuspect post (nI N, nI R, nI Q, nI m, K, A, B, C, F, cr, ro, es, st, de, dc, su) v1 v2) (kc_LA_same (dc := dc) hI hP (-1) (fun post g => ?_) (fun post g => ?_)) hB hM hC
    · unfold wpX_unsuspect; exact kc_xPr0 hB hpr (br_t rfl g)
    · exact (kc_ysu0 hB hpr g).2
  obtain ⟨p, q, hp, hq, hpq, rfl, rfl⟩ := hpr
  have h5 : vp_in (nI p) 5 := vp_in_nI (by omega) (by omega)
  have h25 : vp_in (nI (p * 5 + q)) 25 := vp_in_nI (by omega) (by omega)
  have hne : ¬ nI p = nI q := kc_nI_ne (by omega) (by omega) hpq
  by_cases c1 : cr p = 0
  case neg =>
    refine kc_fin (fX := fun post => wpX_unsuspect post (nI N, nI R, nI Q, cc, cr, de, dc, ro, es, st, sm, fa, co) (nI p) (nI q)) (fY := fun post => wpY_unsuspect post (nI N, nI R, nI Q, nI m, K, A, B, C, F, cr, ro, es, st, de, dc, su) (nI p) (nI q)) (kc_LA_same (dc := dc) hI hP (-2) (fun post g => ?_) (fun post g => ?_)) hB hM hC
    · unfold wpX_unsuspect; dsimp only; rw [nI_clamp (n := p) (by omega)]; exact kc_xPr1 hB hp hq hpq (br_f (by decide) ⟨h5, br_f c1 g⟩)
    · unfold wpY_unsuspect; dsimp only; rw [nI_clamp (n := p) (by omega)]; exact kc_yP1 hB hp (br_f (by decide) (kc_yP1 hB hq (br_f (by decide) (br_f hne ⟨h5, br_f c1 g⟩))))
  have hbit := (hM p hp).2.1 q hq
  by_cases c2 : su (p * 5 + q) = 0
  · refine kc_fin (fX := fun post => wpX_unsuspect post (nI N, nI R, nI Q, cc, cr, de, dc, ro, es, st, sm, fa, co) (nI p) (nI q)) (fY := fun post => wpY_unsuspect post (nI N, nI R, nI Q, nI m, K, A, B, C, F, cr, ro, es, st, de, dc, su) (nI p) (nI q)) (kc_LA_same (dc := dc) hI hP (-3) (fun post g => ?_) (fun post g => ?_)) hB hM hC
    · unfold wpX_unsuspect; dsimp only; rw [nI_clamp (n := p) (by omega)]; exact kc_xPr1 hB hp hq hpq (br_f (by decide) ⟨h5, br_t c1 (kc_xsus (by omega) (fun _ => br_t rfl g) (fun z => absurd (hbit.mpr c2) z))⟩)
    · unfold wpY_unsuspect; dsimp only; rw [nI_clamp (n := p) (by omega), kc_e5, nI_clamp (n := p * 5 + q) (by omega)]; exact kc_yP1 hB hp (br_f (by decide) (kc_yP1 hB hq (br_f (by decide) (br_f hne ⟨h5, br_t c1 ⟨h25, br_t c2 g⟩⟩))))
  · refine kc_fin (fX := fun post => wpX_unsuspect post (nI N, nI R, nI Q, cc, cr, de, dc, ro, es, st, sm, fa, co) (nI p) (nI q)) (fY := fun post => wpY_unsuspect post (nI N, nI R, nI Q, nI m, K, A, B, C, F, cr, ro, es, st, de, dc, su) (nI p) (nI q)) (kc_LA_same (dc := dc) hI hP 0 (fun post g => ?_) (fun post g => ?_)) hB (kc_M_clr hB hM hp hq) hC
    · unfold wpX_unsuspect; dsimp only; rw [nI_clamp (n := p) (by omega)]; exact kc_xPr1 hB hp hq hpq (br_f (by decide) ⟨h5, br_t c1 (kc_xsus (by omega) (fun z => absurd (hbit.mp z) c2) (fun _ => br_f (by decide) ⟨h5, h5, nm_e g⟩))⟩)
    · unfold wpY_unsuspect; dsimp only; rw [nI_clamp (n := p) (by omega), kc_e5, nI_clamp (n := p * 5 + q) (by omega), kc_nar0]; exact kc_yP1 hB hp (br_f (by decide) (kc_yP1 hB hq (br_f (by decide) (br_f hne ⟨h5, br_t c1 ⟨h25, br_f c2 ⟨h25, nm_e g⟩⟩⟩))))
theorem i_vc_suspect {k : Nat} {u : SX} {v : SY} (I : i_Rel k u v) (hk : k + 4 ≤ 2050) (v1 : Int32) (v2 : Int32) : wpX_suspect (fun r u' => wpY_suspect (fun r' v' => r' = r ∧ i_Rel (k + 4) u' v') v v1 v2) u v1 v2 := by
  refine kc_re (Z := fun u v => wpX_suspect (fun r u' => wpY_suspect (fun r' v' => r' = r ∧ i_Rel (k + 4) u' v') v v1 v2) u v1 v2) ?_ I
  intro N R Q m cc cr de dc ro es st sm fa co K A B C F su σ hB hM hI hP hC
  have hB' := hB
  obtain ⟨b1, b2, b3, b4, b5⟩ := hB'
  by_cases hpr : ∃ a b, a < N ∧ b < N ∧ a ≠ b ∧ v1 = nI a ∧ v2 = nI b
  case neg =>
    refine kc_fin (fX := fun post => wpX_suspect post (nI N, nI R, nI Q, cc, cr, de, dc, ro, es, st, sm, fa, co) v1 v2) (fY := fun post => wpY_suspect post (nI N, nI R, nI Q, nI m, K, A, B, C, F, cr, ro, es, st, de, dc, su) v1 v2) (kc_LA_same (dc := dc) hI hP (-1) (fun post g => ?_) (fun post g => ?_)) hB hM hC
    · unfold wpX_suspect; exact kc_xPr0 hB hpr (br_t rfl g)
    · exact (kc_ysu0 hB hpr g).1
  obtain ⟨p, q, hp, hq, hpq, rfl, rfl⟩ := hpr
  have h5 : vp_in (nI p) 5 := vp_in_nI (by omega) (by omega)
  have h25 : vp_in (nI (p * 5 + q)) 25 := vp_in_nI (by omega) (by omega)
  have hne : ¬ nI p = nI q := kc_nI_ne (by omega) (by omega) hpq
  by_cases c1 : cr p = 0
  case neg =>
    refine kc_fin (fX := fun post => wpX_suspect post (nI N, nI R, nI Q, cc, cr, de, dc, ro, es, st, sm, fa, co) (nI p) (nI q)) (fY := fun post => wpY_suspect post (nI N, nI R, nI Q, nI m, K, A, B, C, F, cr, ro, es, st, de, dc, su) (nI p) (nI q)) (kc_LA_same (dc := dc) hI hP (-2) (fun post g => ?_) (fun post g => ?_)) hB hM hC
    · unfold wpX_suspect; dsimp only; rw [nI_clamp (n := p) (by omega)]; exact kc_xPr1 hB hp hq hpq (br_f (by decide) ⟨h5, br_f c1 g⟩)
    · unfold wpY_suspect; dsimp only; rw [nI_clamp (n := p) (by omega)]; exact kc_yP1 hB hp (br_f (by decide) (kc_yP1 hB hq (br_f (by decide) (br_f hne ⟨h5, br_f c1 g⟩))))
  have hbit := (hM p hp).2.1 q hq
  by_cases c2 : su (p * 5 + q) = 0
  case neg =>
    refine kc_fin (fX := fun post => wpX_suspect post (nI N, nI R, nI Q, cc, cr, de, dc, ro, es, st, sm, fa, co) (nI p) (nI q)) (fY := fun post => wpY_suspect post (nI N, nI R, nI Q, nI m, K, A, B, C, F, cr, ro, es, st, de, dc, su) (nI p) (nI q)) (kc_LA_same (dc := dc) hI hP (-3) (fun post g => ?_) (fun post g => ?_)) hB hM hC
    · unfold wpX_suspect; dsimp only; rw [nI_clamp (n := p) (by omega)]; exact kc_xPr1 hB hp hq hpq (br_f (by decide) ⟨h5, br_t c1 (kc_xsus (by omega) (fun z => absurd (hbit.mp z) c2) (fun _ => br_f (by decide) g))⟩)
    · unfold wpY_suspect; dsimp only; rw [nI_clamp (n := p) (by omega), kc_e5, nI_clamp (n := p * 5 + q) (by omega)]; exact kc_yP1 hB hp (br_f (by decide) (kc_yP1 hB hq (br_f (by decide) (br_f hne ⟨h5, br_t c1 ⟨h25, br_f c2 g⟩⟩))))
  have hM' := kc_M_set hB hM hp hq
  have hro := hI.1 p hp
  obtain ⟨r, hr, er⟩ := kc_rep (x := ro p) (n := R + 1) hro.1 (by omega)
  -- what both ask behind the store of the suspicion
  have key : kc_LA N R Q cc cr (upd sm p ((sm p) ||| ((1 : Int32) <<< (nI q &&& 31)))) (upd su (p * 5 + q) 1) (fun post => wpX_suspect post (nI N, nI R, nI Q, cc, cr, de, dc, ro, es, st, sm, fa, co) (nI p) (nI q)) (fun post => wpY_suspect post (nI N, nI R, nI Q, nI m, K, A, B, C, F, cr, ro, es, st, de, dc, su) (nI p) (nI q)) := by
    by_cases c3 : de p = 0
    case neg =>
      refine kc_LA_same (dc := dc) hI hP 0 (fun post g => ?_) (fun post g => ?_)
      · unfold wpX_suspect; dsimp only; rw [nI_clamp (n := p) (by omega)]; exact kc_xPr1 hB hp hq hpq (br_f (by decide) ⟨h5, br_t c1 (kc_xsus (by omega) (fun _ => br_t rfl ⟨h5, h5, nm_e ⟨h5, nm_e ⟨h5, br_f c3 g⟩⟩⟩) (fun z => absurd (hbit.mpr c2) z))⟩)
      · unfold wpY_suspect; dsimp only; rw [nI_clamp (n := p) (by omega), kc_e5, nI_clamp (n := p * 5 + q) (by omega), kc_nar]; exact kc_yP1 hB hp (br_f (by decide) (kc_yP1 hB hq (br_f (by decide) (br_f hne ⟨h5, br_t c1 ⟨h25, br_t c2 ⟨h25, nm_e ⟨h5, nm_e ⟨h5, br_f c3 g⟩⟩⟩⟩⟩))))
    by_cases c4 : nI r < 1
    · refine kc_LA_same (dc := dc) hI hP 0 (fun post g => ?_) (fun post g => ?_)
      · unfold wpX_suspect; dsimp only; rw [nI_clamp (n := p) (by omega), er]; exact kc_xPr1 hB hp hq hpq (br_f (by decide) ⟨h5, br_t c1 (kc_xsus (by omega) (fun _ => br_t rfl ⟨h5, h5, nm_e ⟨h5, nm_e ⟨h5, br_t c3 (br_t c4 g)⟩⟩⟩) (fun z => absurd (hbit.mpr c2) z))⟩)
      · unfold wpY_suspect; dsimp only; rw [nI_clamp (n := p) (by omega), kc_e5, nI_clamp (n := p * 5 + q) (by omega), kc_nar, er]; exact kc_yP1 hB hp (br_f (by decide) (kc_yP1 hB hq (br_f (by decide) (br_f hne ⟨h5, br_t c1 ⟨h25, br_t c2 ⟨h25, nm_e ⟨h5, nm_e ⟨h5, br_t c3 (br_t c4 g)⟩⟩⟩⟩⟩))))
    by_cases c5 : nI R < nI r
    · refine kc_LA_same (dc := dc) hI hP 0 (fun post g => ?_) (fun post g => ?_)
      · unfold wpX_suspect; dsimp only; rw [nI_clamp (n := p) (by omega), er]; exact kc_xPr1 hB hp hq hpq (br_f (by decide) ⟨h5, br_t c1 (kc_xsus (by omega) (fun _ => br_t rfl ⟨h5, h5, nm_e ⟨h5, nm_e ⟨h5, br_t c3 (br_f c4 (br_t c5 g))⟩⟩⟩) (fun z => absurd (hbit.mpr c2) z))⟩)
      · unfold wpY_suspect; dsimp only; rw [nI_clamp (n := p) (by omega), kc_e5, nI_clamp (n := p * 5 + q) (by omega), kc_nar, er]; exact kc_yP1 hB hp (br_f (by decide) (kc_yP1 hB hq (br_f (by decide) (br_f hne ⟨h5, br_t c1 ⟨h25, br_t c2 ⟨h25, nm_e ⟨h5, nm_e ⟨h5, br_t c3 (br_f c4 (br_t c5 g))⟩⟩⟩⟩⟩))))
    have r1 : 1 ≤ r := by
      have : ¬ r < 1 := fun z => c4 (nI_lt (b := 1) z (by omega))
      omega
    have rR : r ≤ R := by
      have : ¬ R < r := fun z => c5 (nI_lt z (by omega))
      omega
    have hcl := kc_cd_lt (N := N) (r := r) b1
    by_cases c6 : kc_cd N r = q
    case neg =>
      have c6' : ¬ nI (kc_cd N r) = nI q := kc_nI_ne (by omega) (by omega) c6
      refine kc_LA_same (dc := dc) hI hP 0 (fun post g => ?_) (fun post g => ?_)
      · unfold wpX_suspect; dsimp only; rw [nI_clamp (n := p) (by omega), er]; exact kc_xPr1 hB hp hq hpq (br_f (by decide) ⟨h5, br_t c1 (kc_xsus (by omega) (fun _ => br_t rfl ⟨h5, h5, nm_e ⟨h5, nm_e ⟨h5, br_t c3 (br_f c4 (br_f c5 (kc_xcoord hB r1 (by omega) (br_f c6' g))))⟩⟩⟩) (fun z => absurd (hbit.mpr c2) z))⟩)
      · unfold wpY_suspect; dsimp only; rw [nI_clamp (n := p) (by omega), kc_e5, nI_clamp (n := p * 5 + q) (by omega), kc_nar, er]; exact kc_yP1 hB hp (br_f (by decide) (kc_yP1 hB hq (br_f (by decide) (br_f hne ⟨h5, br_t c1 ⟨h25, br_t c2 ⟨h25, nm_e ⟨h5, nm_e ⟨h5, br_t c3 (br_f c4 (br_f c5 (kc_ycoord hB r1 (by omega) (br_f c6' g))))⟩⟩⟩⟩⟩))))
    have c6' : nI (kc_cd N r) = nI q := by rw [c6]
    have hu2 : fa (90 + r * 5 + p) = 0 := by
      by_cases z : fa (90 + r * 5 + p) = 0
      · exact z
      · have := hI.2.2.1 r p rR hp z
        rw [er, nI_toInt (by omega)] at this
        omega
    obtain ⟨I3, u3⟩ := kc_I_reply (r := r) (p := p) (c := 0) b2 b4 hI rR hp er (fun z => absurd z (by decide))
    obtain ⟨hm2, P2⟩ := kc_PQ_sk (s := 90 + r * 5 + p) (k := 2) (a := r) (b := p) hB hP ⟨hp, Or.inl ⟨by omega, r1, rR⟩⟩ (by omega) hu2 0
    refine kc_LA_LK 0 (kc_enter (dc := dc) (r := r + 1) hB hM' hp (by omega) (by omega) I3 u3 P2) (fun de' dc' ro' es' st' fa' co' hX post g => ?_) (fun de' dc' ro' es' st' m' K' A' B' C' F' hY post g => ?_)
    · unfold wpX_suspect; dsimp only; rw [nI_clamp (n := p) (by omega), er]
      refine kc_xPr1 hB hp hq hpq (br_f (by decide) ⟨h5, br_t c1 (kc_xsus (by omega) (fun _ => br_t rfl ⟨h5, h5, nm_e ⟨h5, nm_e ⟨h5, br_t c3 (br_f c4 (br_f c5 (kc_xcoord hB r1 (by omega) (br_t c6' (kc_xref (by omega) (by omega) ?_)))))⟩⟩⟩) (fun z => absurd (hbit.mpr c2) z))⟩)
      (try dsimp only)
      rw [nI_1]
      exact hX _ g
    · unfold wpY_suspect; dsimp only; rw [nI_clamp (n := p) (by omega), kc_e5, nI_clamp (n := p * 5 + q) (by omega), kc_nar, er]
      refine kc_yP1 hB hp (br_f (by decide) (kc_yP1 hB hq (br_f (by decide) (br_f hne ⟨h5, br_t c1 ⟨h25, br_t c2 ⟨h25, nm_e ⟨h5, nm_e ⟨h5, br_t c3 (br_f c4 (br_f c5 (kc_ycoord hB r1 (by omega) (br_t c6' (kc_ysend hm2 ?_)))))⟩⟩⟩⟩⟩))))
      (try dsimp only)
      rw [nI_1]
      exact hY _ g
  exact kc_fin (fX := fun post => wpX_suspect post (nI N, nI R, nI Q, cc, cr, de, dc, ro, es, st, sm, fa, co) (nI p) (nI q)) (fY := fun post => wpY_suspect post (nI N, nI R, nI Q, nI m, K, A, B, C, F, cr, ro, es, st, de, dc, su) (nI p) (nI q)) key hB hM' hC
end
section
theorem i_vc_status {k : Nat} {u : SX} {v : SY} (I : i_Rel k u v) (hk : k + 4 ≤ 2050) (v1 : Int32) : wpX_status (fun r => wpY_status (fun r' => r' = r ∧ i_Rel (k + 4) u v) v v1) u v1 := by
  refine kc_re (Z := fun u v => wpX_status (fun r => wpY_status (fun r' => r' = r ∧ i_Rel (k + 4) u v) v v1) u v1) ?_ I
  intro N R Q m cc cr de dc ro es st sm fa co K A B C F su σ hB hM hI hP hC
  have rel : i_Rel (k + 4) (nI N, nI R, nI Q, cc, cr, de, dc, ro, es, st, sm, fa, co) (nI N, nI R, nI Q, nI m, K, A, B, C, F, cr, ro, es, st, de, dc, su) := kc_ri hB hM hI hP hC
  have hB' := hB
  obtain ⟨b1, b2, b3, b4, b5⟩ := hB'
  obtain ⟨a, hX, hY⟩ : ∃ a : Int32, (∀ post : Int32 → Prop, post a → wpX_status post (nI N, nI R, nI Q, cc, cr, de, dc, ro, es, st, sm, fa, co) v1) ∧ (∀ post : Int32 → Prop, post a → wpY_status post (nI N, nI R, nI Q, nI m, K, A, B, C, F, cr, ro, es, st, de, dc, su) v1) := by
    rcases kc_P hB v1 with hx | ⟨p, hp, rfl⟩
    · refine ⟨-1, fun post g => ?_, fun post g => ?_⟩
      · unfold wpX_status; exact kc_xP0 hx (br_t rfl g)
      · unfold wpY_status; exact kc_yP0 hx (br_t rfl g)
    have h5 : vp_in (nI p) 5 := vp_in_nI (by omega) (by omega)
    by_cases c1 : cr p = 0
    case neg =>
      refine ⟨4, fun post g => ?_, fun post g => ?_⟩
      · unfold wpX_status; dsimp only; rw [nI_clamp (n := p) (by omega)]; exact kc_xP1 hB hp (br_f (by decide) ⟨h5, br_f c1 g⟩)
      · unfold wpY_status; dsimp only; rw [nI_clamp (n := p) (by omega)]; exact kc_yP1 hB hp (br_f (by decide) ⟨h5, br_f c1 g⟩)
    by_cases c2 : de p = 0
    case neg =>
      refine ⟨3, fun post g => ?_, fun post g => ?_⟩
      · unfold wpX_status; dsimp only; rw [nI_clamp (n := p) (by omega)]; exact kc_xP1 hB hp (br_f (by decide) ⟨h5, br_t c1 ⟨h5, br_f c2 g⟩⟩)
      · unfold wpY_status; dsimp only; rw [nI_clamp (n := p) (by omega)]; exact kc_yP1 hB hp (br_f (by decide) ⟨h5, br_t c1 ⟨h5, br_f c2 g⟩⟩)
    by_cases c3 : ro p = 0
    case pos =>
      refine ⟨0, fun post g => ?_, fun post g => ?_⟩
      · unfold wpX_status; dsimp only; rw [nI_clamp (n := p) (by omega)]; exact kc_xP1 hB hp (br_f (by decide) ⟨h5, br_t c1 ⟨h5, br_t c2 ⟨h5, br_t c3 g⟩⟩⟩)
      · unfold wpY_status; dsimp only; rw [nI_clamp (n := p) (by omega)]; exact kc_yP1 hB hp (br_f (by decide) ⟨h5, br_t c1 ⟨h5, br_t c2 ⟨h5, br_t c3 g⟩⟩⟩)
    have hro := hI.1 p hp
    obtain ⟨r, hr, er⟩ := kc_rep (x := ro p) (n := R + 1) hro.1 (by omega)
    by_cases c4 : r = R + 1
    case pos =>
      have g1 : ¬ ro p ≤ nI R := by rw [er]; exact nI_ge (by omega) (by omega)
      have g2 : ro p = nI R + 1 := by rw [er, c4, nI_1]
      refine ⟨2, fun post g => ?_, fun post g => ?_⟩
      · unfold wpX_status; dsimp only; rw [nI_clamp (n := p) (by omega)]; exact kc_xP1 hB hp (br_f (by decide) ⟨h5, br_t c1 ⟨h5, br_t c2 ⟨h5, br_f c3 ⟨h5, br_f g1 g⟩⟩⟩⟩)
      · unfold wpY_status; dsimp only; rw [nI_clamp (n := p) (by omega)]; exact kc_yP1 hB hp (br_f (by decide) ⟨h5, br_t c1 ⟨h5, br_t c2 ⟨h5, br_f c3 ⟨h5, br_t g2 g⟩⟩⟩⟩)
    have g1 : ro p ≤ nI R := by rw [er]; exact nI_le (by omega) (by omega)
    have g2 : ¬ ro p = nI R + 1 := by rw [er, nI_1]; exact kc_nI_ne (by omega) (by omega) c4
    refine ⟨1, fun post g => ?_, fun post g => ?_⟩
    · unfold wpX_status; dsimp only; rw [nI_clamp (n := p) (by omega)]; exact kc_xP1 hB hp (br_f (by decide) ⟨h5, br_t c1 ⟨h5, br_t c2 ⟨h5, br_f c3 ⟨h5, br_t g1 g⟩⟩⟩⟩)
    · unfold wpY_status; dsimp only; rw [nI_clamp (n := p) (by omega)]; exact kc_yP1 hB hp (br_f (by decide) ⟨h5, br_t c1 ⟨h5, br_t c2 ⟨h5, br_f c3 ⟨h5, br_f g2 g⟩⟩⟩⟩)
  exact hX _ (hY _ ⟨rfl, rel⟩)
theorem i_vc_round {k : Nat} {u : SX} {v : SY} (I : i_Rel k u v) (hk : k + 4 ≤ 2050) (v1 : Int32) : wpX_round (fun r => wpY_round (fun r' => r' = r ∧ i_Rel (k + 4) u v) v v1) u v1 := by
  refine kc_re (Z := fun u v => wpX_round (fun r => wpY_round (fun r' => r' = r ∧ i_Rel (k + 4) u v) v v1) u v1) ?_ I
  intro N R Q m cc cr de dc ro es st sm fa co K A B C F su σ hB hM hI hP hC
  have rel : i_Rel (k + 4) (nI N, nI R, nI Q, cc, cr, de, dc, ro, es, st, sm, fa, co) (nI N, nI R, nI Q, nI m, K, A, B, C, F, cr, ro, es, st, de, dc, su) := kc_ri hB hM hI hP hC
  have hB' := hB
  obtain ⟨b1, b2, b3, b4, b5⟩ := hB'
  obtain ⟨a, hX, hY⟩ : ∃ a : Int32, (∀ post : Int32 → Prop, post a → wpX_round post (nI N, nI R, nI Q, cc, cr, de, dc, ro, es, st, sm, fa, co) v1) ∧ (∀ post : Int32 → Prop, post a → wpY_round post (nI N, nI R, nI Q, nI m, K, A, B, C, F, cr, ro, es, st, de, dc, su) v1) := by
    rcases kc_P hB v1 with hx | ⟨p, hp, rfl⟩
    · refine ⟨-1, fun post g => ?_, fun post g => ?_⟩
      · unfold wpX_round; exact kc_xP0 hx (br_t rfl g)
      · unfold wpY_round; exact kc_yP0 hx (br_t rfl g)
    have h5 : vp_in (nI p) 5 := vp_in_nI (by omega) (by omega)
    refine ⟨ro p, fun post g => ?_, fun post g => ?_⟩
    · unfold wpX_round; dsimp only; rw [nI_clamp (n := p) (by omega)]; exact kc_xP1 hB hp (br_f (by decide) ⟨h5, g⟩)
    · unfold wpY_round; dsimp only; rw [nI_clamp (n := p) (by omega)]; exact kc_yP1 hB hp (br_f (by decide) ⟨h5, g⟩)
  exact hX _ (hY _ ⟨rfl, rel⟩)
theorem i_vc_estimate {k : Nat} {u : SX} {v : SY} (I : i_Rel k u v) (hk : k + 4 ≤ 2050) (v1 : Int32) : wpX_estimate (fun r => wpY_estimate (fun r' => r' = r ∧ i_Rel (k + 4) u v) v v1) u v1 := by
  refine kc_re (Z := fun u v => wpX_estimate (fun r => wpY_estimate (fun r' => r' = r ∧ i_Rel (k + 4) u v) v v1) u v1) ?_ I
  intro N R Q m cc cr de dc ro es st sm fa co K A B C F su σ hB hM hI hP hC
  have rel : i_Rel (k + 4) (nI N, nI R, nI Q, cc, cr, de, dc, ro, es, st, sm, fa, co) (nI N, nI R, nI Q, nI m, K, A, B, C, F, cr, ro, es, st, de, dc, su) := kc_ri hB hM hI hP hC
  have hB' := hB
  obtain ⟨b1, b2, b3, b4, b5⟩ := hB'
  obtain ⟨a, hX, hY⟩ : ∃ a : Int32, (∀ post : Int32 → Prop, post a → wpX_estimate post (nI N, nI R, nI Q, cc, cr, de, dc, ro, es, st, sm, fa, co) v1) ∧ (∀ post : Int32 → Prop, post a → wpY_estimate post (nI N, nI R, nI Q, nI m, K, A, B, C, F, cr, ro, es, st, de, dc, su) v1) := by
    rcases kc_P hB v1 with hx | ⟨p, hp, rfl⟩
    · refine ⟨-1, fun post g => ?_, fun post g => ?_⟩
      · unfold wpX_estimate; exact kc_xP0 hx (br_t rfl g)
      · unfold wpY_estimate; exact kc_yP0 hx (br_t rfl g)
    have h5 : vp_in (nI p) 5 := vp_in_nI (by omega) (by omega)
    by_cases c3 : ro p = 0
    case pos =>
      refine ⟨-7, fun post g => ?_, fun post g => ?_⟩
      · unfold wpX_estimate; dsimp only; rw [nI_clamp (n := p) (by omega)]; exact kc_xP1 hB hp (br_f (by decide) ⟨h5, br_t c3 g⟩)
      · unfold wpY_estimate; dsimp only; rw [nI_clamp (n := p) (by omega)]; exact kc_yP1 hB hp (br_f (by decide) ⟨h5, br_t c3 g⟩)
    refine ⟨es p, fun post g => ?_, fun post g => ?_⟩
    · unfold wpX_estimate; dsimp only; rw [nI_clamp (n := p) (by omega)]; exact kc_xP1 hB hp (br_f (by decide) ⟨h5, br_f c3 ⟨h5, g⟩⟩)
    · unfold wpY_estimate; dsimp only; rw [nI_clamp (n := p) (by omega)]; exact kc_yP1 hB hp (br_f (by decide) ⟨h5, br_f c3 ⟨h5, g⟩⟩)
  exact hX _ (hY _ ⟨rfl, rel⟩)
theorem i_vc_stamp {k : Nat} {u : SX} {v : SY} (I : i_Rel k u v) (hk : k + 4 ≤ 2050) (v1 : Int32) : wpX_stamp (fun r => wpY_stamp (fun r' => r' = r ∧ i_Rel (k + 4) u v) v v1) u v1 := by
  refine kc_re (Z := fun u v => wpX_stamp (fun r => wpY_stamp (fun r' => r' = r ∧ i_Rel (k + 4) u v) v v1) u v1) ?_ I
  intro N R Q m cc cr de dc ro es st sm fa co K A B C F su σ hB hM hI hP hC
  have rel : i_Rel (k + 4) (nI N, nI R, nI Q, cc, cr, de, dc, ro, es, st, sm, fa, co) (nI N, nI R, nI Q, nI m, K, A, B, C, F, cr, ro, es, st, de, dc, su) := kc_ri hB hM hI hP hC
  have hB' := hB
  obtain ⟨b1, b2, b3, b4, b5⟩ := hB'
  obtain ⟨a, hX, hY⟩ : ∃ a : Int32, (∀ post : Int32 → Prop, post a → wpX_stamp post (nI N, nI R, nI Q, cc, cr, de, dc, ro, es, st, sm, fa, co) v1) ∧ (∀ post : Int32 → Prop, post a → wpY_stamp post (nI N, nI R, nI Q, nI m, K, A, B, C, F, cr, ro, es, st, de, dc, su) v1) := by
    rcases kc_P hB v1 with hx | ⟨p, hp, rfl⟩
    · refine ⟨-1, fun post g => ?_, fun post g => ?_⟩
      · unfold wpX_stamp; exact kc_xP0 hx (br_t rfl g)
      · unfold wpY_stamp; exact kc_yP0 hx (br_t rfl g)
    have h5 : vp_in (nI p) 5 := vp_in_nI (by omega) (by omega)
    by_cases c3 : ro p = 0
    case pos =>
      refine ⟨-7, fun post g => ?_, fun post g => ?_⟩
      · unfold wpX_stamp; dsimp only; rw [nI_clamp (n := p) (by omega)]; exact kc_xP1 hB hp (br_f (by decide) ⟨h5, br_t c3 g⟩)
      · unfold wpY_stamp; dsimp only; rw [nI_clamp (n := p) (by omega)]; exact kc_yP1 hB hp (br_f (by decide) ⟨h5, br_t c3 g⟩)
    refine ⟨st p, fun post g => ?_, fun post g => ?_⟩
    · unfold wpX_stamp; dsimp only; rw [nI_clamp (n := p) (by omega)]; exact kc_xP1 hB hp (br_f (by decide) ⟨h5, br_f c3 ⟨h5, g⟩⟩)
    · unfold wpY_stamp; dsimp only; rw [nI_clamp (n := p) (by omega)]; exact kc_yP1 hB hp (br_f (by decide) ⟨h5, br_f c3 ⟨h5, g⟩⟩)
  exact hX _ (hY _ ⟨rfl, rel⟩)
theorem i_vc_decision {k : Nat} {u : SX} {v : SY} (I : i_Rel k u v) (hk : k + 4 ≤ 2050) (v1 : Int32) : wpX_decision (fun r => wpY_decision (fun r' => r' = r ∧ i_Rel (k + 4) u v) v v1) u v1 := by
  refine kc_re (Z := fun u v => wpX_decision (fun r => wpY_decision (fun r' => r' = r ∧ i_Rel (k + 4) u v) v v1) u v1) ?_ I
  intro N R Q m cc cr de dc ro es st sm fa co K A B C F su σ hB hM hI hP hC
  have rel : i_Rel (k + 4) (nI N, nI R, nI Q, cc, cr, de, dc, ro, es, st, sm, fa, co) (nI N, nI R, nI Q, nI m, K, A, B, C, F, cr, ro, es, st, de, dc, su) := kc_ri hB hM hI hP hC
  have hB' := hB
  obtain ⟨b1, b2, b3, b4, b5⟩ := hB'
  obtain ⟨a, hX, hY⟩ : ∃ a : Int32, (∀ post : Int32 → Prop, post a → wpX_decision post (nI N, nI R, nI Q, cc, cr, de, dc, ro, es, st, sm, fa, co) v1) ∧ (∀ post : Int32 → Prop, post a → wpY_decision post (nI N, nI R, nI Q, nI m, K, A, B, C, F, cr, ro, es, st, de, dc, su) v1) := by
    rcases kc_P hB v1 with hx | ⟨p, hp, rfl⟩
    · refine ⟨-1, fun post g => ?_, fun post g => ?_⟩
      · unfold wpX_decision; exact kc_xP0 hx (br_t rfl g)
      · unfold wpY_decision; exact kc_yP0 hx (br_t rfl g)
    have h5 : vp_in (nI p) 5 := vp_in_nI (by omega) (by omega)
    by_cases c3 : de p = 0
    case pos =>
      refine ⟨-7, fun post g => ?_, fun post g => ?_⟩
      · unfold wpX_decision; dsimp only; rw [nI_clamp (n := p) (by omega)]; exact kc_xP1 hB hp (br_f (by decide) ⟨h5, br_t c3 g⟩)
      · unfold wpY_decision; dsimp only; rw [nI_clamp (n := p) (by omega)]; exact kc_yP1 hB hp (br_f (by decide) ⟨h5, br_t c3 g⟩)
    refine ⟨dc p, fun post g => ?_, fun post g => ?_⟩
    · unfold wpX_decision; dsimp only; rw [nI_clamp (n := p) (by omega)]; exact kc_xP1 hB hp (br_f (by decide) ⟨h5, br_f c3 ⟨h5, g⟩⟩)
    · unfold wpY_decision; dsimp only; rw [nI_clamp (n := p) (by omega)]; exact kc_yP1 hB hp (br_f (by decide) ⟨h5, br_f c3 ⟨h5, g⟩⟩)
  exact hX _ (hY _ ⟨rfl, rel⟩)
theorem i_vc_suspicions {k : Nat} {u : SX} {v : SY} (I : i_Rel k u v) (hk : k + 4 ≤ 2050) (v1 : Int32) : wpX_suspicions (fun r => wpY_suspicions (fun r' => r' = r ∧ i_Rel (k + 4) u v) v v1) u v1 := by
  refine kc_re (Z := fun u v => wpX_suspicions (fun r => wpY_suspicions (fun r' => r' = r ∧ i_Rel (k + 4) u v) v v1) u v1) ?_ I
  intro N R Q m cc cr de dc ro es st sm fa co K A B C F su σ hB hM hI hP hC
  have rel : i_Rel (k + 4) (nI N, nI R, nI Q, cc, cr, de, dc, ro, es, st, sm, fa, co) (nI N, nI R, nI Q, nI m, K, A, B, C, F, cr, ro, es, st, de, dc, su) := kc_ri hB hM hI hP hC
  have hB' := hB
  obtain ⟨b1, b2, b3, b4, b5⟩ := hB'
  obtain ⟨a, hX, hY⟩ : ∃ a : Int32, (∀ post : Int32 → Prop, post a → wpX_suspicions post (nI N, nI R, nI Q, cc, cr, de, dc, ro, es, st, sm, fa, co) v1) ∧ (∀ post : Int32 → Prop, post a → wpY_suspicions post (nI N, nI R, nI Q, nI m, K, A, B, C, F, cr, ro, es, st, de, dc, su) v1) := by
    rcases kc_P hB v1 with hx | ⟨p, hp, rfl⟩
    · refine ⟨-1, fun post g => ?_, fun post g => ?_⟩
      · unfold wpX_suspicions; exact kc_xP0 hx (br_t rfl g)
      · unfold wpY_suspicions; exact kc_yP0 hx (br_t rfl g)
    have h5 : vp_in (nI p) 5 := vp_in_nI (by omega) (by omega)
    refine ⟨sm p, fun post g => ?_, fun post g => ?_⟩
    · unfold wpX_suspicions; dsimp only; rw [nI_clamp (n := p) (by omega)]; exact kc_xP1 hB hp (br_f (by decide) ⟨h5, g⟩)
    · unfold wpY_suspicions
      refine kc_yP1 hB hp (br_f (by decide) ⟨N + 1, kc_ysum hB hp ?_ N 0 (by omega)⟩)
      rw [kc_sum_eq hB hM hp]
      exact g
  exact hX _ (hY _ ⟨rfl, rel⟩)
theorem i_vc_fate {k : Nat} {u : SX} {v : SY} (I : i_Rel k u v) (hk : k + 4 ≤ 2050) (v1 : Int32) (v2 : Int32) (v3 : Int32) : wpX_fate (fun r => wpY_fate (fun r' => r' = r ∧ i_Rel (k + 4) u v) v v1 v2 v3) u v1 v2 v3 := by
  refine kc_re (Z := fun u v => wpX_fate (fun r => wpY_fate (fun r' => r' = r ∧ i_Rel (k + 4) u v) v v1 v2 v3) u v1 v2 v3) ?_ I
  intro N R Q m cc cr de dc ro es st sm fa co K A B C F su σ hB hM hI hP hC
  have rel : i_Rel (k + 4) (nI N, nI R, nI Q, cc, cr, de, dc, ro, es, st, sm, fa, co) (nI N, nI R, nI Q, nI m, K, A, B, C, F, cr, ro, es, st, de, dc, su) := kc_ri hB hM hI hP hC
  have hB' := hB
  obtain ⟨b1, b2, b3, b4, b5⟩ := hB'
  obtain ⟨a, hX, hY⟩ : ∃ a : Int32, (∀ post : Int32 → Prop, post a → wpX_fate post (nI N, nI R, nI Q, cc, cr, de, dc, ro, es, st, sm, fa, co) v1 v2 v3) ∧ (∀ post : Int32 → Prop, post a → wpY_fate post (nI N, nI R, nI Q, nI m, K, A, B, C, F, cr, ro, es, st, de, dc, su) v1 v2 v3) := by
    by_cases hn : ∃ k a b, kc_nm N R k a b ∧ v1 = nI k ∧ v2 = nI a ∧ v3 = nI b
    case neg =>
      refine ⟨-1, fun post g => ?_, fun post g => ?_⟩
      · unfold wpX_fate; exact kc_xN0 hB hn (br_t rfl g)
      · unfold wpY_fate; exact kc_yN0 hB hn (br_t rfl g)
    obtain ⟨k, a, b, hn, rfl, rfl, rfl⟩ := hn
    obtain ⟨hv, hs, -, -, -⟩ := kc_nm_vs b2 b4 hn (s := k * 45 + a * 5 + b) rfl
    have hin : vp_in (nI (k * 45 + a * 5 + b)) 180 := vp_in_nI hs (by omega)
    refine ⟨fa (k * 45 + a * 5 + b), fun post g => ?_, fun post g => kc_yfate hB hP hn rfl g⟩
    unfold wpX_fate wpX_slot; dsimp only; rw [kc_sl, nI_clamp (n := k * 45 + a * 5 + b) (by omega)]
    exact kc_xN1 hB hn (br_f (by decide) ⟨hin, g⟩)
  exact hX _ (hY _ ⟨rfl, rel⟩)
theorem i_vc_content {k : Nat} {u : SX} {v : SY} (I : i_Rel k u v) (hk : k + 4 ≤ 2050) (v1 : Int32) (v2 : Int32) (v3 : Int32) : wpX_content (fun r => wpY_content (fun r' => r' = r ∧ i_Rel (k + 4) u v) v v1 v2 v3) u v1 v2 v3 := by
  refine kc_re (Z := fun u v => wpX_content (fun r => wpY_content (fun r' => r' = r ∧ i_Rel (k + 4) u v) v v1 v2 v3) u v1 v2 v3) ?_ I
  intro N R Q m cc cr de dc ro es st sm fa co K A B C F su σ hB hM hI hP hC
  have rel : i_Rel (k + 4) (nI N, nI R, nI Q, cc, cr, de, dc, ro, es, st, sm, fa, co) (nI N, nI R, nI Q, nI m, K, A, B, C, F, cr, ro, es, st, de, dc, su) := kc_ri hB hM hI hP hC
  have hB' := hB
  obtain ⟨b1, b2, b3, b4, b5⟩ := hB'
  obtain ⟨a, hX, hY⟩ : ∃ a : Int32, (∀ post : Int32 → Prop, post a → wpX_content post (nI N, nI R, nI Q, cc, cr, de, dc, ro, es, st, sm, fa, co) v1 v2 v3) ∧ (∀ post : Int32 → Prop, post a → wpY_content post (nI N, nI R, nI Q, nI m, K, A, B, C, F, cr, ro, es, st, de, dc, su) v1 v2 v3) := by
    by_cases hn : ∃ k a b, kc_nm N R k a b ∧ v1 = nI k ∧ v2 = nI a ∧ v3 = nI b
    case neg =>
      refine ⟨-1, fun post g => ?_, fun post g => ?_⟩
      · unfold wpX_content; exact kc_xN0 hB hn (br_t rfl g)
      · unfold wpY_content; exact kc_yN0 hB hn (br_t rfl g)
    obtain ⟨k, a, b, hn, rfl, rfl, rfl⟩ := hn
    obtain ⟨hv, hs, -, -, -⟩ := kc_nm_vs b2 b4 hn (s := k * 45 + a * 5 + b) rfl
    have hin : vp_in (nI (k * 45 + a * 5 + b)) 180 := vp_in_nI hs (by omega)
    by_cases z : fa (k * 45 + a * 5 + b) = 0
    · refine ⟨-7, fun post g => ?_, fun post g => kc_ycont hB hP hn rfl (fun _ => g) (fun y => absurd z y)⟩
      unfold wpX_content wpX_slot; dsimp only; rw [kc_sl, nI_clamp (n := k * 45 + a * 5 + b) (by omega)]
      exact kc_xN1 hB hn (br_f (by decide) ⟨hin, br_t z g⟩)
    · refine ⟨co (k * 45 + a * 5 + b), fun post g => ?_, fun post g => kc_ycont hB hP hn rfl (fun y => absurd y z) (fun _ => g)⟩
      unfold wpX_content wpX_slot; dsimp only; rw [kc_sl, nI_clamp (n := k * 45 + a * 5 + b) (by omega)]
      exact kc_xN1 hB hn (br_f (by decide) ⟨hin, br_f z ⟨hin, g⟩⟩)
  exact hX _ (hY _ ⟨rfl, rel⟩)
theorem i_vc_lockedValue {k : Nat} {u : SX} {v : SY} (I : i_Rel k u v) (hk : k + 4 ≤ 2050) : wpX_lockedValue (fun r => wpY_lockedValue (fun r' => r' = r ∧ i_Rel (k + 4) u v) v) u := by
  refine kc_re (Z := fun u v => wpX_lockedValue (fun r => wpY_lockedValue (fun r' => r' = r ∧ i_Rel (k + 4) u v) v) u) ?_ I
  intro N R Q m cc cr de dc ro es st sm fa co K A B C F su σ hB hM hI hP hC
  have rel : i_Rel (k + 4) (nI N, nI R, nI Q, cc, cr, de, dc, ro, es, st, sm, fa, co) (nI N, nI R, nI Q, nI m, K, A, B, C, F, cr, ro, es, st, de, dc, su) := kc_ri hB hM hI hP hC
  have hB' := hB
  obtain ⟨b1, b2, b3, b4, b5⟩ := hB'
  obtain ⟨a, hX, hY⟩ : ∃ a : Int32, (∀ post : Int32 → Prop, post a → wpX_lockedValue post (nI N, nI R, nI Q, cc, cr, de, dc, ro, es, st, sm, fa, co)) ∧ (∀ post : Int32 → Prop, post a → wpY_lockedValue post (nI N, nI R, nI Q, nI m, K, A, B, C, F, cr, ro, es, st, de, dc, su)) := by
    obtain ⟨w, hX, hY⟩ := kc_locked (cc := cc) (cr := cr) (dc := dc) (sm := sm) (su := su) hB hI hP R 1 (by omega) (by omega)
    exact ⟨w, fun post g => ⟨_, hX post g⟩, fun post g => ⟨_, hY post g⟩⟩
  exact hX _ (hY _ ⟨rfl, rel⟩)
end
