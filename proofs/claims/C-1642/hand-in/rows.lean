section
/-! rows of the kit's PURE-ROWS (a starting text) -/
theorem pk_us {f : Nat → Int32} {k : Nat} {x : Int32} : upd f k x k = x := if_pos rfl
theorem pk_un {f : Nat → Int32} {k j : Nat} {x : Int32} (h : j ≠ k) : upd f k x j = f j := if_neg h
theorem pk_sub {a b : Nat} (h : b ≤ a) : nI a - nI b = nI (a - b) := by
  obtain ⟨c, rfl⟩ : ∃ c, a = c + b := ⟨a - b, by omega⟩
  rw [← nI_add, Int32.add_sub_cancel, Nat.add_sub_cancel]
theorem pk_m1 (n : Nat) : nI (n + 1) + (-1) = nI n := by
  rw [← nI_1, Int32.add_assoc, show (1 : Int32) + (-1) = 0 from rfl, Int32.add_zero]
theorem pk_mul (a b : Nat) : nI a * nI b = nI (a * b) := (Int32.ofNat_mul a b).symm
theorem pk_ix (x : Int32) {n : Nat} (hn : n < 2 ^ 31) : x < 0 ∨ nI n ≤ x ∨ ∃ j : Nat, j < n ∧ x = nI j := by
  by_cases h : x < 0
  · exact Or.inl h
  · obtain ⟨j, hj, rfl⟩ := nI_of h
    by_cases h2 : j < n
    · exact Or.inr (Or.inr ⟨j, h2, rfl⟩)
    · exact Or.inr (Or.inl (nI_le (by omega) hj))
theorem pk_le {x y : Int32} {A B : Prop} (a b : Nat) (f : a ≤ b → A) (g : b < a → B) (hx : x = nI a := by rfl) (hy : y = nI b := by rfl) (ha : a < 2 ^ 31 := by omega) (hb : b < 2 ^ 31 := by omega) : (x ≤ y → A) ∧ (¬ x ≤ y → B) := by
  subst hx hy
  rw [nI_leI ha hb]
  exact ⟨f, fun z => g (by omega)⟩
theorem pk_lt {x y : Int32} {A B : Prop} (a b : Nat) (f : a < b → A) (g : b ≤ a → B) (hx : x = nI a := by rfl) (hy : y = nI b := by rfl) (ha : a < 2 ^ 31 := by omega) (hb : b < 2 ^ 31 := by omega) : (x < y → A) ∧ (¬ x < y → B) := by
  subst hx hy
  rw [nI_ltI ha hb]
  exact ⟨f, fun z => g (by omega)⟩
theorem pk_eq {x y : Int32} {A B : Prop} (a b : Nat) (f : a = b → A) (g : a ≠ b → B) (hx : x = nI a := by rfl) (hy : y = nI b := by rfl) (ha : a < 2 ^ 31 := by omega) (hb : b < 2 ^ 31 := by omega) : (x = y → A) ∧ (¬ x = y → B) := by
  subst hx hy
  rw [nI_eq ha hb]
  exact ⟨f, g⟩
theorem pk_in {x : Int32} (n N : Nat) (h : n < N) (hx : x = nI n := by rfl) (hN : N < 2 ^ 31 := by omega) : vp_in x N := by
  subst hx
  exact vp_in_nI h hN
theorem pk_cl {x : Int32} (n : Nat) (hx : x = nI n := by rfl) (h : n < 2 ^ 31 := by omega) : x.toNatClampNeg = n := by
  subst hx
  exact nI_clamp h
theorem pk_least (P : Nat → Prop) (h : ∃ k, P k) : ∃ k, P k ∧ ∀ j, j < k → ¬ P j := by
  obtain ⟨k, hk⟩ := h
  induction k using Nat.strongRecOn with
  | ind k ih =>
    by_cases e : ∃ j, j < k ∧ P j
    · obtain ⟨j, hj, pj⟩ := e
      exact ih j hj pj
    · exact ⟨k, hk, fun j hj pj => e ⟨j, hj, pj⟩⟩
end
section
noncomputable def dk_b (P : Prop) : Nat := @ite Nat P (Classical.propDecidable P) 1 0
theorem dk_bt {P : Prop} (h : P) : dk_b P = 1 := by unfold dk_b; rw [if_pos h]
theorem dk_bf {P : Prop} (h : ¬ P) : dk_b P = 0 := by unfold dk_b; rw [if_neg h]
theorem dk_bc {P Q : Prop} (h : P ↔ Q) : dk_b P = dk_b Q := by rw [propext h]
theorem dk_b_le (P : Prop) : dk_b P ≤ 1 := by
  rcases Classical.em P with h | h
  · rw [dk_bt h]; omega
  · rw [dk_bf h]; omega
noncomputable def dk_n (P : Nat → Prop) : Nat → Nat
  | 0 => 0
  | k + 1 => dk_n P k + dk_b (P k)
theorem dk_n_le (P : Nat → Prop) : ∀ N, dk_n P N ≤ N
  | 0 => Nat.le_refl _
  | N + 1 => by have := dk_n_le P N; have := dk_b_le (P N); simp only [dk_n]; omega
theorem dk_n_c {P Q : Nat → Prop} : ∀ {N : Nat}, (∀ k, k < N → (P k ↔ Q k)) → dk_n P N = dk_n Q N
  | 0, _ => rfl
  | N + 1, h => by
    simp only [dk_n]
    rw [dk_n_c (P := P) (Q := Q) (N := N) (fun k hk => h k (by omega)), dk_bc (h N (by omega))]
theorem dk_n_1 {P Q : Nat → Prop} {a : Nat} : ∀ {N : Nat}, a < N → (∀ k, k < N → k ≠ a → (P k ↔ Q k)) → dk_n Q N + dk_b (P a) = dk_n P N + dk_b (Q a)
  | 0, h, _ => by omega
  | N + 1, h, e => by
    simp only [dk_n]
    rcases Nat.lt_or_ge a N with z | z
    · have x := dk_n_1 (P := P) (Q := Q) z (fun k hk => e k (by omega))
      have y := dk_bc (e N (by omega) (by omega))
      omega
    · have z' : a = N := by omega
      subst z'
      have x := dk_n_c (P := P) (Q := Q) (N := a) (fun k hk => e k (by omega) (by omega))
      omega
theorem dk_n_z {P : Nat → Prop} : ∀ {N : Nat}, (∀ k, k < N → ¬ P k) → dk_n P N = 0
  | 0, _ => rfl
  | N + 1, h => by
    simp only [dk_n]
    rw [dk_n_z (P := P) (N := N) (fun k hk => h k (by omega)), dk_bf (h N (by omega))]
theorem dk_n_p {P : Nat → Prop} {k : Nat} : ∀ {N : Nat}, k < N → P k → 0 < dk_n P N
  | 0, h, _ => by omega
  | N + 1, h, p => by
    simp only [dk_n]
    rcases Nat.lt_or_ge k N with z | z
    · have := dk_n_p (P := P) z p
      omega
    · have e : k = N := by omega
      subst e
      rw [dk_bt p]; omega
theorem dk_n_e {P : Nat → Prop} : ∀ {N : Nat}, 0 < dk_n P N → ∃ k, k < N ∧ P k
  | 0, h => absurd h (Nat.lt_irrefl 0)
  | N + 1, h => by
    rcases Classical.em (P N) with p | p
    · exact ⟨N, by omega, p⟩
    · simp only [dk_n, dk_bf p, Nat.add_zero] at h
      obtain ⟨k, hk, pk⟩ := dk_n_e h
      exact ⟨k, by omega, pk⟩
theorem dk_n_f {P : Nat → Prop} {N k : Nat} (h : dk_n P N = 0) (hk : k < N) : ¬ P k := fun p => by
  have := dk_n_p hk p
  omega
/-- a place that isn't counted -/
theorem dk_n_lt {P : Nat → Prop} {a N : Nat} (ha : a < N) (h : ¬ P a) : dk_n P N < N := by
  have e : dk_n (fun k => P k ∨ k = a) N + dk_b (P a) = dk_n P N + dk_b (P a ∨ a = a) :=
    dk_n_1 (P := P) (Q := fun k => P k ∨ k = a) ha (fun k _ hk => ⟨Or.inl, fun z => z.elim id (fun y => absurd y hk)⟩)
  have e1 := dk_bf h
  have e2 : dk_b (P a ∨ a = a) = 1 := dk_bt (Or.inr rfl)
  have e3 := dk_n_le (fun k => P k ∨ k = a) N
  omega
/-- all are counted -/
theorem dk_n_all {P : Nat → Prop} : ∀ {N : Nat}, dk_n P N = N → ∀ k, k < N → P k := by
  intro N h k hk
  rcases Classical.em (P k) with p | p
  · exact p
  · have := dk_n_lt hk p
    omega
/-- the pigeonhole, by a relation that gives each place at most one number -/
theorem dk_pig {R : Nat → Nat → Prop} (hf : ∀ i o o', R i o → R i o' → o = o') {M : Nat} : ∀ (N : Nat) (P : Nat → Prop), (∀ o, o < N → ∃ i, i < M ∧ P i ∧ R i o) → N ≤ dk_n P M
  | 0, _, _ => Nat.zero_le _
  | N + 1, P, h => by
    obtain ⟨i, hi, pi, ri⟩ := h N (by omega)
    have x := dk_pig hf N (fun k => P k ∧ k ≠ i) (fun o ho => by
      obtain ⟨j, hj, pj, rj⟩ := h o (by omega)
      refine ⟨j, hj, ⟨pj, fun e => ?_⟩, rj⟩
      subst e
      have := hf _ _ _ ri rj
      omega)
    have e : dk_n (fun k => P k ∧ k ≠ i) M + dk_b (P i) = dk_n P M + dk_b (P i ∧ i ≠ i) :=
      dk_n_1 (P := P) (Q := fun k => P k ∧ k ≠ i) hi (fun k _ hk => ⟨fun p => ⟨p, hk⟩, fun p => p.1⟩)
    have e1 := dk_bt pi
    have e2 : dk_b (P i ∧ i ≠ i) = 0 := dk_bf (fun z => z.2 rfl)
    omega
theorem dk_room {R : Nat → Nat → Prop} (hf : ∀ i o o', R i o → R i o' → o = o') {M a : Nat} (ha : a < M) (h : ∀ o, ¬ R a o) : ∃ o, o < M ∧ ∀ i, i < M → ¬ R i o := by
  rcases Classical.em (∃ o, o < M ∧ ∀ i, i < M → ¬ R i o) with z | z
  · exact z
  · have x := dk_pig hf (M := M) M (fun i => ∃ o, R i o) (fun o ho => by
      rcases Classical.em (∃ i, i < M ∧ R i o) with y | y
      · obtain ⟨i, hi, ri⟩ := y
        exact ⟨i, hi, ⟨o, ri⟩, ri⟩
      · exact absurd ⟨o, ho, fun i hi ri => y ⟨i, hi, ri⟩⟩ z)
    have y := dk_n_lt (P := fun i => ∃ o, R i o) ha (fun w => w.elim h)
    omega
/-- the least number below N that has F, if there is one -/
theorem dk_lst {F : Nat → Prop} {N : Nat} (h : ∃ o, o < N ∧ F o) : ∃ o, o < N ∧ F o ∧ ∀ j, j < o → ¬ F j := by
  obtain ⟨k, hk, hl⟩ := pk_least (fun o => o < N ∧ F o) h
  exact ⟨k, hk.1, hk.2, fun j hj fj => hl j hj ⟨by omega, fj⟩⟩
/-! loop laws -/
theorem dk_m1 : nI 0 + (-1) = (-1 : Int32) := by rw [nI_0]; exact Int32.zero_add _
theorem dk_dn (W : Nat → Int32 → Int32 → Prop) (F : Nat → Prop) (N o : Nat) (z : Int32) (hz : nI N + (-1) = z) (ho : o < N) (hF : F o) (hl : ∀ j, j < o → ¬ F j)
    (hx : ∀ n, W (n + 1) (nI o) (-1))
    (ht : ∀ n k x, k < N → F k → W n (nI k) (nI k + (-1)) → W (n + 1) x (nI k))
    (hf : ∀ n k x, k < N → ¬ F k → W n x (nI k + (-1)) → W (n + 1) x (nI k)) : ∃ n, W n 0 z := by
  have key : ∀ k, k ≤ N → ∀ x, (k ≤ o → x = nI o) → W (k + 1) x (nI k + (-1)) := by
    intro k
    induction k with
    | zero => intro _ x h; rw [h (Nat.zero_le _), dk_m1]; exact hx 0
    | succ k ih =>
      intro hk x h
      rw [pk_m1]
      rcases Classical.em (F k) with y | y
      · refine ht _ k x (by omega) y (ih (by omega) _ (fun hko => ?_))
        rcases Nat.lt_or_ge k o with w | w
        · exact absurd y (hl k w)
        · have e : k = o := by omega
          rw [e]
      · refine hf _ k x (by omega) y (ih (by omega) x (fun hko => h ?_))
        rcases Nat.lt_or_ge k o with w | w
        · omega
        · have e : k = o := by omega
          subst e
          exact absurd hF y
  rw [← hz]
  exact ⟨N + 1, key N (Nat.le_refl _) 0 (fun h => by omega)⟩
theorem dk_up (W : Nat → Int32 → Prop) (a o : Nat) (h : a ≤ o) (hit : ∀ n, W (n + 1) (nI o)) (miss : ∀ n j, a ≤ j → j < o → W n (nI j + 1) → W (n + 1) (nI j)) : ∃ n, W n (nI a) := by
  have key : ∀ d j, a ≤ j → j + d = o → W (d + 1) (nI j) := by
    intro d
    induction d with
    | zero => intro j _ e; have e' : j = o := by omega
              rw [e']; exact hit 0
    | succ d ih => intro j h1 e; exact miss _ j h1 (by omega) (by rw [nI_1]; exact ih (j + 1) (by omega) (by omega))
  exact ⟨o - a + 1, key (o - a) a (Nat.le_refl _) (by omega)⟩
theorem dk_up0 (W : Nat → Int32 → Prop) (o : Nat) (hit : ∀ n, W (n + 1) (nI o)) (miss : ∀ n j, j < o → W n (nI j + 1) → W (n + 1) (nI j)) : ∃ n, W n 0 := by
  have z := dk_up W 0 o (Nat.zero_le _) hit (fun n j _ h => miss n j h)
  rw [nI_0] at z
  exact z
theorem dk_ct (W : Nat → Int32 → Int32 → Prop) (F : Nat → Prop) (N : Nat)
    (hx : ∀ n, W (n + 1) (nI (dk_n F N)) (nI N))
    (ht : ∀ n k c, k < N → F k → W n (nI c + 1) (nI k + 1) → W (n + 1) (nI c) (nI k))
    (hf : ∀ n k c, k < N → ¬ F k → W n (nI c) (nI k + 1) → W (n + 1) (nI c) (nI k)) : ∃ n, W n 0 0 := by
  have key : ∀ d k, k + d = N → W (d + 1) (nI (dk_n F k)) (nI k) := by
    intro d
    induction d with
    | zero => intro k e; have e' : k = N := by omega
              rw [e']; exact hx 0
    | succ d ih =>
      intro k e
      have z := ih (k + 1) (by omega)
      rcases Classical.em (F k) with y | y
      · refine ht _ k _ (by omega) y ?_
        simp only [dk_n, dk_bt y] at z
        rw [nI_1, nI_1]; exact z
      · refine hf _ k _ (by omega) y ?_
        simp only [dk_n, dk_bf y, Nat.add_zero] at z
        rw [nI_1]; exact z
  have z : W (N + 1) (nI 0) (nI 0) := key N 0 (by omega)
  rw [nI_0] at z
  exact ⟨_, z⟩
theorem dk_ct2 (W : Nat → Int32 → Int32 → Int32 → Prop) (F G : Nat → Prop) (N : Nat)
    (hx : ∀ n, W (n + 1) (nI (dk_n F N)) (nI (dk_n G N)) (nI N))
    (hs : ∀ n k a b, k < N → W n (nI (a + dk_b (F k))) (nI (b + dk_b (G k))) (nI k + 1) → W (n + 1) (nI a) (nI b) (nI k)) : ∃ n, W n 0 0 0 := by
  have key : ∀ d k, k + d = N → W (d + 1) (nI (dk_n F k)) (nI (dk_n G k)) (nI k) := by
    intro d
    induction d with
    | zero => intro k e; have e' : k = N := by omega
              rw [e']; exact hx 0
    | succ d ih =>
      intro k e
      have z := ih (k + 1) (by omega)
      simp only [dk_n] at z
      refine hs _ k _ _ (by omega) ?_
      rw [nI_1]; exact z
  have z : W (N + 1) (nI 0) (nI 0) (nI 0) := key N 0 (by omega)
  rw [nI_0] at z
  exact ⟨_, z⟩
/-! numbers -/
theorem dk_ne1 {o : Nat} (h : o < 2 ^ 31) : ¬ nI o = -1 := fun e => by
  have z := nI_pos h
  rw [e] at z
  exact z (by decide)
theorem dk_ne1' {o : Nat} (h : o < 2 ^ 31) : ¬ (-1 : Int32) = nI o := fun e => dk_ne1 h e.symm
theorem dk_inj {a b : Nat} (h : nI a = nI b) (ha : a < 2 ^ 31 := by omega) (hb : b < 2 ^ 31 := by omega) : a = b := (nI_eq ha hb).mp h
theorem dk_6 (q d : Nat) : (6 : Int32) * nI q + nI d = nI (6 * q + d) := by
  rw [show (6 : Int32) = nI 6 from rfl, pk_mul, nI_add]
theorem dk_66 (q : Nat) : (6 : Int32) * nI q = nI (6 * q) := by
  rw [show (6 : Int32) = nI 6 from rfl, pk_mul]
theorem dk_8 (q d : Nat) : (8 : Int32) * nI q + nI d = nI (8 * q + d) := by
  rw [show (8 : Int32) = nI 8 from rfl, pk_mul, nI_add]
theorem dk_r {x M : Int32} {n : Nat} (hM : M.toInt = n) (h : ¬ x < 0) (h3 : ¬ M < x) : ∃ q, q < n + 1 ∧ x = nI q := by
  obtain ⟨j, hj, e⟩ := nI_of2 hM h (Int32.not_lt.mp h3)
  exact ⟨j, by omega, e⟩
theorem dk_nb0 : vp_nar .boolean 0 = 0 := by rfl
theorem dk_nb1 : vp_nar .boolean 1 = 1 := by rfl
theorem dk_pred {n : Nat} (h : 0 < n) : nI n - 1 = nI (n - 1) := by
  obtain ⟨m, rfl⟩ : ∃ m, n = m + 1 := ⟨n - 1, by omega⟩
  rw [nI_pred]; rfl
theorem dk_ge0 {x : Int32} {j : Nat} (e : x = nI j) (h : j < 2 ^ 31 := by omega) : 0 ≤ x := by rw [e]; exact nI_pos' h
theorem dk_upd_id {f : Nat → Int32} {i : Nat} {x : Int32} (h : f i = x) : upd f i x = f := by
  funext j
  by_cases e : j = i
  · subst e; rw [pk_us, h]
  · rw [pk_un e]
end
section
def dk_L (le : Nat → Int32) (o : Nat) : Prop := ∃ i, i < 24 ∧ le i = nI o
noncomputable def dk_K (le so wh : Nat → Int32) (s : Int32) (t : Nat) : Nat := dk_n (fun o => dk_L le o ∧ so o = s ∧ wh o = nI t) 24
def dk_IA (lv : Int32) (al le : Nat → Int32) : Prop := lv = nI (dk_n (fun p => ¬ al p = 0) 4) ∧ ∀ p d, p < 4 → al p = 0 → d < 6 → le (6 * p + d) = -1
def dk_IL (le : Nat → Int32) : Prop := ∀ i, i < 24 → le i = -1 ∨ ∃ o, o < 24 ∧ le i = nI o
def dk_IU (le us : Nat → Int32) : Prop := ∀ o, o < 24 → us o = nI (dk_n (fun i => le i = nI o) 24)
def dk_IS (le so xs wh : Nat → Int32) : Prop := ∀ o, o < 24 → dk_L le o → (so o = 0 ∧ xs o = 1 ∧ ∃ f, f < 28 ∧ wh o = nI f) ∨ (so o = 1 ∧ xs o = 2 ∧ ∃ p, p < 24 ∧ wh o = nI p) ∨ (so o = 2 ∧ xs o = 3 ∧ ∃ p, p < 24 ∧ wh o = nI p)
def dk_IO (le so wh og fs : Nat → Int32) : Prop := ∀ o f, o < 24 → f < 28 → dk_L le o → so o = 0 → wh o = nI f → ∃ a l, a ≤ l ∧ l ≤ 8 ∧ og o = nI a ∧ fs f = nI l
def dk_IF (fs : Nat → Int32) : Prop := ∀ f, f < 28 → ∃ l, l ≤ 8 ∧ fs f = nI l
def dk_IN (nm : Nat → Int32) : Prop := ∀ n, n < 4 → nm n = -1 ∨ ∃ f, f < 28 ∧ nm n = nI f
def dk_IQ (le so wh nm fu : Nat → Int32) : Prop := ∀ f, f < 28 → fu f = nI (dk_n (fun n => nm n = nI f) 4 + dk_K le so wh 0 f)
def dk_IR (le so wh h : Nat → Int32) (s : Int32) : Prop := ∀ p, p < 24 → h p = nI (dk_K le so wh s p) ∧ dk_K le so wh s p ≤ 1
def dk_IP (ps pc xb yb : Nat → Int32) : Prop := ∀ p, p < 24 → ∃ s c, s < 6 ∧ c ≤ 6 ∧ ps p = nI s ∧ pc p = nI c ∧ ∀ i, i < c → yb (6 * p + i) = xb (6 * p + (s + i) % 6)
def dk_I (lv : Int32) (al le us xs wh og nm fu fs hr hw ps pc xb so yb : Nat → Int32) : Prop :=
  dk_IA lv al le ∧ dk_IL le ∧ dk_IU le us ∧ dk_IS le so xs wh ∧ dk_IO le so wh og fs ∧ dk_IF fs ∧ dk_IN nm ∧ dk_IQ le so wh nm fu ∧ dk_IR le so wh hr 1 ∧ dk_IR le so wh hw 2 ∧ dk_IP ps pc xb yb
section
variable {lv : Int32} {al le us xs wh og nm fu fs hr hw ps pc xb so yb : Nat → Int32}
/-! live openings -/
theorem dk_L_n {o : Nat} : dk_L le o ↔ 0 < dk_n (fun i => le i = nI o) 24 :=
  ⟨fun ⟨_, hi, e⟩ => dk_n_p (P := fun i => le i = nI o) hi e, fun h => dk_n_e h⟩
theorem dk_us_L (U : dk_IU le us) {o : Nat} (ho : o < 24) : us o = 0 ↔ ¬ dk_L le o := by
  rw [U o ho, dk_L_n]
  have h := dk_n_le (fun i => le i = nI o) 24
  rw [← nI_0, nI_eq (by omega) (by omega)]
  omega
theorem dk_free (L : dk_IL le) {i : Nat} (hi : i < 24) : ¬ 0 ≤ le i ↔ le i = -1 := by
  rcases L i hi with e | ⟨o, ho, e⟩
  · rw [e]; decide
  · rw [e]
    exact ⟨fun h => absurd (nI_pos' (by omega)) h, fun h => absurd h (dk_ne1 (by omega))⟩
theorem dk_used (L : dk_IL le) {i : Nat} (hi : i < 24) (h : 0 ≤ le i) : ∃ o, o < 24 ∧ le i = nI o := by
  rcases L i hi with e | z
  · rw [e] at h; exact absurd h (by decide)
  · exact z
/-! one more descriptor -/
theorem dk_add_n {i o k : Nat} (hi : i < 24) (h : le i = -1) (ho : o < 24) (hk : k < 24) :
    dk_n (fun j => upd le i (nI o) j = nI k) 24 = dk_n (fun j => le j = nI k) 24 + dk_b (o = k) := by
  have e : dk_n (fun j => upd le i (nI o) j = nI k) 24 + dk_b (le i = nI k) = dk_n (fun j => le j = nI k) 24 + dk_b (upd le i (nI o) i = nI k) :=
    dk_n_1 (P := fun j => le j = nI k) (Q := fun j => upd le i (nI o) j = nI k) hi (fun j _ hj => by rw [pk_un hj])
  have e1 : dk_b (le i = nI k) = 0 := dk_bf (by rw [h]; exact dk_ne1' (by omega))
  have e2 : dk_b (upd le i (nI o) i = nI k) = dk_b (o = k) := dk_bc (by rw [pk_us]; exact nI_eq (by omega) (by omega))
  omega
theorem dk_add_L {i o k : Nat} (hi : i < 24) (h : le i = -1) (ho : o < 24) (hk : k < 24) :
    dk_L (upd le i (nI o)) k ↔ dk_L le k ∨ k = o := by
  rw [dk_L_n, dk_L_n, dk_add_n hi h ho hk]
  rcases Classical.em (o = k) with e | e
  · rw [dk_bt e]; omega
  · rw [dk_bf e]; omega
theorem dk_add_IL {i o : Nat} (L : dk_IL le) (ho : o < 24) : dk_IL (upd le i (nI o)) := fun j hj => by
  by_cases e : j = i
  · subst e; rw [pk_us]; exact Or.inr ⟨o, ho, rfl⟩
  · rw [pk_un e]; exact L j hj
theorem dk_add_IU {i o : Nat} (U : dk_IU le us) (hi : i < 24) (h : le i = -1) (ho : o < 24) : dk_IU (upd le i (nI o)) (upd us o (us o + 1)) := fun k hk => by
  rw [dk_add_n hi h ho hk]
  by_cases e : k = o
  · subst e; rw [pk_us, dk_bt rfl, U k hk, nI_1]
  · rw [pk_un e, dk_bf (fun z => e z.symm), U k hk]; rfl
theorem dk_add_IA {q d : Nat} {x : Int32} (A : dk_IA lv al le) (hd : d < 6) (ha : ¬ al q = 0) : dk_IA lv al (upd le (6 * q + d) x) :=
  ⟨A.1, fun p e hp z he => by
    have hn : p ≠ q := fun y => by subst y; exact ha z
    rw [pk_un (by omega)]
    exact A.2 p e hp z he⟩
/-- another descriptor for a live opening -/
theorem dk_dup {q d o : Nat} (I : dk_I lv al le us xs wh og nm fu fs hr hw ps pc xb so yb) (hq : q < 4) (hd : d < 6) (ha : ¬ al q = 0) (h : le (6 * q + d) = -1) (ho : o < 24) (hl : dk_L le o) :
    dk_I lv al (upd le (6 * q + d) (nI o)) (upd us o (us o + 1)) xs wh og nm fu fs hr hw ps pc xb so yb := by
  obtain ⟨A, L, U, S, O, F, N, Q, R, W, P⟩ := I
  have hi : 6 * q + d < 24 := by omega
  have eL : ∀ k, k < 24 → (dk_L (upd le (6 * q + d) (nI o)) k ↔ dk_L le k) := fun k hk => by
    rw [dk_add_L hi h ho hk]
    exact ⟨fun z => z.elim id (fun e => by rw [e]; exact hl), Or.inl⟩
  have eK : ∀ s t, dk_K (upd le (6 * q + d) (nI o)) so wh s t = dk_K le so wh s t := fun s t =>
    dk_n_c (fun k hk => by rw [eL k hk])
  refine ⟨dk_add_IA A hd ha, dk_add_IL L ho, dk_add_IU U hi h ho, ?_, ?_, F, N, ?_, ?_, ?_, P⟩
  · intro k hk lk; exact S k hk ((eL k hk).mp lk)
  · intro k f hk hf lk; exact O k f hk hf ((eL k hk).mp lk)
  · intro f hf; rw [eK]; exact Q f hf
  · intro p hp; rw [eK]; exact R p hp
  · intro p hp; rw [eK]; exact W p hp
/-- a new opening -/
theorem dk_new_K {i o t : Nat} {s : Int32} (hi : i < 24) (h : le i = -1) (ho : o < 24) (hn : ¬ dk_L le o) (ht : t < 28) (s' : Int32) {t' : Nat} (ht' : t' < 28) :
    dk_K (upd le i (nI o)) (upd so o s) (upd wh o (nI t)) s' t' = dk_K le so wh s' t' + dk_b (s = s' ∧ t = t') := by
  have e : dk_n (fun k => dk_L (upd le i (nI o)) k ∧ upd so o s k = s' ∧ upd wh o (nI t) k = nI t') 24 + dk_b (dk_L le o ∧ so o = s' ∧ wh o = nI t')
      = dk_n (fun k => dk_L le k ∧ so k = s' ∧ wh k = nI t') 24 + dk_b (dk_L (upd le i (nI o)) o ∧ upd so o s o = s' ∧ upd wh o (nI t) o = nI t') :=
    dk_n_1 (P := fun k => dk_L le k ∧ so k = s' ∧ wh k = nI t') (Q := fun k => dk_L (upd le i (nI o)) k ∧ upd so o s k = s' ∧ upd wh o (nI t) k = nI t') ho (fun k hk hne => by
      rw [pk_un hne, pk_un hne, dk_add_L hi h ho hk]
      exact ⟨fun z => ⟨Or.inl z.1, z.2⟩, fun z => ⟨z.1.elim id (fun y => absurd y hne), z.2⟩⟩)
  have e1 : dk_b (dk_L le o ∧ so o = s' ∧ wh o = nI t') = 0 := dk_bf (fun z => hn z.1)
  have e2 : dk_b (dk_L (upd le i (nI o)) o ∧ upd so o s o = s' ∧ upd wh o (nI t) o = nI t') = dk_b (s = s' ∧ t = t') := dk_bc (by
    rw [pk_us, pk_us, nI_eq (by omega) (by omega)]
    exact ⟨fun z => z.2, fun z => ⟨(dk_add_L hi h ho ho).mpr (Or.inr rfl), z⟩⟩)
  unfold dk_K
  omega
theorem dk_new_IU {i o : Nat} (U : dk_IU le us) (hi : i < 24) (h : le i = -1) (ho : o < 24) (hn : ¬ dk_L le o) : dk_IU (upd le i (nI o)) (upd us o 1) := by
  have z := dk_add_IU U hi h ho
  rw [(dk_us_L U ho).mpr hn] at z
  exact z
theorem dk_new_IS {i o t : Nat} {s x : Int32} (S : dk_IS le so xs wh) (hi : i < 24) (h : le i = -1) (ho : o < 24)
    (hs : (s = 0 ∧ x = 1 ∧ t < 28) ∨ (s = 1 ∧ x = 2 ∧ t < 24) ∨ (s = 2 ∧ x = 3 ∧ t < 24)) :
    dk_IS (upd le i (nI o)) (upd so o s) (upd xs o x) (upd wh o (nI t)) := fun k hk lk => by
  by_cases e : k = o
  · subst e
    rw [pk_us, pk_us, pk_us]
    rcases hs with ⟨a, b, c⟩ | ⟨a, b, c⟩ | ⟨a, b, c⟩
    · exact Or.inl ⟨a, b, t, c, rfl⟩
    · exact Or.inr (Or.inl ⟨a, b, t, c, rfl⟩)
    · exact Or.inr (Or.inr ⟨a, b, t, c, rfl⟩)
  · rw [pk_un e, pk_un e, pk_un e]
    exact S k hk (((dk_add_L hi h ho hk).mp lk).elim id (fun y => absurd y e))
theorem dk_new_IO {i o t : Nat} {s : Int32} (O : dk_IO le so wh og fs) (F : dk_IF fs) (hi : i < 24) (h : le i = -1) (ho : o < 24) :
    dk_IO (upd le i (nI o)) (upd so o s) (upd wh o (nI t)) (upd og o 0) fs := fun k f hk hf lk => by
  by_cases e : k = o
  · subst e
    intro _ _
    obtain ⟨l, hl, e⟩ := F f hf
    exact ⟨0, l, Nat.zero_le _, hl, pk_us.trans nI_0.symm, e⟩
  · rw [pk_un e, pk_un e, pk_un e]
    exact O k f hk hf (((dk_add_L hi h ho hk).mp lk).elim id (fun y => absurd y e))
/-- a new opening of a file -/
theorem dk_newF {q d o f : Nat} (I : dk_I lv al le us xs wh og nm fu fs hr hw ps pc xb so yb) (hq : q < 4) (hd : d < 6) (ha : ¬ al q = 0) (h : le (6 * q + d) = -1) (ho : o < 24) (hn : ¬ dk_L le o) (hf : f < 28) :
    dk_I lv al (upd le (6 * q + d) (nI o)) (upd us o 1) (upd xs o 1) (upd wh o (nI f)) (upd og o 0) nm (upd fu f (fu f + 1)) fs hr hw ps pc xb (upd so o 0) yb := by
  obtain ⟨A, L, U, S, O, F, N, Q, R, W, P⟩ := I
  have hi : 6 * q + d < 24 := by omega
  refine ⟨dk_add_IA A hd ha, dk_add_IL L ho, dk_new_IU U hi h ho hn, dk_new_IS S hi h ho (Or.inl ⟨rfl, rfl, hf⟩), dk_new_IO O F hi h ho, F, N, ?_, ?_, ?_, P⟩
  · intro g hg
    rw [dk_new_K hi h ho hn hf 0 hg]
    by_cases e : g = f
    · subst e
      rw [pk_us, dk_bt ⟨rfl, rfl⟩, Q g hg, nI_1]; rfl
    · rw [pk_un e, dk_bf (fun z => e z.2.symm), Q g hg]; rfl
  · intro p hp
    rw [dk_new_K hi h ho hn hf 1 (by omega), dk_bf (fun z => absurd z.1 (by decide))]
    exact R p hp
  · intro p hp
    rw [dk_new_K hi h ho hn hf 2 (by omega), dk_bf (fun z => absurd z.1 (by decide))]
    exact W p hp
/-- the reading end of a new pipe -/
theorem dk_newR {q d o p : Nat} (I : dk_I lv al le us xs wh og nm fu fs hr hw ps pc xb so yb) (hq : q < 4) (hd : d < 6) (ha : ¬ al q = 0) (h : le (6 * q + d) = -1) (ho : o < 24) (hn : ¬ dk_L le o) (hp : p < 24) (h0 : hr p = 0) :
    dk_I lv al (upd le (6 * q + d) (nI o)) (upd us o 1) (upd xs o 2) (upd wh o (nI p)) (upd og o 0) nm fu fs (upd hr p 1) hw (upd ps p 0) (upd pc p 0) xb (upd so o 1) yb := by
  obtain ⟨A, L, U, S, O, F, N, Q, R, W, P⟩ := I
  have hi : 6 * q + d < 24 := by omega
  refine ⟨dk_add_IA A hd ha, dk_add_IL L ho, dk_new_IU U hi h ho hn, dk_new_IS S hi h ho (Or.inr (Or.inl ⟨rfl, rfl, hp⟩)), dk_new_IO O F hi h ho, F, N, ?_, ?_, ?_, ?_⟩
  · intro g hg
    rw [dk_new_K hi h ho hn (by omega) 0 hg, dk_bf (fun z => absurd z.1 (by decide))]
    exact Q g hg
  · intro g hg
    rw [dk_new_K hi h ho hn (by omega) 1 (by omega)]
    by_cases e : g = p
    · subst e
      have r := R g hg
      rw [h0] at r
      have r2 := r.2
      have z : dk_K le so wh 1 g = 0 := (dk_inj (a := 0) (b := dk_K le so wh 1 g) r.1).symm
      rw [pk_us, dk_bt ⟨rfl, rfl⟩, z]
      exact ⟨rfl, Nat.le_refl _⟩
    · rw [pk_un e, dk_bf (fun z => e z.2.symm)]
      exact R g hg
  · intro g hg
    rw [dk_new_K hi h ho hn (by omega) 2 (by omega), dk_bf (fun z => absurd z.1 (by decide))]
    exact W g hg
  · intro g hg
    by_cases e : g = p
    · subst e
      rw [pk_us, pk_us]
      exact ⟨0, 0, by omega, by omega, nI_0.symm, nI_0.symm, fun i hi => absurd hi (Nat.not_lt_zero _)⟩
    · rw [pk_un e, pk_un e]
      exact P g hg
/-- the writing end -/
theorem dk_newW {q d o p : Nat} (I : dk_I lv al le us xs wh og nm fu fs hr hw ps pc xb so yb) (hq : q < 4) (hd : d < 6) (ha : ¬ al q = 0) (h : le (6 * q + d) = -1) (ho : o < 24) (hn : ¬ dk_L le o) (hp : p < 24) (h0 : hw p = 0) :
    dk_I lv al (upd le (6 * q + d) (nI o)) (upd us o 1) (upd xs o 3) (upd wh o (nI p)) (upd og o 0) nm fu fs hr (upd hw p 1) ps pc xb (upd so o 2) yb := by
  obtain ⟨A, L, U, S, O, F, N, Q, R, W, P⟩ := I
  have hi : 6 * q + d < 24 := by omega
  refine ⟨dk_add_IA A hd ha, dk_add_IL L ho, dk_new_IU U hi h ho hn, dk_new_IS S hi h ho (Or.inr (Or.inr ⟨rfl, rfl, hp⟩)), dk_new_IO O F hi h ho, F, N, ?_, ?_, ?_, P⟩
  · intro g hg
    rw [dk_new_K hi h ho hn (by omega) 0 hg, dk_bf (fun z => absurd z.1 (by decide))]
    exact Q g hg
  · intro g hg
    rw [dk_new_K hi h ho hn (by omega) 1 (by omega), dk_bf (fun z => absurd z.1 (by decide))]
    exact R g hg
  · intro g hg
    rw [dk_new_K hi h ho hn (by omega) 2 (by omega)]
    by_cases e : g = p
    · subst e
      have r := W g hg
      rw [h0] at r
      have r2 := r.2
      have z : dk_K le so wh 2 g = 0 := (dk_inj (a := 0) (b := dk_K le so wh 2 g) r.1).symm
      rw [pk_us, dk_bt ⟨rfl, rfl⟩, z]
      exact ⟨rfl, Nat.le_refl _⟩
    · rw [pk_un e, dk_bf (fun z => e z.2.symm)]
      exact W g hg
end
end
section
section
variable {lv : Int32} {al le us xs wh og nm fu fs hr hw ps pc xb so yb : Nat → Int32}
/-! one descriptor less -/
theorem dk_del_n {i o k : Nat} (hi : i < 24) (h : le i = nI o) (ho : o < 24) (hk : k < 24) :
    dk_n (fun j => upd le i (-1) j = nI k) 24 + dk_b (o = k) = dk_n (fun j => le j = nI k) 24 := by
  have e : dk_n (fun j => upd le i (-1) j = nI k) 24 + dk_b (le i = nI k) = dk_n (fun j => le j = nI k) 24 + dk_b (upd le i (-1) i = nI k) :=
    dk_n_1 (P := fun j => le j = nI k) (Q := fun j => upd le i (-1) j = nI k) hi (fun j _ hj => by rw [pk_un hj])
  have e1 : dk_b (le i = nI k) = dk_b (o = k) := dk_bc (by rw [h]; exact nI_eq (by omega) (by omega))
  have e2 : dk_b (upd le i (-1) i = nI k) = 0 := dk_bf (by rw [pk_us]; exact dk_ne1' (by omega))
  omega
theorem dk_del_L {i o k : Nat} (hi : i < 24) (h : le i = nI o) (ho : o < 24) (hk : k < 24) (hne : k ≠ o) :
    dk_L (upd le i (-1)) k ↔ dk_L le k := by
  have e := dk_del_n hi h ho hk
  rw [dk_bf (fun z => hne z.symm)] at e
  rw [dk_L_n, dk_L_n]
  omega
theorem dk_del_IL {i : Nat} (L : dk_IL le) : dk_IL (upd le i (-1)) := fun j hj => by
  by_cases e : j = i
  · subst e; rw [pk_us]; exact Or.inl rfl
  · rw [pk_un e]; exact L j hj
theorem dk_del_us {i o : Nat} (U : dk_IU le us) (hi : i < 24) (h : le i = nI o) (ho : o < 24) :
    us o - 1 = nI (dk_n (fun j => upd le i (-1) j = nI o) 24) := by
  have e := dk_del_n hi h ho ho
  rw [dk_bt rfl] at e
  rw [U o ho, dk_pred (by omega)]
  exact congrArg nI (by omega)
theorem dk_del_IU {i o : Nat} (U : dk_IU le us) (hi : i < 24) (h : le i = nI o) (ho : o < 24) : dk_IU (upd le i (-1)) (upd us o (us o - 1)) := fun k hk => by
  by_cases e : k = o
  · subst e; rw [pk_us]; exact dk_del_us U hi h ho
  · have e1 := dk_del_n hi h ho hk
    rw [dk_bf (fun z => e z.symm)] at e1
    rw [pk_un e, U k hk]
    exact congrArg nI (by omega)
theorem dk_del_IA {i : Nat} (A : dk_IA lv al le) : dk_IA lv al (upd le i (-1)) :=
  ⟨A.1, fun p e hp z he => by
    by_cases y : 6 * p + e = i
    · rw [y, pk_us]
    · rw [pk_un y]; exact A.2 p e hp z he⟩
/-- the opening stays -/
theorem dk_drop1 {i o : Nat} (I : dk_I lv al le us xs wh og nm fu fs hr hw ps pc xb so yb) (hi : i < 24) (h : le i = nI o) (ho : o < 24) (hl : dk_L (upd le i (-1)) o) :
    dk_I lv al (upd le i (-1)) (upd us o (us o - 1)) xs wh og nm fu fs hr hw ps pc xb so yb := by
  obtain ⟨A, L, U, S, O, F, N, Q, R, W, P⟩ := I
  have eL : ∀ k, k < 24 → (dk_L (upd le i (-1)) k ↔ dk_L le k) := fun k hk => by
    by_cases e : k = o
    · subst e; exact ⟨fun _ => ⟨i, hi, h⟩, fun _ => hl⟩
    · exact dk_del_L hi h ho hk e
  have eK : ∀ s t, dk_K (upd le i (-1)) so wh s t = dk_K le so wh s t := fun s t =>
    dk_n_c (fun k hk => by rw [eL k hk])
  refine ⟨dk_del_IA A, dk_del_IL L, dk_del_IU U hi h ho, ?_, ?_, F, N, ?_, ?_, ?_, P⟩
  · intro k hk lk; exact S k hk ((eL k hk).mp lk)
  · intro k f hk hf lk; exact O k f hk hf ((eL k hk).mp lk)
  · intro f hf; rw [eK]; exact Q f hf
  · intro p hp; rw [eK]; exact R p hp
  · intro p hp; rw [eK]; exact W p hp
/-- the opening goes -/
theorem dk_del_K {i o : Nat} (hi : i < 24) (h : le i = nI o) (ho : o < 24) (hn : ¬ dk_L (upd le i (-1)) o) (s : Int32) (t : Nat) :
    dk_K (upd le i (-1)) so wh s t + dk_b (so o = s ∧ wh o = nI t) = dk_K le so wh s t := by
  have e : dk_n (fun k => dk_L (upd le i (-1)) k ∧ so k = s ∧ wh k = nI t) 24 + dk_b (dk_L le o ∧ so o = s ∧ wh o = nI t)
      = dk_n (fun k => dk_L le k ∧ so k = s ∧ wh k = nI t) 24 + dk_b (dk_L (upd le i (-1)) o ∧ so o = s ∧ wh o = nI t) :=
    dk_n_1 (P := fun k => dk_L le k ∧ so k = s ∧ wh k = nI t) (Q := fun k => dk_L (upd le i (-1)) k ∧ so k = s ∧ wh k = nI t) ho (fun k hk hne => by
      rw [dk_del_L hi h ho hk hne])
  have e1 : dk_b (dk_L le o ∧ so o = s ∧ wh o = nI t) = dk_b (so o = s ∧ wh o = nI t) := dk_bc ⟨fun z => z.2, fun z => ⟨⟨i, hi, h⟩, z⟩⟩
  have e2 : dk_b (dk_L (upd le i (-1)) o ∧ so o = s ∧ wh o = nI t) = 0 := dk_bf (fun z => hn z.1)
  unfold dk_K
  omega
theorem dk_del_L2 {i o k : Nat} (hi : i < 24) (h : le i = nI o) (ho : o < 24) (hn : ¬ dk_L (upd le i (-1)) o) (hk : k < 24) (lk : dk_L (upd le i (-1)) k) : dk_L le k := by
  by_cases e : k = o
  · subst e; exact absurd lk hn
  · exact (dk_del_L hi h ho hk e).mp lk
theorem dk_dropF {i o f : Nat} (I : dk_I lv al le us xs wh og nm fu fs hr hw ps pc xb so yb) (hi : i < 24) (h : le i = nI o) (ho : o < 24) (hn : ¬ dk_L (upd le i (-1)) o) (hs : so o = 0) (hf : f < 28) (hw' : wh o = nI f) :
    dk_I lv al (upd le i (-1)) (upd us o (us o - 1)) xs wh og nm (upd fu f (fu f - 1)) fs hr hw ps pc xb so yb := by
  obtain ⟨A, L, U, S, O, F, N, Q, R, W, P⟩ := I
  refine ⟨dk_del_IA A, dk_del_IL L, dk_del_IU U hi h ho, ?_, ?_, F, N, ?_, ?_, ?_, P⟩
  · intro k hk lk; exact S k hk (dk_del_L2 hi h ho hn hk lk)
  · intro k f hk hf lk; exact O k f hk hf (dk_del_L2 hi h ho hn hk lk)
  · intro g hg
    have e := dk_del_K (so := so) (wh := wh) hi h ho hn 0 g
    by_cases y : g = f
    · subst y
      rw [dk_bt ⟨hs, hw'⟩] at e
      rw [pk_us, Q g hg, dk_pred (by omega)]
      exact congrArg nI (by omega)
    · rw [dk_bf (fun z => y (dk_inj (z.2.symm.trans hw')))] at e
      rw [pk_un y, Q g hg]
      exact congrArg nI (by omega)
  · intro g hg
    have e := dk_del_K (so := so) (wh := wh) hi h ho hn 1 g
    rw [dk_bf (fun z => absurd (hs.symm.trans z.1) (by decide)), Nat.add_zero] at e
    rw [e]
    exact R g hg
  · intro g hg
    have e := dk_del_K (so := so) (wh := wh) hi h ho hn 2 g
    rw [dk_bf (fun z => absurd (hs.symm.trans z.1) (by decide)), Nat.add_zero] at e
    rw [e]
    exact W g hg
theorem dk_dropR {i o p : Nat} (I : dk_I lv al le us xs wh og nm fu fs hr hw ps pc xb so yb) (hi : i < 24) (h : le i = nI o) (ho : o < 24) (hn : ¬ dk_L (upd le i (-1)) o) (hs : so o = 1) (hp : p < 24) (hw' : wh o = nI p) :
    dk_I lv al (upd le i (-1)) (upd us o (us o - 1)) xs wh og nm fu fs (upd hr p 0) hw ps pc xb so yb := by
  obtain ⟨A, L, U, S, O, F, N, Q, R, W, P⟩ := I
  refine ⟨dk_del_IA A, dk_del_IL L, dk_del_IU U hi h ho, ?_, ?_, F, N, ?_, ?_, ?_, P⟩
  · intro k hk lk; exact S k hk (dk_del_L2 hi h ho hn hk lk)
  · intro k f hk hf lk; exact O k f hk hf (dk_del_L2 hi h ho hn hk lk)
  · intro g hg
    have e := dk_del_K (so := so) (wh := wh) hi h ho hn 0 g
    rw [dk_bf (fun z => absurd (hs.symm.trans z.1) (by decide)), Nat.add_zero] at e
    rw [e]
    exact Q g hg
  · intro g hg
    have e := dk_del_K (so := so) (wh := wh) hi h ho hn 1 g
    have r := R g hg
    have r2 := r.2
    by_cases y : g = p
    · subst y
      rw [dk_bt ⟨hs, hw'⟩] at e
      have z : dk_K (upd le i (-1)) so wh 1 g = 0 := by omega
      rw [pk_us, z]
      exact ⟨nI_0.symm, Nat.zero_le _⟩
    · rw [dk_bf (fun z => y (dk_inj (z.2.symm.trans hw'))), Nat.add_zero] at e
      rw [pk_un y, e]
      exact r
  · intro g hg
    have e := dk_del_K (so := so) (wh := wh) hi h ho hn 2 g
    rw [dk_bf (fun z => absurd (hs.symm.trans z.1) (by decide)), Nat.add_zero] at e
    rw [e]
    exact W g hg
theorem dk_dropW {i o p : Nat} (I : dk_I lv al le us xs wh og nm fu fs hr hw ps pc xb so yb) (hi : i < 24) (h : le i = nI o) (ho : o < 24) (hn : ¬ dk_L (upd le i (-1)) o) (hs : so o = 2) (hp : p < 24) (hw' : wh o = nI p) :
    dk_I lv al (upd le i (-1)) (upd us o (us o - 1)) xs wh og nm fu fs hr (upd hw p 0) ps pc xb so yb := by
  obtain ⟨A, L, U, S, O, F, N, Q, R, W, P⟩ := I
  refine ⟨dk_del_IA A, dk_del_IL L, dk_del_IU U hi h ho, ?_, ?_, F, N, ?_, ?_, ?_, P⟩
  · intro k hk lk; exact S k hk (dk_del_L2 hi h ho hn hk lk)
  · intro k f hk hf lk; exact O k f hk hf (dk_del_L2 hi h ho hn hk lk)
  · intro g hg
    have e := dk_del_K (so := so) (wh := wh) hi h ho hn 0 g
    rw [dk_bf (fun z => absurd (hs.symm.trans z.1) (by decide)), Nat.add_zero] at e
    rw [e]
    exact Q g hg
  · intro g hg
    have e := dk_del_K (so := so) (wh := wh) hi h ho hn 1 g
    rw [dk_bf (fun z => absurd (hs.symm.trans z.1) (by decide)), Nat.add_zero] at e
    rw [e]
    exact R g hg
  · intro g hg
    have e := dk_del_K (so := so) (wh := wh) hi h ho hn 2 g
    have r := W g hg
    have r2 := r.2
    by_cases y : g = p
    · subst y
      rw [dk_bt ⟨hs, hw'⟩] at e
      have z : dk_K (upd le i (-1)) so wh 2 g = 0 := by omega
      rw [pk_us, z]
      exact ⟨nI_0.symm, Nat.zero_le _⟩
    · rw [dk_bf (fun z => y (dk_inj (z.2.symm.trans hw'))), Nat.add_zero] at e
      rw [pk_un y, e]
      exact r
end
end
section
section
variable {lv : Int32} {al le us xs wh og nm fu fs hr hw ps pc xb so yb : Nat → Int32}
/-! names -/
theorem dk_nm_n {n f g : Nat} (hn : n < 4) (h : nm n = -1) (hf : f < 28) (hg : g < 28) :
    dk_n (fun j => upd nm n (nI f) j = nI g) 4 = dk_n (fun j => nm j = nI g) 4 + dk_b (f = g) := by
  have e : dk_n (fun j => upd nm n (nI f) j = nI g) 4 + dk_b (nm n = nI g) = dk_n (fun j => nm j = nI g) 4 + dk_b (upd nm n (nI f) n = nI g) :=
    dk_n_1 (P := fun j => nm j = nI g) (Q := fun j => upd nm n (nI f) j = nI g) hn (fun j _ hj => by rw [pk_un hj])
  have e1 : dk_b (nm n = nI g) = 0 := dk_bf (by rw [h]; exact dk_ne1' (by omega))
  have e2 : dk_b (upd nm n (nI f) n = nI g) = dk_b (f = g) := dk_bc (by rw [pk_us]; exact nI_eq (by omega) (by omega))
  omega
theorem dk_nm_d {n f g : Nat} (hn : n < 4) (h : nm n = nI f) (hf : f < 28) (hg : g < 28) :
    dk_n (fun j => upd nm n (-1) j = nI g) 4 + dk_b (f = g) = dk_n (fun j => nm j = nI g) 4 := by
  have e : dk_n (fun j => upd nm n (-1) j = nI g) 4 + dk_b (nm n = nI g) = dk_n (fun j => nm j = nI g) 4 + dk_b (upd nm n (-1) n = nI g) :=
    dk_n_1 (P := fun j => nm j = nI g) (Q := fun j => upd nm n (-1) j = nI g) hn (fun j _ hj => by rw [pk_un hj])
  have e1 : dk_b (nm n = nI g) = dk_b (f = g) := dk_bc (by rw [h]; exact nI_eq (by omega) (by omega))
  have e2 : dk_b (upd nm n (-1) n = nI g) = 0 := dk_bf (by rw [pk_us]; exact dk_ne1' (by omega))
  omega
theorem dk_nm_IN {n f : Nat} (N : dk_IN nm) (hf : f < 28) : dk_IN (upd nm n (nI f)) := fun j hj => by
  by_cases e : j = n
  · subst e; rw [pk_us]; exact Or.inr ⟨f, hf, rfl⟩
  · rw [pk_un e]; exact N j hj
/-- what fileUsers = 0 says -/
theorem dk_fu0 (Q : dk_IQ le so wh nm fu) {f : Nat} (hf : f < 28) : fu f = 0 ↔ dk_n (fun n => nm n = nI f) 4 = 0 ∧ dk_K le so wh 0 f = 0 := by
  rw [Q f hf]
  have h1 := dk_n_le (fun n => nm n = nI f) 4
  have h2 : dk_K le so wh 0 f ≤ 24 := dk_n_le _ 24
  generalize dk_K le so wh 0 f = m at h2
  generalize dk_n (fun n => nm n = nI f) 4 = r at h1
  rw [← nI_0, nI_eq (by omega) (by omega)]
  omega
theorem dk_mkfile {n f : Nat} (I : dk_I lv al le us xs wh og nm fu fs hr hw ps pc xb so yb) (hn : n < 4) (h : nm n = -1) (hf : f < 28) (h0 : fu f = 0) :
    dk_I lv al le us xs wh og (upd nm n (nI f)) (upd fu f 1) (upd fs f 0) hr hw ps pc xb so yb := by
  obtain ⟨A, L, U, S, O, F, N, Q, R, W, P⟩ := I
  have z := (dk_fu0 Q hf).mp h0
  refine ⟨A, L, U, S, ?_, ?_, dk_nm_IN N hf, ?_, R, W, P⟩
  · intro o g ho hg lo so0 wg
    by_cases e : g = f
    · subst e
      exact absurd ⟨lo, so0, wg⟩ (dk_n_f (P := fun o => dk_L le o ∧ so o = 0 ∧ wh o = nI g) z.2 ho)
    · rw [pk_un e]; exact O o g ho hg lo so0 wg
  · intro g hg
    by_cases e : g = f
    · subst e; rw [pk_us]; exact ⟨0, by omega, nI_0.symm⟩
    · rw [pk_un e]; exact F g hg
  · intro g hg
    rw [dk_nm_n hn h hf hg]
    by_cases e : g = f
    · subst e
      rw [pk_us, dk_bt rfl, z.1, z.2]; rfl
    · rw [pk_un e, dk_bf (fun y => e y.symm), Q g hg]; rfl
theorem dk_link {n f : Nat} (I : dk_I lv al le us xs wh og nm fu fs hr hw ps pc xb so yb) (hn : n < 4) (h : nm n = -1) (hf : f < 28) :
    dk_I lv al le us xs wh og (upd nm n (nI f)) (upd fu f (fu f + 1)) fs hr hw ps pc xb so yb := by
  obtain ⟨A, L, U, S, O, F, N, Q, R, W, P⟩ := I
  refine ⟨A, L, U, S, O, F, dk_nm_IN N hf, ?_, R, W, P⟩
  intro g hg
  rw [dk_nm_n hn h hf hg]
  by_cases e : g = f
  · subst e
    rw [pk_us, dk_bt rfl, Q g hg, nI_1]
    exact congrArg nI (by omega)
  · rw [pk_un e, dk_bf (fun y => e y.symm), Q g hg]; rfl
theorem dk_unlink {n f : Nat} (I : dk_I lv al le us xs wh og nm fu fs hr hw ps pc xb so yb) (hn : n < 4) (h : nm n = nI f) (hf : f < 28) :
    dk_I lv al le us xs wh og (upd nm n (-1)) (upd fu f (fu f - 1)) fs hr hw ps pc xb so yb := by
  obtain ⟨A, L, U, S, O, F, N, Q, R, W, P⟩ := I
  refine ⟨A, L, U, S, O, F, ?_, ?_, R, W, P⟩
  · intro j hj
    by_cases e : j = n
    · subst e; rw [pk_us]; exact Or.inl rfl
    · rw [pk_un e]; exact N j hj
  · intro g hg
    have z := dk_nm_d hn h hf hg
    by_cases e : g = f
    · subst e
      rw [dk_bt rfl] at z
      rw [pk_us, Q g hg, dk_pred (by omega)]
      exact congrArg nI (by omega)
    · rw [dk_bf (fun y => e y.symm)] at z
      rw [pk_un e, Q g hg]
      exact congrArg nI (by omega)
/-! processes -/
theorem dk_birth {c : Nat} (I : dk_I lv al le us xs wh og nm fu fs hr hw ps pc xb so yb) (hc : c < 4) (h : al c = 0) : dk_I (lv + 1) (upd al c 1) le us xs wh og nm fu fs hr hw ps pc xb so yb := by
  obtain ⟨A, J⟩ := I
  refine ⟨⟨?_, ?_⟩, J⟩
  · have e : dk_n (fun p => ¬ upd al c 1 p = 0) 4 + dk_b (¬ al c = 0) = dk_n (fun p => ¬ al p = 0) 4 + dk_b (¬ upd al c 1 c = 0) :=
      dk_n_1 (P := fun p => ¬ al p = 0) (Q := fun p => ¬ upd al c 1 p = 0) hc (fun j _ hj => by rw [pk_un hj])
    have e1 : dk_b (¬ al c = 0) = 0 := dk_bf (fun z => z h)
    have e2 : dk_b (¬ upd al c 1 c = 0) = 1 := dk_bt (by rw [pk_us]; decide)
    rw [A.1, nI_1]
    exact congrArg nI (by omega)
  · intro p d hp z hd
    have hne : p ≠ c := fun y => by subst y; rw [pk_us] at z; exact absurd z (by decide)
    rw [pk_un hne] at z
    exact A.2 p d hp z hd
theorem dk_death {q : Nat} (I : dk_I lv al le us xs wh og nm fu fs hr hw ps pc xb so yb) (hq : q < 4) (ha : ¬ al q = 0) (h : ∀ d, d < 6 → le (6 * q + d) = -1) : dk_I (lv - 1) (upd al q 0) le us xs wh og nm fu fs hr hw ps pc xb so yb := by
  obtain ⟨A, J⟩ := I
  refine ⟨⟨?_, ?_⟩, J⟩
  · have e : dk_n (fun p => ¬ upd al q 0 p = 0) 4 + dk_b (¬ al q = 0) = dk_n (fun p => ¬ al p = 0) 4 + dk_b (¬ upd al q 0 q = 0) :=
      dk_n_1 (P := fun p => ¬ al p = 0) (Q := fun p => ¬ upd al q 0 p = 0) hq (fun j _ hj => by rw [pk_un hj])
    have e1 : dk_b (¬ al q = 0) = 1 := dk_bt ha
    have e2 : dk_b (¬ upd al q 0 q = 0) = 0 := dk_bf (by rw [pk_us]; decide)
    rw [A.1, dk_pred (by omega)]
    exact congrArg nI (by omega)
  · intro p d hp z hd
    by_cases y : p = q
    · subst y; exact h d hd
    · rw [pk_un y] at z; exact A.2 p d hp z hd
/-! bytes -/
theorem dk_off {o f a l : Nat} (I : dk_I lv al le us xs wh og nm fu fs hr hw ps pc xb so yb) (hf : f < 28) (hw' : wh o = nI f) (hl : fs f = nI l) (hal : a ≤ l) (hl8 : l ≤ 8) : dk_I lv al le us xs wh (upd og o (nI a)) nm fu fs hr hw ps pc xb so yb := by
  obtain ⟨A, L, U, S, O, F, N, Q, R, W, P⟩ := I
  refine ⟨A, L, U, S, ?_, F, N, Q, R, W, P⟩
  intro k g hk hg lk sk wk
  by_cases e : k = o
  · subst e
    have y : g = f := dk_inj (wk.symm.trans hw')
    subst y
    rw [pk_us]
    exact ⟨a, l, hal, hl8, rfl, hl⟩
  · rw [pk_un e]; exact O k g hk hg lk sk wk
theorem dk_grow {o f a : Nat} (I : dk_I lv al le us xs wh og nm fu fs hr hw ps pc xb so yb) (hf : f < 28) (hw' : wh o = nI f) (hl : fs f = nI a) (ha : a < 8) :
    dk_I lv al le us xs wh (upd og o (nI (a + 1))) nm fu (upd fs f (nI (a + 1))) hr hw ps pc xb so yb := by
  obtain ⟨A, L, U, S, O, F, N, Q, R, W, P⟩ := I
  refine ⟨A, L, U, S, ?_, ?_, N, Q, R, W, P⟩
  · intro k g hk hg lk sk wk
    by_cases e : k = o
    · subst e
      have y : g = f := dk_inj (wk.symm.trans hw')
      subst y
      rw [pk_us, pk_us]
      exact ⟨a + 1, a + 1, Nat.le_refl _, by omega, rfl, rfl⟩
    · rw [pk_un e]
      obtain ⟨b, l, h1, h2, h3, h4⟩ := O k g hk hg lk sk wk
      by_cases y : g = f
      · subst y
        have z : a = l := dk_inj (hl.symm.trans h4)
        rw [pk_us]
        exact ⟨b, a + 1, by omega, by omega, h3, rfl⟩
      · rw [pk_un y]; exact ⟨b, l, h1, h2, h3, h4⟩
  · intro g hg
    by_cases y : g = f
    · subst y; rw [pk_us]; exact ⟨a + 1, by omega, rfl⟩
    · rw [pk_un y]; exact F g hg
theorem dk_pw {p s c : Nat} {v : Int32} (I : dk_I lv al le us xs wh og nm fu fs hr hw ps pc xb so yb) (hp : p < 24) (hs : ps p = nI s) (hc : pc p = nI c) (hs6 : s < 6) (hc6 : c < 6) :
    dk_I lv al le us xs wh og nm fu fs hr hw ps (upd pc p (nI (c + 1))) (upd xb (6 * p + (s + c) % 6) v) so (upd yb (6 * p + c) v) := by
  obtain ⟨A, L, U, S, O, F, N, Q, R, W, P⟩ := I
  refine ⟨A, L, U, S, O, F, N, Q, R, W, ?_⟩
  intro g hg
  obtain ⟨s', c', h1, h2, h3, h4, h5⟩ := P g hg
  by_cases e : g = p
  · subst e
    have es : s = s' := dk_inj (hs.symm.trans h3)
    have ec : c = c' := dk_inj (hc.symm.trans h4)
    subst es ec
    rw [pk_us]
    refine ⟨s, c + 1, h1, by omega, h3, rfl, fun i hi => ?_⟩
    by_cases y : i = c
    · subst y; rw [pk_us, pk_us]
    · rw [pk_un (by omega), pk_un (by omega)]
      exact h5 i (by omega)
  · rw [pk_un e]
    refine ⟨s', c', h1, h2, h3, h4, fun i hi => ?_⟩
    rw [pk_un (by omega), pk_un (by omega)]
    exact h5 i hi
/-- the row shifted down by one, its first k places -/
def dk_sh (yb : Nat → Int32) (p k : Nat) : Nat → Int32 := fun j => if 6 * p ≤ j ∧ j < 6 * p + k then yb (j + 1) else yb j
theorem dk_sh0 (p : Nat) : dk_sh yb p 0 = yb := by
  funext j
  exact if_neg (by omega)
theorem dk_sh1 (p k : Nat) : upd (dk_sh yb p k) (6 * p + k) (dk_sh yb p k (6 * p + k + 1)) = dk_sh yb p (k + 1) := by
  funext j
  by_cases e : j = 6 * p + k
  · subst e
    rw [pk_us]
    unfold dk_sh
    rw [if_neg (by omega), if_pos (by omega)]
  · rw [pk_un e]
    unfold dk_sh
    by_cases y : 6 * p ≤ j ∧ j < 6 * p + k
    · rw [if_pos y, if_pos (by omega)]
    · rw [if_neg y, if_neg (by omega)]
theorem dk_pr {p s c : Nat} (I : dk_I lv al le us xs wh og nm fu fs hr hw ps pc xb so yb) (hp : p < 24) (hs : ps p = nI s) (hc : pc p = nI (c + 1)) (hs6 : s < 6) (hc6 : c < 6) :
    dk_I lv al le us xs wh og nm fu fs hr hw (upd ps p (nI ((s + 1) % 6))) (upd pc p (nI c)) xb so (dk_sh yb p c) := by
  obtain ⟨A, L, U, S, O, F, N, Q, R, W, P⟩ := I
  refine ⟨A, L, U, S, O, F, N, Q, R, W, ?_⟩
  intro g hg
  obtain ⟨s', c', h1, h2, h3, h4, h5⟩ := P g hg
  by_cases e : g = p
  · subst e
    have es : s = s' := dk_inj (hs.symm.trans h3)
    have ec : c + 1 = c' := dk_inj (hc.symm.trans h4)
    subst es ec
    rw [pk_us, pk_us]
    refine ⟨(s + 1) % 6, c, by omega, by omega, rfl, rfl, fun i hi => ?_⟩
    have z := h5 (i + 1) (by omega)
    unfold dk_sh
    rw [if_pos (by omega)]
    refine z.trans (congrArg xb ?_)
    omega
  · rw [pk_un e, pk_un e]
    refine ⟨s', c', h1, h2, h3, h4, fun i hi => ?_⟩
    unfold dk_sh
    rw [if_neg (by omega)]
    exact h5 i hi
end
end
section
section
variable {lv : Int32} {al le us xs wh og nm fu fs fb hr hw ps pc xb : Nat → Int32}
theorem xw_alive1 {post : Int32 → Prop} {q : Nat} (hq : q < 4) (ha : ¬ al q = 0) (h : post 1) : wpX_isAlive post (lv, al, le, us, xs, wh, og, nm, fu, fs, fb, hr, hw, ps, pc, xb) (nI q) :=
  br_f (nI_pos (by omega)) (br_f (nI_nlt (a := 3) (b := q) (by omega) (by omega)) ⟨vp_in_nI hq (by omega), br_f (by rw [nI_clamp (by omega)]; exact ha) h⟩)
theorem xw_alive0 {post : Int32 → Prop} {p : Int32} (hp : ¬ ∃ q, q < 4 ∧ p = nI q ∧ ¬ al q = 0) (h : post 0) : wpX_isAlive post (lv, al, le, us, xs, wh, og, nm, fu, fs, fb, hr, hw, ps, pc, xb) p :=
  br_c (fun _ => h) (fun h0 => br_c (fun _ => h) (fun h3 => by
    obtain ⟨q, hq, rfl⟩ := dk_r (M := 3) (n := 3) (by decide) h0 h3
    refine ⟨vp_in_nI (by omega) (by omega), br_t ?_ h⟩
    rw [nI_clamp (by omega)]
    rcases Classical.em (al q = 0) with z | z
    · exact z
    · exact absurd ⟨q, by omega, rfl, z⟩ hp))
theorem xw_name1 {post : Int32 → Prop} {n : Nat} (hn : n < 4) (h : post 1) : wpX_isName post (nI n) :=
  br_f (nI_pos (by omega)) (br_f (nI_nlt (a := 3) (b := n) (by omega) (by omega)) h)
theorem xw_name0 {post : Int32 → Prop} {p : Int32} (hp : ¬ ∃ n, n < 4 ∧ p = nI n) (h : post 0) : wpX_isName post p :=
  br_c (fun _ => h) (fun h0 => br_c (fun _ => h) (fun h3 => absurd (by
    obtain ⟨q, hq, e⟩ := dk_r (M := 3) (n := 3) (by decide) h0 h3
    exact ⟨q, by omega, e⟩) hp))
theorem xw_op1 {post : Int32 → Prop} {q d : Nat} (hq : q < 4) (ha : ¬ al q = 0) (hd : d < 6) (h : post (le (6 * q + d))) : wpX_openingOf post (lv, al, le, us, xs, wh, og, nm, fu, fs, fb, hr, hw, ps, pc, xb) (nI q) (nI d) := by
  unfold wpX_openingOf
  refine xw_alive1 hq ha ?_
  refine br_f (by decide) (br_f (nI_pos (by omega)) (br_t (nI_le (a := d) (b := 5) (by omega) (by omega)) ?_))
  rw [dk_6, nI_clamp (by omega)]
  exact ⟨vp_in_nI (by omega) (by omega), h⟩
theorem xw_op0 {post : Int32 → Prop} {p0 p1 : Int32} (L : dk_IL le) (hp : ¬ ∃ q d, q < 4 ∧ d < 6 ∧ p0 = nI q ∧ p1 = nI d ∧ ¬ al q = 0 ∧ 0 ≤ le (6 * q + d)) (h : post (-1)) : wpX_openingOf post (lv, al, le, us, xs, wh, og, nm, fu, fs, fb, hr, hw, ps, pc, xb) p0 p1 := by
  unfold wpX_openingOf
  rcases Classical.em (∃ q, q < 4 ∧ p0 = nI q ∧ ¬ al q = 0) with ⟨q, hq, rfl, ha⟩ | hn
  · refine xw_alive1 hq ha (br_f (by decide) (br_c (fun _ => h) (fun h0 => br_c (fun h5 => ?_) (fun _ => h))))
    obtain ⟨d, hd, rfl⟩ := nI_of2 (M := 5) (n := 5) (by decide) h0 h5
    rw [dk_6, nI_clamp (by omega)]
    refine ⟨vp_in_nI (by omega) (by omega), ?_⟩
    have z : ¬ 0 ≤ le (6 * q + d) := fun y => hp ⟨q, d, hq, by omega, rfl, rfl, ha, y⟩
    rw [(dk_free L (by omega)).mp z]; exact h
  · exact xw_alive0 hn (br_t rfl h)
theorem xw_fd {post : Int32 → Prop} {q a d : Nat} (hq : q < 4) (had : a ≤ d) (hd : d < 6) (hl : ∀ e, a ≤ e → e < d → 0 ≤ le (6 * q + e)) (h0 : ¬ 0 ≤ le (6 * q + d)) (h : post (nI d)) : wpX_freeDescriptor post (lv, al, le, us, xs, wh, og, nm, fu, fs, fb, hr, hw, ps, pc, xb) (nI q) (nI a) := by
  refine dk_up (fun n x => wX_freeDescriptor_2 post (nI q) lv al le us xs wh og nm fu fs fb hr hw ps pc xb n x) a d had (fun n => ?_) (fun n j h1 h2 hW => ?_)
  · refine br_f (nI_ge (a := d) (b := 6) hd (by omega)) ?_
    rw [dk_6, nI_clamp (by omega)]
    exact ⟨vp_in_nI (by omega) (by omega), br_f h0 h⟩
  · refine br_f (nI_ge (a := j) (b := 6) (by omega) (by omega)) ?_
    rw [dk_6, nI_clamp (by omega)]
    exact ⟨vp_in_nI (by omega) (by omega), br_t (hl j h1 h2) (nm_e hW)⟩
theorem xw_fdn {post : Int32 → Prop} {q a : Nat} (hq : q < 4) (had : a ≤ 6) (hl : ∀ e, a ≤ e → e < 6 → 0 ≤ le (6 * q + e)) (h : post (-1)) : wpX_freeDescriptor post (lv, al, le, us, xs, wh, og, nm, fu, fs, fb, hr, hw, ps, pc, xb) (nI q) (nI a) := by
  refine dk_up (fun n x => wX_freeDescriptor_2 post (nI q) lv al le us xs wh og nm fu fs fb hr hw ps pc xb n x) a 6 had (fun n => ?_) (fun n j h1 h2 hW => ?_)
  · exact br_t (nI_le (a := 6) (b := 6) (by omega) (by omega)) h
  · refine br_f (nI_ge (a := j) (b := 6) (by omega) (by omega)) ?_
    rw [dk_6, nI_clamp (by omega)]
    exact ⟨vp_in_nI (by omega) (by omega), br_t (hl j h1 h2) (nm_e hW)⟩
theorem xw_new {post : Int32 → SX → Prop} {o : Nat} {s t : Int32} (ho : o < 24) (h0 : us o = 0) (hl : ∀ j, j < o → ¬ us j = 0)
    (h : post (nI o) (lv, al, le, upd us o 1, upd xs o s, upd wh o t, upd og o 0, nm, fu, fs, fb, hr, hw, ps, pc, xb)) : wpX_newOpening post (lv, al, le, us, xs, wh, og, nm, fu, fs, fb, hr, hw, ps, pc, xb) s t := by
  refine dk_dn (fun n x y => wX_newOpening_6 post s t lv al le us xs wh og nm fu fs fb hr hw ps pc xb n x y) (fun k => us k = 0) 24 o 23 (by decide) ho h0 hl (fun n => ?_) (fun n k x hk z hW => ?_) (fun n k x hk z hW => ?_)
  · refine br_t (by decide) ?_
    rw [nI_clamp (by omega)]
    have v : vp_in (nI o) 24 := vp_in_nI ho (by omega)
    exact ⟨v, nm_e ⟨v, nm_e ⟨v, nm_e ⟨v, nm_e h⟩⟩⟩⟩
  · refine br_f (nI_pos (by omega)) ?_
    rw [nI_clamp (by omega)]
    exact ⟨vp_in_nI hk (by omega), br_t z (nm_e hW)⟩
  · refine br_f (nI_pos (by omega)) ?_
    rw [nI_clamp (by omega)]
    exact ⟨vp_in_nI hk (by omega), br_f z (nm_e hW)⟩
theorem xw_ff {post : Int32 → Prop} {f : Nat} (hf : f < 28) (h0 : fu f = 0) (hl : ∀ j, j < f → ¬ fu j = 0) (h : post (nI f)) : wpX_freeFile post (lv, al, le, us, xs, wh, og, nm, fu, fs, fb, hr, hw, ps, pc, xb) := by
  refine dk_dn (fun n x y => wX_freeFile_5 post lv al le us xs wh og nm fu fs fb hr hw ps pc xb n x y) (fun k => fu k = 0) 28 f 27 (by decide) hf h0 hl (fun n => ?_) (fun n k x hk z hW => ?_) (fun n k x hk z hW => ?_)
  · exact br_t (by decide) h
  · refine br_f (nI_pos (by omega)) ?_
    rw [nI_clamp (by omega)]
    exact ⟨vp_in_nI hk (by omega), br_t z (nm_e hW)⟩
  · refine br_f (nI_pos (by omega)) ?_
    rw [nI_clamp (by omega)]
    exact ⟨vp_in_nI hk (by omega), br_f z (nm_e hW)⟩
theorem xw_fp {post : Int32 → Prop} {p : Nat} (hp : p < 24) (h0 : hr p = 0 ∧ hw p = 0) (hl : ∀ j, j < p → ¬ (hr j = 0 ∧ hw j = 0)) (h : post (nI p)) : wpX_freePipe post (lv, al, le, us, xs, wh, og, nm, fu, fs, fb, hr, hw, ps, pc, xb) := by
  refine dk_dn (fun n x y => wX_freePipe_5 post lv al le us xs wh og nm fu fs fb hr hw ps pc xb n x y) (fun k => hr k = 0 ∧ hw k = 0) 24 p 23 (by decide) hp h0 hl (fun n => ?_) (fun n k x hk z hW => ?_) (fun n k x hk z hW => ?_)
  · exact br_t (by decide) h
  · refine br_f (nI_pos (by omega)) ?_
    rw [nI_clamp (by omega)]
    exact ⟨vp_in_nI hk (by omega), br_t z.1 ⟨vp_in_nI hk (by omega), br_t z.2 (nm_e hW)⟩⟩
  · refine br_f (nI_pos (by omega)) ?_
    rw [nI_clamp (by omega)]
    exact ⟨vp_in_nI hk (by omega), br_c (fun y => ⟨vp_in_nI hk (by omega), br_f (fun w => z ⟨y, w⟩) (nm_e hW)⟩) (fun _ => nm_e hW)⟩
end
section
variable {lv : Int32} {al le us xs wh og nm fu fs fb hr hw ps pc xb so yb : Nat → Int32}
theorem xw_letGo {post : SX → Prop} {i o : Nat} (I : dk_I lv al le us xs wh og nm fu fs hr hw ps pc xb so yb) (hi : i < 24) (h : le i = nI o) (ho : o < 24)
    (hp : ∀ fu' hr' hw', dk_I lv al (upd le i (-1)) (upd us o (us o - 1)) xs wh og nm fu' fs hr' hw' ps pc xb so yb → post (lv, al, upd le i (-1), upd us o (us o - 1), xs, wh, og, nm, fu', fs, fb, hr', hw', ps, pc, xb)) :
    wpX_letGo post (lv, al, upd le i (-1), us, xs, wh, og, nm, fu, fs, fb, hr, hw, ps, pc, xb) (nI o) := by
  have v : vp_in (nI o) 24 := vp_in_nI ho (by omega)
  have lo : dk_L le o := ⟨i, hi, h⟩
  have e3 : upd us o (us o - 1) o = nI (dk_n (fun j => upd le i (-1) j = nI o) 24) := pk_us.trans (dk_del_us I.2.2.1 hi h ho)
  have b := dk_n_le (fun j => upd le i (-1) j = nI o) 24
  unfold wpX_letGo
  dsimp only
  rw [nI_clamp (by omega)]
  rcases Classical.em (dk_L (upd le i (-1)) o) with hl | hn
  · refine ⟨v, v, nm_e ⟨v, br_f ?_ (hp _ _ _ (dk_drop1 I hi h ho hl))⟩⟩
    rw [e3]
    exact nI_nle (dk_L_n.mp hl) (by omega)
  · have hz : upd us o (us o - 1) o ≤ 0 := by
      have z : dk_n (fun j => upd le i (-1) j = nI o) 24 = 0 := Nat.eq_zero_of_not_pos (fun y => hn (dk_L_n.mpr y))
      rw [e3, z]; decide
    rcases I.2.2.2.1 o ho lo with ⟨s, x, f, hf, w⟩ | ⟨s, x, p, hp', w⟩ | ⟨s, x, p, hp', w⟩
    · rw [w, nI_clamp (n := f) (by omega)]
      have vf : vp_in (nI f) 28 := vp_in_nI hf (by omega)
      exact ⟨v, v, nm_e ⟨v, br_t hz ⟨v, br_t x ⟨v, vf, vf, nm_e (hp _ _ _ (dk_dropF I hi h ho hn s hf w))⟩⟩⟩⟩
    · rw [w, nI_clamp (n := p) (by omega), dk_nb0]
      have vf : vp_in (nI p) 24 := vp_in_nI hp' (by omega)
      exact ⟨v, v, nm_e ⟨v, br_t hz ⟨v, br_f (by rw [x]; decide) ⟨v, br_t x ⟨v, vf, nm_e (hp _ _ _ (dk_dropR I hi h ho hn s hp' w))⟩⟩⟩⟩⟩
    · rw [w, nI_clamp (n := p) (by omega), dk_nb0]
      have vf : vp_in (nI p) 24 := vp_in_nI hp' (by omega)
      exact ⟨v, v, nm_e ⟨v, br_t hz ⟨v, br_f (by rw [x]; decide) ⟨v, br_f (by rw [x]; decide) ⟨v, vf, nm_e (hp _ _ _ (dk_dropW I hi h ho hn s hp' w))⟩⟩⟩⟩⟩
end
end
section
section
variable {al le so wh og nm fs fb pc yb : Nat → Int32}
theorem yw_dead0 {post : Int32 → Prop} {q : Nat} (hq : q < 4) (ha : ¬ al q = 0) (h : post 0) : wpY_dead post (al, le, so, wh, og, nm, fs, fb, pc, yb) (nI q) :=
  br_f (nI_pos (by omega)) (br_f (nI_nlt (a := 3) (b := q) (by omega) (by omega)) ⟨vp_in_nI hq (by omega), br_f (by rw [nI_clamp (by omega)]; exact ha) h⟩)
theorem yw_dead1 {post : Int32 → Prop} {p : Int32} (hp : ¬ ∃ q, q < 4 ∧ p = nI q ∧ ¬ al q = 0) (h : post 1) : wpY_dead post (al, le, so, wh, og, nm, fs, fb, pc, yb) p :=
  br_c (fun _ => h) (fun h0 => br_c (fun _ => h) (fun h3 => by
    obtain ⟨q, hq, rfl⟩ := dk_r (M := 3) (n := 3) (by decide) h0 h3
    refine ⟨vp_in_nI (by omega) (by omega), br_t ?_ h⟩
    rw [nI_clamp (by omega)]
    rcases Classical.em (al q = 0) with z | z
    · exact z
    · exact absurd ⟨q, by omega, rfl, z⟩ hp))
theorem yw_name0 {post : Int32 → Prop} {n : Nat} (hn : n < 4) (h : post 0) : wpY_badName post (nI n) :=
  br_f (nI_pos (by omega)) (br_t (nI_le (a := n) (b := 3) (by omega) (by omega)) h)
theorem yw_name1 {post : Int32 → Prop} {p : Int32} (hp : ¬ ∃ n, n < 4 ∧ p = nI n) (h : post 1) : wpY_badName post p :=
  br_c (fun _ => h) (fun h0 => br_c (fun h3 => absurd (by
    obtain ⟨q, hq, e⟩ := nI_of2 (M := 3) (n := 3) (by decide) h0 h3
    exact ⟨q, by omega, e⟩) hp) (fun _ => h))
theorem yw_free0 {post : Int32 → Prop} {q d : Nat} (hq : q < 4) (ha : ¬ al q = 0) (hd : d < 6) (hl : 0 ≤ le (6 * q + d)) (h : post 0) : wpY_free post (al, le, so, wh, og, nm, fs, fb, pc, yb) (nI q) (nI d) := by
  unfold wpY_free
  refine yw_dead0 hq ha ?_
  refine br_t rfl (br_f (nI_pos (by omega)) (br_f (nI_nlt (a := 5) (b := d) (by omega) (by omega)) ?_))
  rw [dk_6, nI_clamp (by omega)]
  exact ⟨vp_in_nI (by omega) (by omega), br_t hl h⟩
theorem yw_free1 {post : Int32 → Prop} {p0 p1 : Int32} (hp : ¬ ∃ q d, q < 4 ∧ d < 6 ∧ p0 = nI q ∧ p1 = nI d ∧ ¬ al q = 0 ∧ 0 ≤ le (6 * q + d)) (h : post 1) : wpY_free post (al, le, so, wh, og, nm, fs, fb, pc, yb) p0 p1 := by
  unfold wpY_free
  rcases Classical.em (∃ q, q < 4 ∧ p0 = nI q ∧ ¬ al q = 0) with ⟨q, hq, rfl, ha⟩ | hn
  · refine yw_dead0 hq ha (br_t rfl (br_c (fun _ => h) (fun h0 => br_c (fun _ => h) (fun h5 => ?_))))
    obtain ⟨d, hd, rfl⟩ := dk_r (M := 5) (n := 5) (by decide) h0 h5
    rw [dk_6, nI_clamp (by omega)]
    refine ⟨vp_in_nI (by omega) (by omega), br_f (fun y => hp ⟨q, d, hq, by omega, rfl, rfl, ha, y⟩) h⟩
  · exact yw_dead1 hn (br_f (by decide) h)
theorem yw_opened {post : Int32 → Prop} {o : Nat} (h1 : dk_L le o → post 1) (h0 : ¬ dk_L le o → post 0) : wpY_opened post (al, le, so, wh, og, nm, fs, fb, pc, yb) (nI o) := by
  rcases Classical.em (∃ i, i < 24 ∧ le i = nI o) with hl | hn
  · obtain ⟨i, hi, e, hm⟩ := dk_lst hl
    refine dk_up0 (fun n x => wY_opened_2 post (nI o) al le so wh og nm fs fb pc yb n x) i (fun n => ?_) (fun n j hj hW => ?_)
    · refine br_f (nI_ge (a := i) (b := 24) hi (by omega)) ?_
      rw [nI_clamp (by omega)]
      exact ⟨vp_in_nI hi (by omega), br_t e (h1 hl)⟩
    · refine br_f (nI_ge (a := j) (b := 24) (by omega) (by omega)) ?_
      rw [nI_clamp (by omega)]
      exact ⟨vp_in_nI (by omega) (by omega), br_f (hm j hj) (nm_e hW)⟩
  · refine dk_up0 (fun n x => wY_opened_2 post (nI o) al le so wh og nm fs fb pc yb n x) 24 (fun n => ?_) (fun n j hj hW => ?_)
    · exact br_t (nI_le (a := 24) (b := 24) (by omega) (by omega)) (h0 hn)
    · refine br_f (nI_ge (a := j) (b := 24) (by omega) (by omega)) ?_
      rw [nI_clamp (by omega)]
      exact ⟨vp_in_nI (by omega) (by omega), br_f (fun y => hn ⟨j, hj, y⟩) (nm_e hW)⟩
def dk_C (le so wh : Nat → Int32) (s w : Int32) (o : Nat) : Prop := ((s = 3 ∧ ¬ so o ≤ 0) ∨ (¬ s = 3 ∧ so o = s)) ∧ wh o = w ∧ dk_L le o
theorem yw_45a {post J : Int32 → Prop} {s w : Int32} {j : Nat} (h : J (nI j + 1)) : wY_hasOpening_45 post J s w (nI j) 0 al le so wh og nm fs fb pc yb :=
  br_t rfl (nm_e h)
theorem yw_45b {post J : Int32 → Prop} {s w : Int32} {j : Nat} (hj : j < 24) (h1 : wh j = w ∧ dk_L le j → post 1) (h0 : ¬ (wh j = w ∧ dk_L le j) → J (nI j + 1)) : wY_hasOpening_45 post J s w (nI j) 1 al le so wh og nm fs fb pc yb := by
  unfold wY_hasOpening_45
  rw [nI_clamp (by omega)]
  refine br_f (by decide) ⟨vp_in_nI hj (by omega), br_c (fun e => ?_) (fun e => nm_e (h0 (fun z => e z.1)))⟩
  exact yw_opened (fun l => br_f (by decide) (h1 ⟨e, l⟩)) (fun l => br_t rfl (nm_e (h0 (fun z => l z.2))))
theorem yw_hs {post : Int32 → Prop} {s w : Int32} {n j : Nat} (hj : j < 24) (h1 : dk_C le so wh s w j → post 1) (h0 : ¬ dk_C le so wh s w j → wY_hasOpening_2 post s w al le so wh og nm fs fb pc yb n (nI j + 1)) : wY_hasOpening_2 post s w al le so wh og nm fs fb pc yb (n + 1) (nI j) := by
  refine br_f (nI_ge (a := j) (b := 24) hj (by omega)) ?_
  rw [nI_clamp (by omega)]
  refine br_c (fun e => ⟨vp_in_nI hj (by omega), br_c (fun z => ?_) (fun z => ?_)⟩) (fun e => ⟨vp_in_nI hj (by omega), br_c (fun z => ?_) (fun z => ?_)⟩)
  · exact yw_45a (h0 (fun y => y.1.elim (fun x => x.2 z) (fun x => x.1 e)))
  · exact yw_45b hj (fun y => h1 ⟨Or.inl ⟨e, z⟩, y⟩) (fun y => h0 (fun x => y x.2))
  · exact yw_45b hj (fun y => h1 ⟨Or.inr ⟨e, z⟩, y⟩) (fun y => h0 (fun x => y x.2))
  · exact yw_45a (h0 (fun y => y.1.elim (fun x => e x.1) (fun x => z x.2)))
theorem yw_has {post : Int32 → Prop} {s w : Int32} (h1 : (∃ o, o < 24 ∧ dk_C le so wh s w o) → post 1) (h0 : ¬ (∃ o, o < 24 ∧ dk_C le so wh s w o) → post 0) : wpY_hasOpening post (al, le, so, wh, og, nm, fs, fb, pc, yb) s w := by
  rcases Classical.em (∃ o, o < 24 ∧ dk_C le so wh s w o) with hl | hn
  · obtain ⟨i, hi, e, hm⟩ := dk_lst hl
    exact dk_up0 (fun n x => wY_hasOpening_2 post s w al le so wh og nm fs fb pc yb n x) i (fun n => yw_hs hi (fun _ => h1 hl) (fun z => absurd e z)) (fun n j hj hW => yw_hs (by omega) (fun z => absurd z (hm j hj)) (fun _ => hW))
  · exact dk_up0 (fun n x => wY_hasOpening_2 post s w al le so wh og nm fs fb pc yb n x) 24 (fun n => br_t (nI_le (a := 24) (b := 24) (by omega) (by omega)) (h0 hn)) (fun n j hj hW => yw_hs hj (fun z => absurd ⟨j, hj, z⟩ hn) (fun _ => hW))
def dk_G (le so wh nm : Nat → Int32) (w : Int32) : Prop := (∃ n, n < 4 ∧ nm n = w) ∨ ∃ o, o < 24 ∧ dk_C le so wh 0 w o
theorem yw_isf {post : Int32 → Prop} {w : Int32} (h1 : dk_G le so wh nm w → post 1) (h0 : ¬ dk_G le so wh nm w → post 0) : wpY_isFile post (al, le, so, wh, og, nm, fs, fb, pc, yb) w := by
  rcases Classical.em (∃ n, n < 4 ∧ nm n = w) with hl | hn
  · obtain ⟨i, hi, e, hm⟩ := dk_lst hl
    refine dk_up0 (fun n x => wY_isFile_2 post w al le so wh og nm fs fb pc yb n x) i (fun n => ?_) (fun n j hj hW => ?_)
    · refine br_f (nI_ge (a := i) (b := 4) hi (by omega)) ?_
      rw [nI_clamp (by omega)]
      exact ⟨vp_in_nI hi (by omega), br_t e (h1 (Or.inl hl))⟩
    · refine br_f (nI_ge (a := j) (b := 4) (by omega) (by omega)) ?_
      rw [nI_clamp (by omega)]
      exact ⟨vp_in_nI (by omega) (by omega), br_f (hm j hj) (nm_e hW)⟩
  · refine dk_up0 (fun n x => wY_isFile_2 post w al le so wh og nm fs fb pc yb n x) 4 (fun n => ?_) (fun n j hj hW => ?_)
    · refine br_t (nI_le (a := 4) (b := 4) (by omega) (by omega)) ?_
      exact yw_has (fun z => ⟨rfl, h1 (Or.inr z)⟩) (fun z => ⟨rfl, h0 (fun y => y.elim hn z)⟩)
    · refine br_f (nI_ge (a := j) (b := 4) (by omega) (by omega)) ?_
      rw [nI_clamp (by omega)]
      exact ⟨vp_in_nI (by omega) (by omega), br_f (fun y => hn ⟨j, hj, y⟩) (nm_e hW)⟩
theorem yw_lf {post : Int32 → Prop} {q d : Nat} (hq : q < 4) (hd : d < 6) (hl : ∀ e, e < d → 0 ≤ le (6 * q + e)) (h0 : ¬ 0 ≤ le (6 * q + d)) (h : post (nI d)) : wpY_leastFree post (al, le, so, wh, og, nm, fs, fb, pc, yb) (nI q) := by
  refine dk_up0 (fun n x => wY_leastFree_2 post (nI q) al le so wh og nm fs fb pc yb n x) d (fun n => ?_) (fun n j h2 hW => ?_)
  · refine br_f (nI_ge (a := d) (b := 6) hd (by omega)) ?_
    rw [dk_6, nI_clamp (by omega)]
    exact ⟨vp_in_nI (by omega) (by omega), br_f h0 h⟩
  · refine br_f (nI_ge (a := j) (b := 6) (by omega) (by omega)) ?_
    rw [dk_6, nI_clamp (by omega)]
    exact ⟨vp_in_nI (by omega) (by omega), br_t (hl j h2) (nm_e hW)⟩
theorem yw_lfn {post : Int32 → Prop} {q : Nat} (hq : q < 4) (hl : ∀ e, e < 6 → 0 ≤ le (6 * q + e)) (h : post (-1)) : wpY_leastFree post (al, le, so, wh, og, nm, fs, fb, pc, yb) (nI q) := by
  refine dk_up0 (fun n x => wY_leastFree_2 post (nI q) al le so wh og nm fs fb pc yb n x) 6 (fun n => ?_) (fun n j h2 hW => ?_)
  · exact br_t (nI_le (a := 6) (b := 6) (by omega) (by omega)) h
  · refine br_f (nI_ge (a := j) (b := 6) (by omega) (by omega)) ?_
    rw [dk_6, nI_clamp (by omega)]
    exact ⟨vp_in_nI (by omega) (by omega), br_t (hl j h2) (nm_e hW)⟩
theorem yw_fds {post : Int32 → Prop} {q : Nat} (hq : q < 4) (h : post (nI (dk_n (fun d => ¬ 0 ≤ le (6 * q + d)) 6))) : wpY_freeDescriptors post (al, le, so, wh, og, nm, fs, fb, pc, yb) (nI q) := by
  refine dk_ct (fun n x y => wY_freeDescriptors_4 post (nI q) al le so wh og nm fs fb pc yb n x y) (fun d => ¬ 0 ≤ le (6 * q + d)) 6 (fun n => ?_) (fun n k c hk z hW => ?_) (fun n k c hk z hW => ?_)
  · exact br_t (nI_le (a := 6) (b := 6) (by omega) (by omega)) h
  · refine br_f (nI_ge (a := k) (b := 6) hk (by omega)) ?_
    rw [dk_6, nI_clamp (by omega)]
    exact ⟨vp_in_nI (by omega) (by omega), br_f z (nm_e (nm_e hW))⟩
  · refine br_f (nI_ge (a := k) (b := 6) hk (by omega)) ?_
    rw [dk_6, nI_clamp (by omega)]
    exact ⟨vp_in_nI (by omega) (by omega), br_t (Classical.not_not.mp z) (nm_e hW)⟩
theorem yw_lead {post : Int32 → SY → Prop} {q d o : Nat} {s t : Int32} (hq : q < 4) (hd : d < 6) (hl : ∀ e, e < d → 0 ≤ le (6 * q + e)) (h0 : ¬ 0 ≤ le (6 * q + d))
    (ho : o < 24) (hn : ¬ dk_L le o) (hm : ∀ j, j < o → dk_L le j)
    (h : post (nI d) (al, upd le (6 * q + d) (nI o), upd so o s, upd wh o t, upd og o 0, nm, fs, fb, pc, yb)) : wpY_lead post (al, le, so, wh, og, nm, fs, fb, pc, yb) (nI q) s t := by
  unfold wpY_lead
  refine yw_lf hq hd hl h0 ?_
  refine dk_up0 (fun n x => wY_lead_10 post (nI q) s t (nI d) al le so wh og nm fs fb pc yb n x) o (fun n => ?_) (fun n j hj hW => ?_)
  · refine br_f (nI_ge (a := o) (b := 24) ho (by omega)) ?_
    rw [dk_6, nI_clamp (n := o) (by omega), nI_clamp (n := 6 * q + d) (by omega)]
    have v : vp_in (nI o) 24 := vp_in_nI ho (by omega)
    exact yw_opened (fun z => absurd z hn) (fun _ => br_t rfl ⟨v, nm_e ⟨v, nm_e ⟨v, nm_e ⟨vp_in_nI (by omega) (by omega), nm_e h⟩⟩⟩⟩)
  · refine br_f (nI_ge (a := j) (b := 24) (by omega) (by omega)) ?_
    exact yw_opened (fun _ => br_f (by decide) (nm_e hW)) (fun z => absurd (hm j hj) z)
theorem yw_newFile {post : Int32 → SY → Prop} {f : Nat} (hf : f < 28) (hn : ¬ dk_G le so wh nm (nI f)) (hm : ∀ j, j < f → dk_G le so wh nm (nI j))
    (h : post (nI f) (al, le, so, wh, og, nm, upd fs f 0, fb, pc, yb)) : wpY_newFile post (al, le, so, wh, og, nm, fs, fb, pc, yb) := by
  refine dk_up0 (fun n x => wY_newFile_2 post al le so wh og nm fs fb pc yb n x) f (fun n => ?_) (fun n j hj hW => ?_)
  · refine br_f (nI_ge (a := f) (b := 28) hf (by omega)) ?_
    rw [nI_clamp (by omega)]
    exact yw_isf (fun z => absurd z hn) (fun _ => br_t rfl ⟨vp_in_nI hf (by omega), nm_e h⟩)
  · refine br_f (nI_ge (a := j) (b := 28) (by omega) (by omega)) ?_
    exact yw_isf (fun _ => br_f (by decide) (nm_e hW)) (fun z => absurd (hm j hj) z)
end
end
section
section
variable {lv : Int32} {al le us xs wh og nm fu fs hr hw ps pc xb so yb : Nat → Int32}
theorem dk_Cs {s w : Int32} {o : Nat} (hs : ¬ s = 3) : dk_C le so wh s w o ↔ dk_L le o ∧ so o = s ∧ wh o = w :=
  ⟨fun z => ⟨z.2.2, z.1.elim (fun y => absurd y.1 hs) (fun y => y.2), z.2.1⟩, fun z => ⟨Or.inr ⟨hs, z.2.1⟩, z.2.2, z.1⟩⟩
theorem dk_C_K {s : Int32} {t : Nat} (hs : ¬ s = 3) : (∃ o, o < 24 ∧ dk_C le so wh s (nI t) o) ↔ 0 < dk_K le so wh s t :=
  ⟨fun ⟨o, ho, z⟩ => dk_n_p (P := fun o => dk_L le o ∧ so o = s ∧ wh o = nI t) ho ((dk_Cs hs).mp z), fun z => by
    obtain ⟨o, ho, y⟩ := dk_n_e (P := fun o => dk_L le o ∧ so o = s ∧ wh o = nI t) z
    exact ⟨o, ho, (dk_Cs hs).mpr y⟩⟩
theorem dk_G_fu (Q : dk_IQ le so wh nm fu) {f : Nat} (hf : f < 28) : fu f = 0 ↔ ¬ dk_G le so wh nm (nI f) := by
  rw [dk_fu0 Q hf]
  refine ⟨fun z y => y.elim (fun ⟨n, hn, e⟩ => dk_n_f (P := fun n => nm n = nI f) z.1 hn e) (fun w => ?_), fun z => ⟨?_, ?_⟩⟩
  · have := (dk_C_K (by decide)).mp w
    omega
  · exact dk_n_z (fun n hn e => z (Or.inl ⟨n, hn, e⟩))
  · exact Nat.eq_zero_of_not_pos (fun y => z (Or.inr ((dk_C_K (by decide)).mpr y)))
theorem dk_hz {s : Int32} {h : Nat → Int32} (R : dk_IR le so wh h s) {p : Nat} (hp : p < 24) : h p = 0 ↔ dk_K le so wh s p = 0 := by
  have r := R p hp
  have r2 := r.2
  rw [r.1]
  generalize dk_K le so wh s p = m at r2
  rw [← nI_0, nI_eq (by omega) (by omega)]
theorem dk_C_h {s : Int32} {h : Nat → Int32} (R : dk_IR le so wh h s) (hs : ¬ s = 3) {p : Nat} (hp : p < 24) : (∃ o, o < 24 ∧ dk_C le so wh s (nI p) o) ↔ ¬ h p = 0 := by
  rw [dk_C_K hs, dk_hz R hp]
  omega
theorem dk_C_3 (S : dk_IS le so xs wh) (R : dk_IR le so wh hr 1) (W : dk_IR le so wh hw 2) {p : Nat} (hp : p < 24) : (∃ o, o < 24 ∧ dk_C le so wh 3 (nI p) o) ↔ ¬ (hr p = 0 ∧ hw p = 0) := by
  constructor
  · intro ⟨o, ho, z⟩ y
    have hs : ¬ so o ≤ 0 := z.1.elim (fun x => x.2) (fun x => absurd rfl x.1)
    rcases S o ho z.2.2 with ⟨s, _⟩ | ⟨s, _⟩ | ⟨s, _⟩
    · rw [s] at hs; exact hs (by decide)
    · exact absurd y.1 ((dk_C_h R (by decide) hp).mp ⟨o, ho, (dk_Cs (by decide)).mpr ⟨z.2.2, s, z.2.1⟩⟩)
    · exact absurd y.2 ((dk_C_h W (by decide) hp).mp ⟨o, ho, (dk_Cs (by decide)).mpr ⟨z.2.2, s, z.2.1⟩⟩)
  · intro z
    rcases Classical.em (hr p = 0) with a | a
    · obtain ⟨o, ho, y⟩ := (dk_C_h W (by decide) hp).mpr (fun b => z ⟨a, b⟩)
      have y' := (dk_Cs (by decide)).mp y
      exact ⟨o, ho, Or.inl ⟨rfl, by rw [y'.2.1]; decide⟩, y'.2.2, y'.1⟩
    · obtain ⟨o, ho, y⟩ := (dk_C_h R (by decide) hp).mpr a
      have y' := (dk_Cs (by decide)).mp y
      exact ⟨o, ho, Or.inl ⟨rfl, by rw [y'.2.1]; decide⟩, y'.2.2, y'.1⟩
/-! room -/
theorem dk_roomO (U : dk_IU le us) {i : Nat} (hi : i < 24) (h : le i = -1) : ∃ o, o < 24 ∧ us o = 0 ∧ ∀ j, j < o → ¬ us j = 0 := by
  apply dk_lst
  obtain ⟨o, ho, z⟩ := dk_room (R := fun i o => o < 24 ∧ le i = nI o) (M := 24) (a := i)
    (fun i o o' y y' => by
      have h1 := y.1
      have h2 := y'.1
      exact dk_inj (y.2.symm.trans y'.2)) hi
    (fun o y => by
      have h1 := y.1
      exact dk_ne1' (by omega) (h.symm.trans y.2))
  exact ⟨o, ho, (dk_us_L U ho).mpr (fun ⟨j, hj, e⟩ => z j hj ⟨ho, e⟩)⟩
theorem dk_roomF (Q : dk_IQ le so wh nm fu) {i : Nat} (hi : i < 24) (h : le i = -1) : ∃ f, f < 28 ∧ fu f = 0 ∧ ∀ j, j < f → ¬ fu j = 0 := by
  apply dk_lst
  obtain ⟨f, hf, z⟩ := dk_room (R := fun i f => f < 28 ∧ ((i < 24 ∧ ∃ o, o < 24 ∧ le i = nI o ∧ so o = 0 ∧ wh o = nI f) ∨ (24 ≤ i ∧ nm (i - 24) = nI f))) (M := 28) (a := i)
    (fun i f f' y y' => by
      obtain ⟨h1, y⟩ := y
      obtain ⟨h2, y'⟩ := y'
      rcases y with ⟨_, o, ho, e, _, w⟩ | ⟨g, w⟩
      · rcases y' with ⟨_, o', ho', e', _, w'⟩ | ⟨g', w'⟩
        · have x : o = o' := dk_inj (e.symm.trans e')
          subst x
          exact dk_inj (w.symm.trans w')
        · omega
      · rcases y' with ⟨_, o', ho', e', _, w'⟩ | ⟨g', w'⟩
        · omega
        · exact dk_inj (w.symm.trans w')) (by omega)
    (fun f y => by
      obtain ⟨h1, ⟨_, o, ho, e, _⟩ | ⟨g, _⟩⟩ := y
      · exact dk_ne1' (by omega) (h.symm.trans e)
      · omega)
  refine ⟨f, hf, (dk_G_fu Q hf).mpr (fun y => ?_)⟩
  rcases y with ⟨n, hn, e⟩ | ⟨o, ho, c⟩
  · exact z (24 + n) (by omega) ⟨hf, Or.inr ⟨by omega, by rw [Nat.add_sub_cancel_left]; exact e⟩⟩
  · obtain ⟨⟨j, hj, e⟩, c2, c3⟩ := (dk_Cs (by decide)).mp c
    exact z j (by omega) ⟨hf, Or.inl ⟨hj, o, ho, e, c2, c3⟩⟩
theorem dk_roomP (S : dk_IS le so xs wh) (R : dk_IR le so wh hr 1) (W : dk_IR le so wh hw 2) {i : Nat} (hi : i < 24) (h : le i = -1) : ∃ p, p < 24 ∧ (hr p = 0 ∧ hw p = 0) ∧ ∀ j, j < p → ¬ (hr j = 0 ∧ hw j = 0) := by
  apply dk_lst (F := fun p => hr p = 0 ∧ hw p = 0)
  obtain ⟨p, hp, z⟩ := dk_room (R := fun i p => p < 24 ∧ ∃ o, o < 24 ∧ le i = nI o ∧ wh o = nI p) (M := 24) (a := i)
    (fun i f f' y y' => by
      obtain ⟨h1, o, ho, e, w⟩ := y
      obtain ⟨h2, o', ho', e', w'⟩ := y'
      have x : o = o' := dk_inj (e.symm.trans e')
      subst x
      exact dk_inj (w.symm.trans w')) hi
    (fun f y => by
      obtain ⟨h1, o, ho, e, _⟩ := y
      exact dk_ne1' (by omega) (h.symm.trans e))
  refine ⟨p, hp, (dk_hz R hp).mpr (dk_n_z (fun o ho y => ?_)), (dk_hz W hp).mpr (dk_n_z (fun o ho y => ?_))⟩
  · obtain ⟨⟨j, hj, e⟩, c2, c3⟩ := y
    exact z j hj ⟨hp, o, ho, e, c3⟩
  · obtain ⟨⟨j, hj, e⟩, c2, c3⟩ := y
    exact z j hj ⟨hp, o, ho, e, c3⟩
end
/-! the relation -/
def i_Rel (_ : Nat) (u : SX) (v : SY) : Prop := ∃ (lv : Int32) (al le us xs wh og nm fu fs fb hr hw ps pc xb so yb : Nat → Int32), dk_I lv al le us xs wh og nm fu fs hr hw ps pc xb so yb ∧ u = (lv, al, le, us, xs, wh, og, nm, fu, fs, fb, hr, hw, ps, pc, xb) ∧ v = (al, le, so, wh, og, nm, fs, fb, pc, yb)
theorem i_up {k : Nat} {u : SX} {v : SY} (h : i_Rel k u v) : i_Rel (k + 4) u v := h
theorem dk_el {k : Nat} {u : SX} {v : SY} {P : SX → SY → Prop} (I : i_Rel k u v) (h : ∀ (lv : Int32) (al le us xs wh og nm fu fs fb hr hw ps pc xb so yb : Nat → Int32), dk_I lv al le us xs wh og nm fu fs hr hw ps pc xb so yb → P (lv, al, le, us, xs, wh, og, nm, fu, fs, fb, hr, hw, ps, pc, xb) (al, le, so, wh, og, nm, fs, fb, pc, yb)) : P u v := by
  obtain ⟨lv, al, le, us, xs, wh, og, nm, fu, fs, fb, hr, hw, ps, pc, xb, so, yb, I, rfl, rfl⟩ := I
  exact h lv al le us xs wh og nm fu fs fb hr hw ps pc xb so yb I
theorem dk_in {lv : Int32} {al le us xs wh og nm fu fs fb hr hw ps pc xb so yb : Nat → Int32} {k : Nat} (I : dk_I lv al le us xs wh og nm fu fs hr hw ps pc xb so yb) : i_Rel k (lv, al, le, us, xs, wh, og, nm, fu, fs, fb, hr, hw, ps, pc, xb) (al, le, so, wh, og, nm, fs, fb, pc, yb) :=
  ⟨lv, al, le, us, xs, wh, og, nm, fu, fs, fb, hr, hw, ps, pc, xb, so, yb, I, rfl, rfl⟩
end
section
section
variable {lv : Int32} {al le us xs wh og nm fu fs fb hr hw ps pc xb : Nat → Int32} {post : Int32 → SX → Prop} {p0 p1 : Int32} {q n d o f : Nat}
theorem xm_open0 (hn : ¬ ∃ q, q < 4 ∧ p0 = nI q ∧ ¬ al q = 0) (h : post (-1) (lv, al, le, us, xs, wh, og, nm, fu, fs, fb, hr, hw, ps, pc, xb)) : wpX_open post (lv, al, le, us, xs, wh, og, nm, fu, fs, fb, hr, hw, ps, pc, xb) p0 p1 := by
  unfold wpX_open
  exact xw_alive0 hn (br_t rfl h)
theorem xm_open1 (hq : q < 4) (ha : ¬ al q = 0) (hb : ¬ ∃ n, n < 4 ∧ p1 = nI n) (h : post (-1) (lv, al, le, us, xs, wh, og, nm, fu, fs, fb, hr, hw, ps, pc, xb)) : wpX_open post (lv, al, le, us, xs, wh, og, nm, fu, fs, fb, hr, hw, ps, pc, xb) (nI q) p1 := by
  unfold wpX_open
  exact xw_alive1 hq ha (br_f (by decide) (xw_name0 hb (br_t rfl h)))
theorem xm_open2 (hq : q < 4) (ha : ¬ al q = 0) (hn : n < 4) (hl : ∀ e, e < 6 → 0 ≤ le (6 * q + e)) (h : post (-2) (lv, al, le, us, xs, wh, og, nm, fu, fs, fb, hr, hw, ps, pc, xb)) : wpX_open post (lv, al, le, us, xs, wh, og, nm, fu, fs, fb, hr, hw, ps, pc, xb) (nI q) (nI n) := by
  unfold wpX_open
  exact xw_alive1 hq ha (br_f (by decide) (xw_name1 hn (br_f (by decide) (xw_fdn (a := 0) hq (by omega) (fun e _ he => hl e he) (br_f (by decide) h)))))
theorem xm_open70 (hq : q < 4) (hn : n < 4) (hd : d < 6) (hf : f < 28) (e : nm n = nI f) (ho : o < 24) (h0 : us o = 0) (hm : ∀ j, j < o → ¬ us j = 0)
    (h : post (nI d) (lv, al, upd le (6 * q + d) (nI o), upd us o 1, upd xs o 1, upd wh o (nI f), upd og o 0, nm, upd fu f (fu f + 1), fs, fb, hr, hw, ps, pc, xb)) : wX_open_70 post (nI q) (nI n) (nI d) lv al le us xs wh og nm fu fs fb hr hw ps pc xb := by
  unfold wX_open_70
  rw [nI_clamp (n := n) (by omega), e, nI_clamp (n := f) (by omega), dk_6, nI_clamp (n := 6 * q + d) (by omega)]
  have vn : vp_in (nI n) 4 := vp_in_nI hn (by omega)
  have vf : vp_in (nI f) 28 := vp_in_nI hf (by omega)
  exact ⟨vn, vf, vf, nm_e ⟨vn, xw_new ho h0 hm ⟨vp_in_nI (by omega) (by omega), nm_e h⟩⟩⟩
theorem xm_open3 (hq : q < 4) (ha : ¬ al q = 0) (hn : n < 4) (hd : d < 6) (hl : ∀ e, e < d → 0 ≤ le (6 * q + e)) (hz : ¬ 0 ≤ le (6 * q + d)) (hf : f < 28) (e : nm n = nI f) (ho : o < 24) (h0 : us o = 0) (hm : ∀ j, j < o → ¬ us j = 0)
    (h : post (nI d) (lv, al, upd le (6 * q + d) (nI o), upd us o 1, upd xs o 1, upd wh o (nI f), upd og o 0, nm, upd fu f (fu f + 1), fs, fb, hr, hw, ps, pc, xb)) : wpX_open post (lv, al, le, us, xs, wh, og, nm, fu, fs, fb, hr, hw, ps, pc, xb) (nI q) (nI n) := by
  unfold wpX_open
  refine xw_alive1 hq ha (br_f (by decide) (xw_name1 hn (br_f (by decide) (xw_fd (a := 0) hq (by omega) hd (fun e _ he => hl e he) hz (br_t (nI_pos' (by omega)) ⟨vp_in_nI hn (by omega), br_t ?_ ?_⟩)))))
  · rw [nI_clamp (n := n) (by omega)]
    exact dk_ge0 e
  · exact xm_open70 hq hn hd hf e ho h0 hm h
theorem xm_open4 (hq : q < 4) (ha : ¬ al q = 0) (hn : n < 4) (hd : d < 6) (hl : ∀ e, e < d → 0 ≤ le (6 * q + e)) (hz : ¬ 0 ≤ le (6 * q + d)) (hf : f < 28) (e : nm n = -1) (hf0 : fu f = 0) (hfm : ∀ j, j < f → ¬ fu j = 0) (ho : o < 24) (h0 : us o = 0) (hm : ∀ j, j < o → ¬ us j = 0)
    (h : post (nI d) (lv, al, upd le (6 * q + d) (nI o), upd us o 1, upd xs o 1, upd wh o (nI f), upd og o 0, upd nm n (nI f), upd (upd fu f 1) f (upd fu f 1 f + 1), upd fs f 0, fb, hr, hw, ps, pc, xb)) : wpX_open post (lv, al, le, us, xs, wh, og, nm, fu, fs, fb, hr, hw, ps, pc, xb) (nI q) (nI n) := by
  unfold wpX_open
  have vn : vp_in (nI n) 4 := vp_in_nI hn (by omega)
  have vf : vp_in (nI f) 28 := vp_in_nI hf (by omega)
  refine xw_alive1 hq ha (br_f (by decide) (xw_name1 hn (br_f (by decide) (xw_fd (a := 0) hq (by omega) hd (fun e _ he => hl e he) hz (br_t (nI_pos' (by omega)) ⟨vn, br_f ?_ (xw_ff hf hf0 hfm ?_)⟩)))))
  · rw [nI_clamp (n := n) (by omega), e]
    decide
  · rw [nI_clamp (n := n) (by omega), nI_clamp (n := f) (by omega)]
    exact ⟨vn, nm_e ⟨vf, nm_e ⟨vf, nm_e (xm_open70 hq hn hd hf pk_us ho h0 hm h)⟩⟩⟩
end
section
variable {al le so wh og nm fs fb pc yb : Nat → Int32} {post : Int32 → SY → Prop} {p0 p1 : Int32} {q n d o f : Nat}
theorem ym_open0 (hn : ¬ ∃ q, q < 4 ∧ p0 = nI q ∧ ¬ al q = 0) (h : post (-1) (al, le, so, wh, og, nm, fs, fb, pc, yb)) : wpY_open post (al, le, so, wh, og, nm, fs, fb, pc, yb) p0 p1 := by
  unfold wpY_open
  exact yw_dead1 hn (br_f (by decide) h)
theorem ym_open1 (hq : q < 4) (ha : ¬ al q = 0) (hb : ¬ ∃ n, n < 4 ∧ p1 = nI n) (h : post (-1) (al, le, so, wh, og, nm, fs, fb, pc, yb)) : wpY_open post (al, le, so, wh, og, nm, fs, fb, pc, yb) (nI q) p1 := by
  unfold wpY_open
  exact yw_dead0 hq ha (br_t rfl (yw_name1 hb (br_f (by decide) h)))
theorem ym_open2 (hq : q < 4) (ha : ¬ al q = 0) (hn : n < 4) (hl : ∀ e, e < 6 → 0 ≤ le (6 * q + e)) (h : post (-2) (al, le, so, wh, og, nm, fs, fb, pc, yb)) : wpY_open post (al, le, so, wh, og, nm, fs, fb, pc, yb) (nI q) (nI n) := by
  unfold wpY_open
  exact yw_dead0 hq ha (br_t rfl (yw_name0 hn (br_t rfl (yw_lfn hq hl (br_f (by decide) h)))))
theorem ym_open47 (hq : q < 4) (hn : n < 4) (hd : d < 6) (hl : ∀ e, e < d → 0 ≤ le (6 * q + e)) (hz : ¬ 0 ≤ le (6 * q + d)) (e : nm n = nI f) (ho : o < 24) (h0 : ¬ dk_L le o) (hm : ∀ j, j < o → dk_L le j)
    (h : post (nI d) (al, upd le (6 * q + d) (nI o), upd so o 0, upd wh o (nI f), upd og o 0, nm, fs, fb, pc, yb)) : wY_open_47 post (nI q) (nI n) al le so wh og nm fs fb pc yb := by
  unfold wY_open_47
  rw [nI_clamp (n := n) (by omega), e]
  exact ⟨vp_in_nI hn (by omega), yw_lead hq hd hl hz ho h0 hm h⟩
theorem ym_open3 (hq : q < 4) (ha : ¬ al q = 0) (hn : n < 4) (hd : d < 6) (hl : ∀ e, e < d → 0 ≤ le (6 * q + e)) (hz : ¬ 0 ≤ le (6 * q + d)) (hf : f < 28) (e : nm n = nI f) (ho : o < 24) (h0 : ¬ dk_L le o) (hm : ∀ j, j < o → dk_L le j)
    (h : post (nI d) (al, upd le (6 * q + d) (nI o), upd so o 0, upd wh o (nI f), upd og o 0, nm, fs, fb, pc, yb)) : wpY_open post (al, le, so, wh, og, nm, fs, fb, pc, yb) (nI q) (nI n) := by
  unfold wpY_open
  refine yw_dead0 hq ha (br_t rfl (yw_name0 hn (br_t rfl (yw_lf hq hd hl hz (br_t (nI_pos' (by omega)) ⟨vp_in_nI hn (by omega), br_t ?_ ?_⟩)))))
  · rw [nI_clamp (n := n) (by omega)]
    exact dk_ge0 e
  · exact ym_open47 hq hn hd hl hz e ho h0 hm h
theorem ym_open4 (hq : q < 4) (ha : ¬ al q = 0) (hn : n < 4) (hd : d < 6) (hl : ∀ e, e < d → 0 ≤ le (6 * q + e)) (hz : ¬ 0 ≤ le (6 * q + d)) (hf : f < 28) (e : nm n = -1) (hf0 : ¬ dk_G le so wh nm (nI f)) (hfm : ∀ j, j < f → dk_G le so wh nm (nI j)) (ho : o < 24) (h0 : ¬ dk_L le o) (hm : ∀ j, j < o → dk_L le j)
    (h : post (nI d) (al, upd le (6 * q + d) (nI o), upd so o 0, upd wh o (nI f), upd og o 0, upd nm n (nI f), upd fs f 0, fb, pc, yb)) : wpY_open post (al, le, so, wh, og, nm, fs, fb, pc, yb) (nI q) (nI n) := by
  unfold wpY_open
  have vn : vp_in (nI n) 4 := vp_in_nI hn (by omega)
  refine yw_dead0 hq ha (br_t rfl (yw_name0 hn (br_t rfl (yw_lf hq hd hl hz (br_t (nI_pos' (by omega)) ⟨vn, br_f ?_ (yw_newFile hf hf0 hfm ?_)⟩)))))
  · rw [nI_clamp (n := n) (by omega), e]
    decide
  · rw [nI_clamp (n := n) (by omega)]
    exact ⟨vn, nm_e (ym_open47 hq hn hd hl hz pk_us ho h0 hm h)⟩
end
theorem i_vc_open {k : Nat} {u : SX} {v : SY} (I : i_Rel k u v) (hk : k + 4 ≤ 2048) (v1 : Int32) (v2 : Int32) : wpX_open (fun r u' => wpY_open (fun r' v' => r' = r ∧ i_Rel (k + 4) u' v') v v1 v2) u v1 v2 := by
  refine dk_el (P := fun u v => wpX_open (fun r u' => wpY_open (fun r' v' => r' = r ∧ i_Rel (k + 4) u' v') v v1 v2) u v1 v2) I ?_
  intro lv al le us xs wh og nm fu fs fb hr hw ps pc xb so yb I
  rcases Classical.em (∃ q, q < 4 ∧ v1 = nI q ∧ ¬ al q = 0) with ⟨q, hq, rfl, ha⟩ | hn
  · rcases Classical.em (∃ n, n < 4 ∧ v2 = nI n) with ⟨n, hn, rfl⟩ | hb
    · rcases Classical.em (∃ d, d < 6 ∧ ¬ 0 ≤ le (6 * q + d)) with hd | hd
      · obtain ⟨d, hd, hz, hl'⟩ := dk_lst hd
        have hl : ∀ e, e < d → 0 ≤ le (6 * q + e) := fun e he => Classical.not_not.mp (hl' e he)
        have L := I.2.1
        have U := I.2.2.1
        have N := I.2.2.2.2.2.2.1
        have Q := I.2.2.2.2.2.2.2.1
        have hi : 6 * q + d < 24 := by omega
        have hz' := (dk_free L hi).mp hz
        obtain ⟨o, ho, h0, hm⟩ := dk_roomO U hi hz'
        have yo : ¬ dk_L le o := (dk_us_L U ho).mp h0
        have ym : ∀ j, j < o → dk_L le j := fun j hj => Classical.not_not.mp (fun z => hm j hj ((dk_us_L U (by omega)).mpr z))
        rcases N n hn with e | ⟨f, hf, e⟩
        · obtain ⟨f, hf, hf0, hfm⟩ := dk_roomF Q hi hz'
          have I1 := dk_mkfile I hn e hf hf0
          have I2 := dk_newF I1 hq hd ha hz' ho yo hf
          exact xm_open4 hq ha hn hd hl hz hf e hf0 hfm ho h0 hm (ym_open4 hq ha hn hd hl hz hf e ((dk_G_fu Q hf).mp hf0) (fun j hj => Classical.not_not.mp (fun z => hfm j hj ((dk_G_fu Q (by omega)).mpr z))) ho yo ym ⟨rfl, dk_in I2⟩)
        · have I2 := dk_newF I hq hd ha hz' ho yo hf
          exact xm_open3 hq ha hn hd hl hz hf e ho h0 hm (ym_open3 hq ha hn hd hl hz hf e ho yo ym ⟨rfl, dk_in I2⟩)
      · have hl : ∀ e, e < 6 → 0 ≤ le (6 * q + e) := fun e he => Classical.not_not.mp (fun z => hd ⟨e, he, z⟩)
        exact xm_open2 hq ha hn hl (ym_open2 hq ha hn hl ⟨rfl, dk_in I⟩)
    · exact xm_open1 hq ha hb (ym_open1 hq ha hb ⟨rfl, dk_in I⟩)
  · exact xm_open0 hn (ym_open0 hn ⟨rfl, dk_in I⟩)
end
section
section
variable {lv : Int32} {al le us xs wh og nm fu fs fb hr hw ps pc xb : Nat → Int32} {post : Int32 → SX → Prop} {p0 p1 : Int32} {q r w o o2 p : Nat}
theorem xm_pipe0 (hn : ¬ ∃ q, q < 4 ∧ p0 = nI q ∧ ¬ al q = 0) (h : post (-1) (lv, al, le, us, xs, wh, og, nm, fu, fs, fb, hr, hw, ps, pc, xb)) : wpX_pipe post (lv, al, le, us, xs, wh, og, nm, fu, fs, fb, hr, hw, ps, pc, xb) p0 := by
  unfold wpX_pipe
  exact xw_alive0 hn (br_t rfl h)
theorem xm_pipe1 (hq : q < 4) (ha : ¬ al q = 0) (hl : ∀ e, e < 6 → 0 ≤ le (6 * q + e)) (h : post (-2) (lv, al, le, us, xs, wh, og, nm, fu, fs, fb, hr, hw, ps, pc, xb)) : wpX_pipe post (lv, al, le, us, xs, wh, og, nm, fu, fs, fb, hr, hw, ps, pc, xb) (nI q) := by
  unfold wpX_pipe
  exact xw_alive1 hq ha (br_f (by decide) (xw_fdn (a := 0) hq (by omega) (fun e _ he => hl e he) (br_f (by decide) (by unfold wX_pipe_33; exact br_f (by decide) h))))
theorem xm_pipe2 (hq : q < 4) (ha : ¬ al q = 0) (hr6 : r < 6) (hl : ∀ e, e < r → 0 ≤ le (6 * q + e)) (hz : ¬ 0 ≤ le (6 * q + r)) (hl2 : ∀ e, r + 1 ≤ e → e < 6 → 0 ≤ le (6 * q + e)) (h : post (-2) (lv, al, le, us, xs, wh, og, nm, fu, fs, fb, hr, hw, ps, pc, xb)) : wpX_pipe post (lv, al, le, us, xs, wh, og, nm, fu, fs, fb, hr, hw, ps, pc, xb) (nI q) := by
  unfold wpX_pipe
  refine xw_alive1 hq ha (br_f (by decide) (xw_fd (a := 0) hq (by omega) hr6 (fun e _ he => hl e he) hz (br_t (nI_pos' (by omega)) ?_)))
  rw [nI_1]
  exact xw_fdn hq (by omega) hl2 (by unfold wX_pipe_33; exact br_f (by decide) h)
theorem xm_pipe33 (hq : q < 4) (hr6 : r < 6) (hw6 : w < 6) (hp : p < 24) (hp0 : hr p = 0 ∧ hw p = 0) (hpm : ∀ j, j < p → ¬ (hr j = 0 ∧ hw j = 0))
    (ho : o < 24) (h0 : us o = 0) (hm : ∀ j, j < o → ¬ us j = 0) (ho2 : o2 < 24) (h02 : upd us o 1 o2 = 0) (hm2 : ∀ j, j < o2 → ¬ upd us o 1 j = 0)
    (h : post (8 * nI r + nI w) (lv, al, upd (upd le (6 * q + r) (nI o)) (6 * q + w) (nI o2), upd (upd us o 1) o2 1, upd (upd xs o 2) o2 3, upd (upd wh o (nI p)) o2 (nI p), upd (upd og o 0) o2 0, nm, fu, fs, fb, upd hr p 1, upd hw p 1, upd ps p 0, upd pc p 0, xb)) :
    wX_pipe_33 post (nI q) (nI r) (nI w) lv al le us xs wh og nm fu fs fb hr hw ps pc xb := by
  unfold wX_pipe_33
  have vp : vp_in (nI p) 24 := vp_in_nI hp (by omega)
  refine br_t (nI_pos' (by omega)) (xw_fp hp hp0 hpm ?_)
  rw [nI_clamp (n := p) (by omega), dk_6, dk_6, nI_clamp (n := 6 * q + r) (by omega), nI_clamp (n := 6 * q + w) (by omega), dk_nb1]
  exact ⟨vp, nm_e ⟨vp, nm_e ⟨vp, nm_e ⟨vp, nm_e (xw_new ho h0 hm ⟨vp_in_nI (by omega) (by omega), nm_e (xw_new ho2 h02 hm2 ⟨vp_in_nI (by omega) (by omega), nm_e h⟩)⟩)⟩⟩⟩⟩
theorem xm_pipe3 (hq : q < 4) (ha : ¬ al q = 0) (hr6 : r < 6) (hl : ∀ e, e < r → 0 ≤ le (6 * q + e)) (hz : ¬ 0 ≤ le (6 * q + r)) (hrw : r + 1 ≤ w) (hw6 : w < 6) (hl2 : ∀ e, r + 1 ≤ e → e < w → 0 ≤ le (6 * q + e)) (hz2 : ¬ 0 ≤ le (6 * q + w))
    (h : wX_pipe_33 post (nI q) (nI r) (nI w) lv al le us xs wh og nm fu fs fb hr hw ps pc xb) : wpX_pipe post (lv, al, le, us, xs, wh, og, nm, fu, fs, fb, hr, hw, ps, pc, xb) (nI q) := by
  unfold wpX_pipe
  refine xw_alive1 hq ha (br_f (by decide) (xw_fd (a := 0) hq (by omega) hr6 (fun e _ he => hl e he) hz (br_t (nI_pos' (by omega)) ?_)))
  rw [nI_1]
  exact xw_fd hq hrw hw6 hl2 hz2 h
end
section
variable {al le so wh og nm fs fb pc yb : Nat → Int32} {post : Int32 → SY → Prop} {p0 p1 : Int32} {q r w o o2 p : Nat}
theorem ym_pipe0 (hn : ¬ ∃ q, q < 4 ∧ p0 = nI q ∧ ¬ al q = 0) (h : post (-1) (al, le, so, wh, og, nm, fs, fb, pc, yb)) : wpY_pipe post (al, le, so, wh, og, nm, fs, fb, pc, yb) p0 := by
  unfold wpY_pipe
  exact yw_dead1 hn (br_f (by decide) h)
theorem ym_pipe1 (hq : q < 4) (ha : ¬ al q = 0) (hc : dk_n (fun d => ¬ 0 ≤ le (6 * q + d)) 6 < 2) (h : post (-2) (al, le, so, wh, og, nm, fs, fb, pc, yb)) : wpY_pipe post (al, le, so, wh, og, nm, fs, fb, pc, yb) (nI q) := by
  unfold wpY_pipe
  exact yw_dead0 hq ha (br_t rfl (yw_fds hq (br_f (nI_ge (b := 2) hc (by omega)) h)))
theorem ym_pipe45 (hq : q < 4) (hr6 : r < 6) (hl : ∀ e, e < r → 0 ≤ le (6 * q + e)) (hz : ¬ 0 ≤ le (6 * q + r)) (hrw : r + 1 ≤ w) (hw6 : w < 6) (hl2 : ∀ e, r + 1 ≤ e → e < w → 0 ≤ le (6 * q + e)) (hz2 : ¬ 0 ≤ le (6 * q + w))
    (hp : p < 24) (ho : o < 24) (h0 : ¬ dk_L le o) (hm : ∀ j, j < o → dk_L le j) (ho2 : o2 < 24) (h02 : ¬ dk_L (upd le (6 * q + r) (nI o)) o2) (hm2 : ∀ j, j < o2 → dk_L (upd le (6 * q + r) (nI o)) j)
    (h : post (8 * nI r + nI w) (al, upd (upd le (6 * q + r) (nI o)) (6 * q + w) (nI o2), upd (upd so o 1) o2 2, upd (upd wh o (nI p)) o2 (nI p), upd (upd og o 0) o2 0, nm, fs, fb, upd pc p 0, yb)) :
    wY_pipe_45 post (nI q) (nI p) al le so wh og nm fs fb pc yb := by
  unfold wY_pipe_45
  rw [nI_clamp (n := p) (by omega)]
  refine ⟨vp_in_nI hp (by omega), nm_e (yw_lead hq hr6 hl hz ho h0 hm (yw_lead (d := w) hq hw6 (fun e he => ?_) ?_ ho2 h02 hm2 h))⟩
  · by_cases y : e = r
    · subst y; rw [pk_us]; exact nI_pos' (by omega)
    · rw [pk_un (by omega)]
      rcases Nat.lt_or_ge e r with z | z
      · exact hl e z
      · exact hl2 e (by omega) he
  · rw [pk_un (by omega)]; exact hz2
theorem ym_pipe3 (hq : q < 4) (ha : ¬ al q = 0) (hc : 2 ≤ dk_n (fun d => ¬ 0 ≤ le (6 * q + d)) 6) (hp : p < 24) (hp0 : ¬ ∃ o, o < 24 ∧ dk_C le so wh 3 (nI p) o) (hpm : ∀ j, j < p → ∃ o, o < 24 ∧ dk_C le so wh 3 (nI j) o)
    (h : wY_pipe_45 post (nI q) (nI p) al le so wh og nm fs fb pc yb) : wpY_pipe post (al, le, so, wh, og, nm, fs, fb, pc, yb) (nI q) := by
  unfold wpY_pipe
  have hb := dk_n_le (fun d => ¬ 0 ≤ le (6 * q + d)) 6
  refine yw_dead0 hq ha (br_t rfl (yw_fds hq (br_t (nI_le (a := 2) hc (by omega)) ?_)))
  refine dk_up0 (fun n x => wY_pipe_24 post (nI q) al le so wh og nm fs fb pc yb n x) p (fun n => ?_) (fun n j hj hW => ?_)
  · refine br_c (fun _ => h) (fun _ => ?_)
    exact yw_has (fun z => absurd z hp0) (fun _ => br_t rfl h)
  · refine br_f (nI_ge (a := j) (b := 23) (by omega) (by omega)) ?_
    exact yw_has (fun _ => br_f (by decide) (nm_e hW)) (fun z => absurd (hpm j hj) z)
end
theorem dk_two {F : Nat → Prop} {r w N : Nat} (hr : r < N) (hw : w < N) (hne : w ≠ r) (fr : F r) (fw : F w) : 2 ≤ dk_n F N := by
  have e : dk_n (fun d => F d ∧ d ≠ r) N + dk_b (F r) = dk_n F N + dk_b (F r ∧ r ≠ r) :=
    dk_n_1 (P := F) (Q := fun d => F d ∧ d ≠ r) hr (fun d _ hd => ⟨fun z => ⟨z, hd⟩, fun z => z.1⟩)
  have e1 := dk_bt fr
  have e2 : dk_b (F r ∧ r ≠ r) = 0 := dk_bf (fun z => z.2 rfl)
  have e3 := dk_n_p (P := fun d => F d ∧ d ≠ r) hw ⟨fw, hne⟩
  omega
theorem dk_one {F : Nat → Prop} {r N : Nat} (hr : r < N) (h : ∀ d, d < N → d ≠ r → ¬ F d) : dk_n F N < 2 := by
  have e : dk_n (fun d => F d ∧ d ≠ r) N + dk_b (F r) = dk_n F N + dk_b (F r ∧ r ≠ r) :=
    dk_n_1 (P := F) (Q := fun d => F d ∧ d ≠ r) hr (fun d _ hd => ⟨fun z => ⟨z, hd⟩, fun z => z.1⟩)
  have e1 := dk_b_le (F r)
  have e3 : dk_n (fun d => F d ∧ d ≠ r) N = 0 := dk_n_z (fun d hd z => h d hd z.2 z.1)
  omega
theorem i_vc_pipe {k : Nat} {u : SX} {v : SY} (I : i_Rel k u v) (hk : k + 4 ≤ 2048) (v1 : Int32) : wpX_pipe (fun r u' => wpY_pipe (fun r' v' => r' = r ∧ i_Rel (k + 4) u' v') v v1) u v1 := by
  refine dk_el (P := fun u v => wpX_pipe (fun r u' => wpY_pipe (fun r' v' => r' = r ∧ i_Rel (k + 4) u' v') v v1) u v1) I ?_
  intro lv al le us xs wh og nm fu fs fb hr hw ps pc xb so yb I
  rcases Classical.em (∃ q, q < 4 ∧ v1 = nI q ∧ ¬ al q = 0) with ⟨q, hq, rfl, ha⟩ | hn
  · rcases Classical.em (∃ d, d < 6 ∧ ¬ 0 ≤ le (6 * q + d)) with hd | hd
    · obtain ⟨r, hr6, hz, hl'⟩ := dk_lst hd
      have hl : ∀ e, e < r → 0 ≤ le (6 * q + e) := fun e he => Classical.not_not.mp (hl' e he)
      rcases Classical.em (∃ d, d < 6 ∧ (r + 1 ≤ d ∧ ¬ 0 ≤ le (6 * q + d))) with hd2 | hd2
      · obtain ⟨w, hw6, ⟨hrw, hz2⟩, hl2'⟩ := dk_lst hd2
        have hl2 : ∀ e, r + 1 ≤ e → e < w → 0 ≤ le (6 * q + e) := fun e h1 he => Classical.not_not.mp (fun z => hl2' e he ⟨h1, z⟩)
        obtain ⟨A, L, U, S, O, F, N, Q, R, W, P⟩ := id I
        have hi : 6 * q + r < 24 := by omega
        have hi2 : 6 * q + w < 24 := by omega
        have zr := (dk_free L hi).mp hz
        have zw := (dk_free L hi2).mp hz2
        obtain ⟨p, hp, hp0, hpm⟩ := dk_roomP S R W hi zr
        obtain ⟨o, ho, h0, hm⟩ := dk_roomO U hi zr
        have yo : ¬ dk_L le o := (dk_us_L U ho).mp h0
        have ym : ∀ j, j < o → dk_L le j := fun j hj => Classical.not_not.mp (fun z => hm j hj ((dk_us_L U (by omega)).mpr z))
        have I1 := dk_newR I hq hr6 ha zr ho yo hp hp0.1
        have U1 := I1.2.2.1
        have zw1 : upd le (6 * q + r) (nI o) (6 * q + w) = -1 := by rw [pk_un (by omega)]; exact zw
        obtain ⟨o2, ho2, h02, hm2⟩ := dk_roomO U1 hi2 zw1
        have yo2 : ¬ dk_L (upd le (6 * q + r) (nI o)) o2 := (dk_us_L U1 ho2).mp h02
        have ym2 : ∀ j, j < o2 → dk_L (upd le (6 * q + r) (nI o)) j := fun j hj => Classical.not_not.mp (fun z => hm2 j hj ((dk_us_L U1 (by omega)).mpr z))
        have I2 := dk_newW I1 hq hw6 ha zw1 ho2 yo2 hp hp0.2
        exact xm_pipe3 hq ha hr6 hl hz hrw hw6 hl2 hz2 (xm_pipe33 hq hr6 hw6 hp hp0 hpm ho h0 hm ho2 h02 hm2
          (ym_pipe3 hq ha (dk_two (F := fun d => ¬ 0 ≤ le (6 * q + d)) hr6 hw6 (by omega) hz hz2) hp (fun z => (dk_C_3 S R W hp).mp z hp0) (fun j hj => (dk_C_3 S R W (by omega)).mpr (hpm j hj))
            (ym_pipe45 hq hr6 hl hz hrw hw6 hl2 hz2 hp ho yo ym ho2 yo2 ym2 ⟨rfl, dk_in I2⟩)))
      · have hl2 : ∀ e, r + 1 ≤ e → e < 6 → 0 ≤ le (6 * q + e) := fun e h1 he => Classical.not_not.mp (fun z => hd2 ⟨e, he, h1, z⟩)
        refine xm_pipe2 hq ha hr6 hl hz hl2 (ym_pipe1 hq ha (dk_one (F := fun d => ¬ 0 ≤ le (6 * q + d)) hr6 (fun d hd hne z => z ?_)) ⟨rfl, dk_in I⟩)
        rcases Nat.lt_or_ge d r with y | y
        · exact hl d y
        · exact hl2 d (by omega) hd
    · have hl : ∀ e, e < 6 → 0 ≤ le (6 * q + e) := fun e he => Classical.not_not.mp (fun z => hd ⟨e, he, z⟩)
      exact xm_pipe1 hq ha hl (ym_pipe1 hq ha (dk_one (F := fun d => ¬ 0 ≤ le (6 * q + d)) (r := 0) (by omega) (fun d hd _ z => z (hl d hd))) ⟨rfl, dk_in I⟩)
  · exact xm_pipe0 hn (ym_pipe0 hn ⟨rfl, dk_in I⟩)
end
section
section
variable {lv : Int32} {al le us xs wh og nm fu fs fb hr hw ps pc xb : Nat → Int32} {post : Int32 → SX → Prop} {p0 p1 : Int32} {q c d o : Nat}
theorem xm_dup0 (L : dk_IL le) (hn : ¬ ∃ q d, q < 4 ∧ d < 6 ∧ p0 = nI q ∧ p1 = nI d ∧ ¬ al q = 0 ∧ 0 ≤ le (6 * q + d)) (h : post (-1) (lv, al, le, us, xs, wh, og, nm, fu, fs, fb, hr, hw, ps, pc, xb)) : wpX_dup post (lv, al, le, us, xs, wh, og, nm, fu, fs, fb, hr, hw, ps, pc, xb) p0 p1 := by
  unfold wpX_dup
  exact xw_op0 L hn (br_f (by decide) h)
theorem xm_dup1 (hq : q < 4) (ha : ¬ al q = 0) (hc : c < 6) (e : le (6 * q + c) = nI o) (ho : o < 24) (hl : ∀ e, e < 6 → 0 ≤ le (6 * q + e)) (h : post (-2) (lv, al, le, us, xs, wh, og, nm, fu, fs, fb, hr, hw, ps, pc, xb)) : wpX_dup post (lv, al, le, us, xs, wh, og, nm, fu, fs, fb, hr, hw, ps, pc, xb) (nI q) (nI c) := by
  unfold wpX_dup
  refine xw_op1 hq ha hc ?_
  rw [e]
  exact br_t (nI_pos' (by omega)) (xw_fdn (a := 0) hq (by omega) (fun e _ he => hl e he) (br_f (by decide) h))
theorem xm_dup2 (hq : q < 4) (ha : ¬ al q = 0) (hc : c < 6) (e : le (6 * q + c) = nI o) (ho : o < 24) (hd : d < 6) (hl : ∀ e, e < d → 0 ≤ le (6 * q + e)) (hz : ¬ 0 ≤ le (6 * q + d))
    (h : post (nI d) (lv, al, upd le (6 * q + d) (nI o), upd us o (us o + 1), xs, wh, og, nm, fu, fs, fb, hr, hw, ps, pc, xb)) : wpX_dup post (lv, al, le, us, xs, wh, og, nm, fu, fs, fb, hr, hw, ps, pc, xb) (nI q) (nI c) := by
  unfold wpX_dup
  refine xw_op1 hq ha hc ?_
  rw [e, nI_clamp (n := o) (by omega)]
  have vo : vp_in (nI o) 24 := vp_in_nI ho (by omega)
  refine br_t (nI_pos' (by omega)) (xw_fd (a := 0) hq (by omega) hd (fun e _ he => hl e he) hz ?_)
  rw [dk_6, nI_clamp (n := 6 * q + d) (by omega)]
  exact br_t (nI_pos' (by omega)) ⟨vp_in_nI (by omega) (by omega), nm_e ⟨vo, vo, nm_e h⟩⟩
end
section
variable {al le so wh og nm fs fb pc yb : Nat → Int32} {post : Int32 → SY → Prop} {p0 p1 : Int32} {q c d o : Nat}
theorem ym_dup0 (hn : ¬ ∃ q d, q < 4 ∧ d < 6 ∧ p0 = nI q ∧ p1 = nI d ∧ ¬ al q = 0 ∧ 0 ≤ le (6 * q + d)) (h : post (-1) (al, le, so, wh, og, nm, fs, fb, pc, yb)) : wpY_dup post (al, le, so, wh, og, nm, fs, fb, pc, yb) p0 p1 := by
  unfold wpY_dup
  exact yw_free1 hn (br_f (by decide) h)
theorem ym_dup1 (hq : q < 4) (ha : ¬ al q = 0) (hc : c < 6) (hl : ∀ e, e < 6 → 0 ≤ le (6 * q + e)) (h : post (-2) (al, le, so, wh, og, nm, fs, fb, pc, yb)) : wpY_dup post (al, le, so, wh, og, nm, fs, fb, pc, yb) (nI q) (nI c) := by
  unfold wpY_dup
  exact yw_free0 hq ha hc (hl c hc) (br_t rfl (yw_lfn hq hl (br_f (by decide) h)))
theorem ym_dup2 (hq : q < 4) (ha : ¬ al q = 0) (hc : c < 6) (e : le (6 * q + c) = nI o) (ho : o < 24) (hd : d < 6) (hl : ∀ e, e < d → 0 ≤ le (6 * q + e)) (hz : ¬ 0 ≤ le (6 * q + d))
    (h : post (nI d) (al, upd le (6 * q + d) (nI o), so, wh, og, nm, fs, fb, pc, yb)) : wpY_dup post (al, le, so, wh, og, nm, fs, fb, pc, yb) (nI q) (nI c) := by
  unfold wpY_dup
  refine yw_free0 hq ha hc (dk_ge0 e) (br_t rfl (yw_lf hq hd hl hz ?_))
  rw [dk_6, dk_6, nI_clamp (n := 6 * q + d) (by omega), nI_clamp (n := 6 * q + c) (by omega), e]
  exact br_t (nI_pos' (by omega)) ⟨vp_in_nI (by omega) (by omega), vp_in_nI (by omega) (by omega), nm_e h⟩
end
theorem i_vc_dup {k : Nat} {u : SX} {v : SY} (I : i_Rel k u v) (hk : k + 4 ≤ 2048) (v1 : Int32) (v2 : Int32) : wpX_dup (fun r u' => wpY_dup (fun r' v' => r' = r ∧ i_Rel (k + 4) u' v') v v1 v2) u v1 v2 := by
  refine dk_el (P := fun u v => wpX_dup (fun r u' => wpY_dup (fun r' v' => r' = r ∧ i_Rel (k + 4) u' v') v v1 v2) u v1 v2) I ?_
  intro lv al le us xs wh og nm fu fs fb hr hw ps pc xb so yb I
  have L := I.2.1
  rcases Classical.em (∃ q d, q < 4 ∧ d < 6 ∧ v1 = nI q ∧ v2 = nI d ∧ ¬ al q = 0 ∧ 0 ≤ le (6 * q + d)) with ⟨q, c, hq, hc, rfl, rfl, ha, hg⟩ | hn
  · obtain ⟨o, ho, e⟩ := dk_used L (by omega) hg
    rcases Classical.em (∃ d, d < 6 ∧ ¬ 0 ≤ le (6 * q + d)) with hd | hd
    · obtain ⟨d, hd, hz, hl'⟩ := dk_lst hd
      have hl : ∀ e, e < d → 0 ≤ le (6 * q + e) := fun e he => Classical.not_not.mp (hl' e he)
      have I1 := dk_dup I hq hd ha ((dk_free L (by omega)).mp hz) ho ⟨6 * q + c, by omega, e⟩
      exact xm_dup2 hq ha hc e ho hd hl hz (ym_dup2 hq ha hc e ho hd hl hz ⟨rfl, dk_in I1⟩)
    · have hl : ∀ e, e < 6 → 0 ≤ le (6 * q + e) := fun e he => Classical.not_not.mp (fun z => hd ⟨e, he, z⟩)
      exact xm_dup1 hq ha hc e ho hl (ym_dup1 hq ha hc hl ⟨rfl, dk_in I⟩)
  · exact xm_dup0 L hn (ym_dup0 hn ⟨rfl, dk_in I⟩)
theorem i_vc_close {k : Nat} {u : SX} {v : SY} (I : i_Rel k u v) (hk : k + 4 ≤ 2048) (v1 : Int32) (v2 : Int32) : wpX_close (fun r u' => wpY_close (fun r' v' => r' = r ∧ i_Rel (k + 4) u' v') v v1 v2) u v1 v2 := by
  refine dk_el (P := fun u v => wpX_close (fun r u' => wpY_close (fun r' v' => r' = r ∧ i_Rel (k + 4) u' v') v v1 v2) u v1 v2) I ?_
  intro lv al le us xs wh og nm fu fs fb hr hw ps pc xb so yb I
  have L := I.2.1
  rcases Classical.em (∃ q d, q < 4 ∧ d < 6 ∧ v1 = nI q ∧ v2 = nI d ∧ ¬ al q = 0 ∧ 0 ≤ le (6 * q + d)) with ⟨q, c, hq, hc, rfl, rfl, ha, hg⟩ | hn
  · obtain ⟨o, ho, e⟩ := dk_used L (by omega) hg
    unfold wpX_close
    refine xw_op1 hq ha hc ?_
    rw [e, dk_6, nI_clamp (n := 6 * q + c) (by omega)]
    refine br_t (nI_pos' (by omega)) ⟨vp_in_nI (by omega) (by omega), nm_e (xw_letGo I (by omega) e ho (fun fu' hr' hw' I1 => ?_))⟩
    dsimp only
    unfold wpY_close
    refine yw_free0 hq ha hc hg (br_t rfl ?_)
    rw [dk_6, nI_clamp (n := 6 * q + c) (by omega)]
    exact ⟨vp_in_nI (by omega) (by omega), nm_e ⟨rfl, dk_in I1⟩⟩
  · unfold wpX_close
    refine xw_op0 L hn (br_f (by decide) ?_)
    unfold wpY_close
    exact yw_free1 hn (br_f (by decide) ⟨rfl, dk_in I⟩)
end
section
/-- process c's descriptors below k are copies of q's -/
def dk_cp (le : Nat → Int32) (q c k : Nat) : Nat → Int32 := fun j => if 6 * c ≤ j ∧ j < 6 * c + k then le (6 * q + (j - 6 * c)) else le j
/-- process q's descriptors below k are free -/
def dk_cl (le : Nat → Int32) (q k : Nat) : Nat → Int32 := fun j => if 6 * q ≤ j ∧ j < 6 * q + k then -1 else le j
section
variable {le : Nat → Int32} {q c k : Nat}
theorem dk_cp0 : dk_cp le q c 0 = le := by
  funext j
  exact if_neg (by omega)
theorem dk_cp_s (hk : k < 6) (h : q ≠ c) : dk_cp le q c k (6 * q + k) = le (6 * q + k) := if_neg (by omega)
theorem dk_cp_d : dk_cp le q c k (6 * c + k) = le (6 * c + k) := if_neg (by omega)
theorem dk_cp1 : upd (dk_cp le q c k) (6 * c + k) (le (6 * q + k)) = dk_cp le q c (k + 1) := by
  funext j
  by_cases e : j = 6 * c + k
  · subst e
    rw [pk_us]
    unfold dk_cp
    rw [if_pos (by omega), Nat.add_sub_cancel_left]
  · rw [pk_un e]
    unfold dk_cp
    by_cases y : 6 * c ≤ j ∧ j < 6 * c + k
    · rw [if_pos y, if_pos (by omega)]
    · rw [if_neg y, if_neg (by omega)]
theorem dk_cl0 : dk_cl le q 0 = le := by
  funext j
  exact if_neg (by omega)
theorem dk_cl_at : dk_cl le q k (6 * q + k) = le (6 * q + k) := if_neg (by omega)
theorem dk_cl1 : upd (dk_cl le q k) (6 * q + k) (-1) = dk_cl le q (k + 1) := by
  funext j
  by_cases e : j = 6 * q + k
  · subst e
    rw [pk_us]
    unfold dk_cl
    rw [if_pos (by omega)]
  · rw [pk_un e]
    unfold dk_cl
    by_cases y : 6 * q ≤ j ∧ j < 6 * q + k
    · rw [if_pos y, if_pos (by omega)]
    · rw [if_neg y, if_neg (by omega)]
theorem dk_cl6 {d : Nat} (hd : d < 6) : dk_cl le q 6 (6 * q + d) = -1 := if_pos (by omega)
end
section
variable {lv : Int32} {al le us xs wh og nm fu fs fb hr hw ps pc xb so yb : Nat → Int32} {post : Int32 → SX → Prop} {q c : Nat}
theorem xw_fork69 (hq : q < 4) (hc : c < 4) (hne : q ≠ c) (ha : ¬ al c = 0) (hd : ∀ d, d < 6 → le (6 * c + d) = -1) : ∀ (m k : Nat) (us : Nat → Int32), k + m = 6 → dk_I lv al (dk_cp le q c k) us xs wh og nm fu fs hr hw ps pc xb so yb →
    (∀ us', dk_I lv al (dk_cp le q c 6) us' xs wh og nm fu fs hr hw ps pc xb so yb → post (nI c) (lv, al, dk_cp le q c 6, us', xs, wh, og, nm, fu, fs, fb, hr, hw, ps, pc, xb)) → wX_fork_69 post (nI q) (nI c) lv (m + 1) (nI k) al (dk_cp le q c k) us xs wh og nm fu fs fb hr hw ps pc xb := by
  intro m
  induction m with
  | zero =>
    intro k us e I h
    have e' : k = 6 := by omega
    subst e'
    exact br_t (nI_le (a := 6) (b := 6) (by omega) (by omega)) (h us I)
  | succ m ih =>
    intro k us e I h
    have hk : k < 6 := by omega
    refine br_f (nI_ge (a := k) (b := 6) hk (by omega)) ?_
    rw [dk_6, dk_6, nI_clamp (n := 6 * q + k) (by omega), nI_clamp (n := 6 * c + k) (by omega)]
    refine ⟨vp_in_nI (by omega) (by omega), nm_r (dk_cp_s hk hne) ⟨vp_in_nI (by omega) (by omega), nm_r dk_cp1 ?_⟩⟩
    rcases I.2.1 (6 * q + k) (by omega) with z | ⟨o, ho, z⟩
    · have z' := z
      rw [dk_cp_s hk hne] at z'
      have y : dk_cp le q c (k + 1) = dk_cp le q c k := by
        rw [← dk_cp1, z']
        exact dk_upd_id (dk_cp_d.trans (hd k hk))
      rw [z']
      refine br_t (by decide) (nm_r (nI_1 k) ?_)
      exact ih (k + 1) us (by omega) (by rw [y]; exact I) h
    · have z' := z
      rw [dk_cp_s hk hne] at z'
      have I1 := dk_dup I hc hk ha (dk_cp_d.trans (hd k hk)) ho ⟨6 * q + k, by omega, z⟩
      rw [← z', dk_cp1] at I1
      rw [z', nI_clamp (n := o) (by omega)]
      have vo : vp_in (nI o) 24 := vp_in_nI ho (by omega)
      refine br_f (nI_pos (by omega)) ⟨vo, vo, nm_e (nm_r (nI_1 k) ?_)⟩
      exact ih (k + 1) _ (by omega) I1 h
theorem xw_fork (hq : q < 4) (ha : ¬ al q = 0) (hlv : ¬ lv = 4) (hc : c < 4) (h0 : al c = 0) (hm : ∀ j, j < c → ¬ al j = 0) (I : dk_I lv al le us xs wh og nm fu fs hr hw ps pc xb so yb)
    (h : ∀ us', dk_I (lv + 1) (upd al c 1) (dk_cp le q c 6) us' xs wh og nm fu fs hr hw ps pc xb so yb → post (nI c) (lv + 1, upd al c 1, dk_cp le q c 6, us', xs, wh, og, nm, fu, fs, fb, hr, hw, ps, pc, xb)) : wpX_fork post (lv, al, le, us, xs, wh, og, nm, fu, fs, fb, hr, hw, ps, pc, xb) (nI q) := by
  unfold wpX_fork
  refine xw_alive1 hq ha (br_f (by decide) (br_f hlv ?_))
  refine dk_dn (fun n x y => wX_fork_25 post (nI q) lv al le us xs wh og nm fu fs fb hr hw ps pc xb n x y) (fun p => al p = 0) 4 c 3 (by decide) hc h0 hm (fun n => ?_) (fun n k x hk z hW => ?_) (fun n k x hk z hW => ?_)
  · refine br_t (by decide) ?_
    rw [nI_clamp (by omega), dk_nb1]
    refine ⟨vp_in_nI hc (by omega), nm_e (nm_e ⟨7, ?_⟩)⟩
    have hne : q ≠ c := fun e => by subst e; exact ha h0
    have I1 := dk_birth I hc h0
    have y := xw_fork69 (lv := lv + 1) (al := upd al c 1) (le := le) (fb := fb) (post := post) hq hc hne (by rw [pk_us]; decide) (fun d hd => I.1.2 c d hc h0 hd) 6 0 us (by omega) (by rw [dk_cp0]; exact I1) h
    rw [dk_cp0, nI_0] at y
    exact y
  · refine br_f (nI_pos (by omega)) ?_
    rw [nI_clamp (by omega)]
    exact ⟨vp_in_nI hk (by omega), br_t z (nm_e hW)⟩
  · refine br_f (nI_pos (by omega)) ?_
    rw [nI_clamp (by omega)]
    exact ⟨vp_in_nI hk (by omega), br_f z (nm_e hW)⟩
theorem xw_exit20 (hq : q < 4) (ha : ¬ al q = 0) : ∀ (m k : Nat) (us fu hr hw : Nat → Int32), k + m = 6 → dk_I lv al (dk_cl le q k) us xs wh og nm fu fs hr hw ps pc xb so yb →
    (∀ us' fu' hr' hw', dk_I (lv - 1) (upd al q 0) (dk_cl le q 6) us' xs wh og nm fu' fs hr' hw' ps pc xb so yb → post 0 (lv - 1, upd al q 0, dk_cl le q 6, us', xs, wh, og, nm, fu', fs, fb, hr', hw', ps, pc, xb)) →
    wX_exit_20 post (nI q) (m + 1) (nI k) lv al (dk_cl le q k) us xs wh og nm fu fs fb hr hw ps pc xb := by
  intro m
  induction m with
  | zero =>
    intro k us fu hr hw e I h
    have e' : k = 6 := by omega
    subst e'
    refine br_t (nI_le (a := 6) (b := 6) (by omega) (by omega)) ?_
    rw [nI_clamp (by omega), dk_nb0]
    exact ⟨vp_in_nI hq (by omega), nm_e (nm_e (h us fu hr hw (dk_death I hq ha (fun d hd => dk_cl6 hd))))⟩
  | succ m ih =>
    intro k us fu hr hw e I h
    have hk : k < 6 := by omega
    refine br_f (nI_ge (a := k) (b := 6) hk (by omega)) ?_
    rw [dk_6, nI_clamp (n := 6 * q + k) (by omega)]
    have v : vp_in (nI (6 * q + k)) 24 := vp_in_nI (by omega) (by omega)
    refine ⟨v, ?_⟩
    rcases I.2.1 (6 * q + k) (by omega) with z | ⟨o, ho, z⟩
    · have y : dk_cl le q (k + 1) = dk_cl le q k := by
        rw [← dk_cl1]
        exact dk_upd_id z
      refine nm_r z (br_t (by decide) (nm_r (nI_1 k) ?_))
      rw [← y]
      exact ih (k + 1) us fu hr hw (by omega) (by rw [y]; exact I) h
    · refine nm_r z (br_f (nI_pos (by omega)) ⟨v, nm_e (xw_letGo I (by omega) z ho (fun fu' hr' hw' I1 => ?_))⟩)
      refine nm_r (nI_1 k) ?_
      rw [dk_cl1] at I1 ⊢
      exact ih (k + 1) _ fu' hr' hw' (by omega) I1 h
end
end
section
section
variable {al le so wh og nm fs fb pc yb : Nat → Int32} {post : Int32 → SY → Prop} {q c : Nat}
theorem yw_fork35 (hq : q < 4) (hc : c < 4) (hne : q ≠ c) (h : post (nI c) (al, dk_cp le q c 6, so, wh, og, nm, fs, fb, pc, yb)) : ∀ (m k : Nat), k + m = 6 → wY_fork_35 post (nI q) (nI c) (m + 1) (nI k) al (dk_cp le q c k) so wh og nm fs fb pc yb := by
  intro m
  induction m with
  | zero =>
    intro k e
    have e' : k = 6 := by omega
    subst e'
    exact br_t (nI_le (a := 6) (b := 6) (by omega) (by omega)) h
  | succ m ih =>
    intro k e
    have hk : k < 6 := by omega
    refine br_f (nI_ge (a := k) (b := 6) hk (by omega)) ?_
    rw [dk_6, dk_6, nI_clamp (n := 6 * q + k) (by omega), nI_clamp (n := 6 * c + k) (by omega), dk_cp_s hk hne]
    exact ⟨vp_in_nI (by omega) (by omega), vp_in_nI (by omega) (by omega), nm_r dk_cp1 (nm_r (nI_1 k) (ih (k + 1) (by omega)))⟩
theorem ym_fork (hq : q < 4) (ha : ¬ al q = 0) (hc : c < 4) (h0 : al c = 0) (hm : ∀ j, j < c → ¬ al j = 0) (h : post (nI c) (upd al c 1, dk_cp le q c 6, so, wh, og, nm, fs, fb, pc, yb)) : wpY_fork post (al, le, so, wh, og, nm, fs, fb, pc, yb) (nI q) := by
  unfold wpY_fork
  have hne : q ≠ c := fun e => by subst e; exact ha h0
  refine yw_dead0 hq ha (br_t rfl ?_)
  refine dk_up0 (fun n x => wY_fork_12 post (nI q) al le so wh og nm fs fb pc yb n x) c (fun n => ?_) (fun n j hj hW => ?_)
  · refine br_f (nI_ge (a := c) (b := 4) hc (by omega)) ?_
    rw [nI_clamp (n := c) (by omega), dk_nb1]
    have v : vp_in (nI c) 4 := vp_in_nI hc (by omega)
    refine ⟨v, br_t h0 ⟨v, nm_e ⟨7, ?_⟩⟩⟩
    have y := yw_fork35 hq hc hne h 6 0 (by omega)
    rw [dk_cp0, nI_0] at y
    exact y
  · refine br_f (nI_ge (a := j) (b := 4) (by omega) (by omega)) ?_
    rw [nI_clamp (n := j) (by omega)]
    exact ⟨vp_in_nI (by omega) (by omega), br_f (hm j hj) (nm_e hW)⟩
theorem ym_fork2 (hq : q < 4) (ha : ∀ p, p < 4 → ¬ al p = 0) (h : post (-2) (al, le, so, wh, og, nm, fs, fb, pc, yb)) : wpY_fork post (al, le, so, wh, og, nm, fs, fb, pc, yb) (nI q) := by
  unfold wpY_fork
  refine yw_dead0 hq (ha q hq) (br_t rfl ?_)
  refine dk_up0 (fun n x => wY_fork_12 post (nI q) al le so wh og nm fs fb pc yb n x) 4 (fun n => ?_) (fun n j hj hW => ?_)
  · exact br_t (nI_le (a := 4) (b := 4) (by omega) (by omega)) h
  · refine br_f (nI_ge (a := j) (b := 4) (by omega) (by omega)) ?_
    rw [nI_clamp (n := j) (by omega)]
    exact ⟨vp_in_nI (by omega) (by omega), br_f (ha j hj) (nm_e hW)⟩
theorem yw_exit57 (hq : q < 4) (h : post 0 (al, dk_cl le q 6, so, wh, og, nm, fs, fb, pc, yb)) : ∀ (m k : Nat), k + m = 6 → wY_exit_57 post (nI q) (m + 1) (nI k) al (dk_cl le q k) so wh og nm fs fb pc yb := by
  intro m
  induction m with
  | zero =>
    intro k e
    have e' : k = 6 := by omega
    subst e'
    exact br_t (nI_le (a := 6) (b := 6) (by omega) (by omega)) h
  | succ m ih =>
    intro k e
    have hk : k < 6 := by omega
    refine br_f (nI_ge (a := k) (b := 6) hk (by omega)) ?_
    rw [dk_6, nI_clamp (n := 6 * q + k) (by omega)]
    exact ⟨vp_in_nI (by omega) (by omega), nm_r dk_cl1 (nm_r (nI_1 k) (ih (k + 1) (by omega)))⟩
theorem ym_exit14 (hq : q < 4) (ha : ¬ al q = 0)
    (h1 : dk_n (fun p => ¬ al p = 0 ∧ ¬ p = q) 4 = 0 → post (-1) (al, le, so, wh, og, nm, fs, fb, pc, yb)) (h2 : ¬ dk_n (fun p => ¬ al p = 0 ∧ ¬ p = q) 4 = 0 → post 0 (upd al q 0, dk_cl le q 6, so, wh, og, nm, fs, fb, pc, yb)) : wpY_exit post (al, le, so, wh, og, nm, fs, fb, pc, yb) (nI q) := by
  unfold wpY_exit
  refine yw_dead0 hq ha (br_t rfl ?_)
  have hb := dk_n_le (fun p => ¬ al p = 0 ∧ ¬ p = q) 4
  refine dk_ct (fun n x y => wY_exit_14 post (nI q) al le so wh og nm fs fb pc yb n x y) (fun p => ¬ al p = 0 ∧ ¬ p = q) 4 (fun n => ?_) (fun n k c hk z hW => ?_) (fun n k c hk z hW => ?_)
  · refine br_t (nI_le (a := 4) (b := 4) (by omega) (by omega)) (pk_eq _ 0 h1 (fun e => ?_))
    rw [nI_clamp (n := q) (by omega), dk_nb0]
    refine ⟨vp_in_nI hq (by omega), nm_e ⟨7, ?_⟩⟩
    have y := yw_exit57 hq (h2 e) 6 0 (by omega)
    rw [dk_cl0, nI_0] at y
    exact y
  · refine br_f (nI_ge (a := k) (b := 4) hk (by omega)) ?_
    rw [nI_clamp (n := k) (by omega)]
    exact ⟨vp_in_nI hk (by omega), br_f z.1 (br_f (fun e => z.2 (dk_inj e)) (nm_e (nm_e hW)))⟩
  · refine br_f (nI_ge (a := k) (b := 4) hk (by omega)) ?_
    rw [nI_clamp (n := k) (by omega)]
    refine ⟨vp_in_nI hk (by omega), br_c (fun _ => nm_e hW) (fun y => br_t ?_ (nm_e hW))⟩
    rcases Classical.em (k = q) with w | w
    · rw [w]
    · exact absurd ⟨y, w⟩ z
end
theorem i_vc_fork {k : Nat} {u : SX} {v : SY} (I : i_Rel k u v) (hk : k + 4 ≤ 2048) (v1 : Int32) : wpX_fork (fun r u' => wpY_fork (fun r' v' => r' = r ∧ i_Rel (k + 4) u' v') v v1) u v1 := by
  refine dk_el (P := fun u v => wpX_fork (fun r u' => wpY_fork (fun r' v' => r' = r ∧ i_Rel (k + 4) u' v') v v1) u v1) I ?_
  intro lv al le us xs wh og nm fu fs fb hr hw ps pc xb so yb I
  have hb := dk_n_le (fun p => ¬ al p = 0) 4
  rcases Classical.em (∃ q, q < 4 ∧ v1 = nI q ∧ ¬ al q = 0) with ⟨q, hq, rfl, ha⟩ | hn
  · rcases Classical.em (∃ c, c < 4 ∧ al c = 0) with hc | hc
    · obtain ⟨c, hc, h0, hm⟩ := dk_lst hc
      have hl : ¬ lv = 4 := by
        rw [I.1.1]
        intro e
        have y : dk_n (fun p => ¬ al p = 0) 4 = 4 := dk_inj e
        exact dk_n_all y c hc h0
      exact xw_fork hq ha hl hc h0 hm I (fun us' I1 => ym_fork hq ha hc h0 hm ⟨rfl, dk_in I1⟩)
    · have hl : lv = 4 := by
        rw [I.1.1]
        have y : dk_n (fun p => ¬ al p = 0) 4 = 4 := by
          simp only [dk_n]
          rw [dk_bt (fun z => hc ⟨0, by omega, z⟩), dk_bt (fun z => hc ⟨1, by omega, z⟩), dk_bt (fun z => hc ⟨2, by omega, z⟩), dk_bt (fun z => hc ⟨3, by omega, z⟩)]
        rw [y]; rfl
      unfold wpX_fork
      refine xw_alive1 hq ha (br_f (by decide) (br_t hl ?_))
      exact ym_fork2 hq (fun p hp z => hc ⟨p, hp, z⟩) ⟨rfl, dk_in I⟩
  · unfold wpX_fork
    refine xw_alive0 hn (br_t rfl ?_)
    unfold wpY_fork
    exact yw_dead1 hn (br_f (by decide) ⟨rfl, dk_in I⟩)
theorem i_vc_exit {k : Nat} {u : SX} {v : SY} (I : i_Rel k u v) (hk : k + 4 ≤ 2048) (v1 : Int32) : wpX_exit (fun r u' => wpY_exit (fun r' v' => r' = r ∧ i_Rel (k + 4) u' v') v v1) u v1 := by
  refine dk_el (P := fun u v => wpX_exit (fun r u' => wpY_exit (fun r' v' => r' = r ∧ i_Rel (k + 4) u' v') v v1) u v1) I ?_
  intro lv al le us xs wh og nm fu fs fb hr hw ps pc xb so yb I
  have hb := dk_n_le (fun p => ¬ al p = 0) 4
  rcases Classical.em (∃ q, q < 4 ∧ v1 = nI q ∧ ¬ al q = 0) with ⟨q, hq, rfl, ha⟩ | hn
  · have e : dk_n (fun p => ¬ al p = 0 ∧ ¬ p = q) 4 + dk_b (¬ al q = 0) = dk_n (fun p => ¬ al p = 0) 4 + dk_b (¬ al q = 0 ∧ ¬ q = q) :=
      dk_n_1 (P := fun p => ¬ al p = 0) (Q := fun p => ¬ al p = 0 ∧ ¬ p = q) hq (fun d _ hd => ⟨fun z => ⟨z, hd⟩, fun z => z.1⟩)
    have e1 : dk_b (¬ al q = 0) = 1 := dk_bt ha
    have e2 : dk_b (¬ al q = 0 ∧ ¬ q = q) = 0 := dk_bf (fun z => z.2 rfl)
    unfold wpX_exit
    refine xw_alive1 hq ha (br_f (by decide) ?_)
    refine br_c (fun hl => ?_) (fun hl => ?_)
    · rw [I.1.1] at hl
      have y : dk_n (fun p => ¬ al p = 0) 4 = 1 := dk_inj hl
      exact ym_exit14 hq ha (fun _ => ⟨rfl, dk_in I⟩) (fun z => absurd (by omega) z)
    · have y : ¬ dk_n (fun p => ¬ al p = 0) 4 = 1 := fun z => hl (by rw [I.1.1, z]; rfl)
      refine ⟨7, ?_⟩
      have x := xw_exit20 (lv := lv) (al := al) (le := le) (fb := fb) (post := fun r u' => wpY_exit (fun r' v' => r' = r ∧ i_Rel (k + 4) u' v') (al, le, so, wh, og, nm, fs, fb, pc, yb) (nI q)) hq ha 6 0 us fu hr hw (by omega) (by rw [dk_cl0]; exact I)
        (fun us' fu' hr' hw' I1 => ym_exit14 hq ha (fun z => by omega) (fun _ => ⟨rfl, dk_in I1⟩))
      rw [dk_cl0, nI_0] at x
      exact x
  · unfold wpX_exit
    refine xw_alive0 hn (br_t rfl ?_)
    unfold wpY_exit
    exact yw_dead1 hn (br_f (by decide) ⟨rfl, dk_in I⟩)
end
section
section
variable {lv : Int32} {al le us xs wh og nm fu fs fb hr hw ps pc xb : Nat → Int32} {post : Int32 → SX → Prop} {x : Int32} {o f a l p s c t : Nat}
theorem xw_wf (ho : o < 24) (hf : f < 28) (w : wh o = nI f) (g : og o = nI a) (z : fs f = nI l) (hal : a ≤ l) (hl : l ≤ 8)
    (h1 : a < 8 → a = l → post 0 (lv, al, le, us, xs, wh, upd og o (nI (a + 1)), nm, fu, upd fs f (nI (a + 1)), upd fb (8 * f + a) x, hr, hw, ps, pc, xb))
    (h2 : a < 8 → a ≠ l → post 0 (lv, al, le, us, xs, wh, upd og o (nI (a + 1)), nm, fu, fs, upd fb (8 * f + a) x, hr, hw, ps, pc, xb)) (h3 : 8 ≤ a → post (-2) (lv, al, le, us, xs, wh, og, nm, fu, fs, fb, hr, hw, ps, pc, xb)) : wpX_writeFile post (lv, al, le, us, xs, wh, og, nm, fu, fs, fb, hr, hw, ps, pc, xb) (nI o) x := by
  unfold wpX_writeFile
  dsimp only
  rw [nI_clamp (n := o) (by omega)]
  have vo : vp_in (nI o) 24 := vp_in_nI ho (by omega)
  have vf : vp_in (nI f) 28 := vp_in_nI hf (by omega)
  refine ⟨vo, nm_r w ⟨vo, nm_r g (pk_lt a 8 (fun h8 => ?_) (fun h8 => h3 h8))⟩⟩
  rw [dk_8, nI_clamp (n := 8 * f + a) (by omega), nI_clamp (n := f) (by omega), nI_1, z]
  exact ⟨vp_in_nI (by omega) (by omega), nm_e ⟨vo, nm_e ⟨vf, pk_eq a l (fun e => ⟨vf, nm_e (h1 h8 e)⟩) (fun e => h2 h8 e)⟩⟩⟩
theorem xw_62 (hp : p < 24) (ht : t < 6) (hc : pc p = nI c) (h : post 0 (lv, al, le, us, xs, wh, og, nm, fu, fs, fb, hr, hw, ps, upd pc p (nI (c + 1)), upd xb (6 * p + t) x)) : wX_writePipe_62 post (nI p) x (nI t) (6 * nI p) lv al le us xs wh og nm fu fs fb hr hw ps pc xb := by
  unfold wX_writePipe_62
  rw [dk_6, nI_clamp (n := 6 * p + t) (by omega), nI_clamp (n := p) (by omega), hc, nI_1]
  have v : vp_in (nI p) 24 := vp_in_nI hp (by omega)
  exact ⟨vp_in_nI (by omega) (by omega), nm_e ⟨v, v, nm_e h⟩⟩
theorem xw_wp (hp : p < 24) (hs : ps p = nI s) (hc : pc p = nI c) (hs6 : s < 6) (hc6 : c ≤ 6)
    (h1 : hr p = 0 → post (-3) (lv, al, le, us, xs, wh, og, nm, fu, fs, fb, hr, hw, ps, pc, xb)) (h2 : ¬ hr p = 0 → c = 6 → post (-4) (lv, al, le, us, xs, wh, og, nm, fu, fs, fb, hr, hw, ps, pc, xb))
    (h3 : ¬ hr p = 0 → c < 6 → post 0 (lv, al, le, us, xs, wh, og, nm, fu, fs, fb, hr, hw, ps, upd pc p (nI (c + 1)), upd xb (6 * p + (s + c) % 6) x)) : wpX_writePipe post (lv, al, le, us, xs, wh, og, nm, fu, fs, fb, hr, hw, ps, pc, xb) (nI p) x := by
  unfold wpX_writePipe
  dsimp only
  rw [nI_clamp (n := p) (by omega), hs, hc, nI_add]
  have v : vp_in (nI p) 24 := vp_in_nI hp (by omega)
  refine ⟨v, br_c h1 (fun hr0 => ⟨v, pk_eq c 6 (h2 hr0) (fun e => ⟨v, v, nm_e (pk_lt (s + c) 6 (fun y => ?_) (fun y => ?_))⟩)⟩)⟩
  · have e1 : (s + c) % 6 = s + c := by omega
    rw [e1] at h3
    exact xw_62 hp y hc (h3 hr0 (by omega))
  · have e1 : (s + c) % 6 = s + c - 6 := by omega
    rw [e1] at h3
    rw [show (6 : Int32) = nI 6 from rfl, pk_sub y]
    exact xw_62 hp (by omega) hc (h3 hr0 (by omega))
theorem xw_rf (ho : o < 24) (hf : f < 28) (w : wh o = nI f) (g : og o = nI a) (z : fs f = nI l) (hal : a ≤ l) (hl : l ≤ 8)
    (h1 : a < l → post (fb (8 * f + a)) (lv, al, le, us, xs, wh, upd og o (nI (a + 1)), nm, fu, fs, fb, hr, hw, ps, pc, xb)) (h2 : l ≤ a → post (-5) (lv, al, le, us, xs, wh, og, nm, fu, fs, fb, hr, hw, ps, pc, xb)) : wpX_readFile post (lv, al, le, us, xs, wh, og, nm, fu, fs, fb, hr, hw, ps, pc, xb) (nI o) := by
  unfold wpX_readFile
  dsimp only
  rw [nI_clamp (n := o) (by omega)]
  have vo : vp_in (nI o) 24 := vp_in_nI ho (by omega)
  have vf : vp_in (nI f) 28 := vp_in_nI hf (by omega)
  refine ⟨vo, nm_r w ⟨vo, nm_r g ?_⟩⟩
  rw [nI_clamp (n := f) (by omega), z]
  refine ⟨vf, pk_lt a l (fun y => ?_) h2⟩
  rw [dk_8, nI_clamp (n := 8 * f + a) (by omega), nI_1]
  exact ⟨vo, nm_e ⟨vp_in_nI (by omega) (by omega), h1 y⟩⟩
theorem xw_70 (hp : p < 24) (hc : pc p = nI (c + 1)) (h : post x (lv, al, le, us, xs, wh, og, nm, fu, fs, fb, hr, hw, upd ps p (nI t), upd pc p (nI c), xb)) : wX_readPipe_70 post (nI p) x (nI t) (nI p) lv al le us xs wh og nm fu fs fb hr hw ps pc xb := by
  unfold wX_readPipe_70
  rw [nI_clamp (n := p) (by omega), hc, nI_pred]
  have v : vp_in (nI p) 24 := vp_in_nI hp (by omega)
  exact ⟨v, nm_e ⟨v, v, nm_e h⟩⟩
theorem xw_rp0 (hp : p < 24) (hc : pc p = 0) (h1 : hw p = 0 → post (-5) (lv, al, le, us, xs, wh, og, nm, fu, fs, fb, hr, hw, ps, pc, xb)) (h2 : ¬ hw p = 0 → post (-4) (lv, al, le, us, xs, wh, og, nm, fu, fs, fb, hr, hw, ps, pc, xb)) : wpX_readPipe post (lv, al, le, us, xs, wh, og, nm, fu, fs, fb, hr, hw, ps, pc, xb) (nI p) := by
  unfold wpX_readPipe
  dsimp only
  rw [nI_clamp (n := p) (by omega)]
  have v : vp_in (nI p) 24 := vp_in_nI hp (by omega)
  exact ⟨v, br_t hc ⟨v, br_c h1 h2⟩⟩
theorem xw_rp1 (hp : p < 24) (hs : ps p = nI s) (hc : pc p = nI (c + 1)) (hs6 : s < 6) (hc6 : c < 6)
    (h : post (xb (6 * p + s)) (lv, al, le, us, xs, wh, og, nm, fu, fs, fb, hr, hw, upd ps p (nI ((s + 1) % 6)), upd pc p (nI c), xb)) : wpX_readPipe post (lv, al, le, us, xs, wh, og, nm, fu, fs, fb, hr, hw, ps, pc, xb) (nI p) := by
  unfold wpX_readPipe
  dsimp only
  rw [nI_clamp (n := p) (by omega)]
  have v : vp_in (nI p) 24 := vp_in_nI hp (by omega)
  refine ⟨v, br_f (by rw [hc]; exact nI_ne0 (by omega) (by omega)) ⟨v, ?_⟩⟩
  rw [hs, dk_6, nI_clamp (n := 6 * p + s) (by omega), nI_1]
  refine ⟨vp_in_nI (by omega) (by omega), nm_e ⟨v, pk_eq s 5 (fun e => ?_) (fun e => ⟨v, ?_⟩)⟩⟩
  · have e1 : (s + 1) % 6 = 0 := by omega
    rw [e1] at h
    exact xw_70 (t := 0) hp hc h
  · have e1 : (s + 1) % 6 = s + 1 := by omega
    rw [e1] at h
    exact xw_70 hp hc h
end
section
variable {al le so wh og nm fs fb pc yb : Nat → Int32} {post : Int32 → SY → Prop} {x : Int32} {q d o f a l p s c t : Nat}
theorem yw_187 (ho : o < 24) (g : og o = nI a) (h : post 0 (al, le, so, wh, upd og o (nI (a + 1)), nm, fs, fb, pc, yb)) : wY_write_187 post (nI o) al le so wh og nm fs fb pc yb := by
  unfold wY_write_187
  rw [nI_clamp (n := o) (by omega), g, nI_1]
  have vo : vp_in (nI o) 24 := vp_in_nI ho (by omega)
  exact ⟨vo, vo, nm_e h⟩
theorem ym_w1 (hq : q < 4) (ha : ¬ al q = 0) (hd : d < 6) (e : le (6 * q + d) = nI o) (ho : o < 24) (s1 : so o = 1) (h : post (-1) (al, le, so, wh, og, nm, fs, fb, pc, yb)) : wpY_write post (al, le, so, wh, og, nm, fs, fb, pc, yb) (nI q) (nI d) x := by
  unfold wpY_write
  refine yw_free0 hq ha hd (dk_ge0 e) (br_t rfl ?_)
  rw [dk_6, nI_clamp (n := 6 * q + d) (by omega)]
  have vo : vp_in (nI o) 24 := vp_in_nI ho (by omega)
  refine ⟨vp_in_nI (by omega) (by omega), nm_r e ?_⟩
  rw [nI_clamp (n := o) (by omega)]
  exact ⟨vo, nm_e ⟨vo, br_t s1 h⟩⟩
theorem ym_w2 (hq : q < 4) (ha : ¬ al q = 0) (hd : d < 6) (e : le (6 * q + d) = nI o) (ho : o < 24) (s1 : so o = 2) (hp : p < 24) (w : wh o = nI p) (hc : pc p = nI c) (hc6 : c ≤ 6)
    (h1 : ¬ (∃ o, o < 24 ∧ dk_C le so wh 1 (nI p) o) → post (-3) (al, le, so, wh, og, nm, fs, fb, pc, yb)) (h2 : (∃ o, o < 24 ∧ dk_C le so wh 1 (nI p) o) → c = 6 → post (-4) (al, le, so, wh, og, nm, fs, fb, pc, yb))
    (h3 : (∃ o, o < 24 ∧ dk_C le so wh 1 (nI p) o) → c < 6 → post 0 (al, le, so, wh, og, nm, fs, fb, upd pc p (nI (c + 1)), upd yb (6 * p + c) (x &&& 255))) : wpY_write post (al, le, so, wh, og, nm, fs, fb, pc, yb) (nI q) (nI d) x := by
  unfold wpY_write
  refine yw_free0 hq ha hd (dk_ge0 e) (br_t rfl ?_)
  rw [dk_6, nI_clamp (n := 6 * q + d) (by omega)]
  have vo : vp_in (nI o) 24 := vp_in_nI ho (by omega)
  have vp : vp_in (nI p) 24 := vp_in_nI hp (by omega)
  refine ⟨vp_in_nI (by omega) (by omega), nm_r e ?_⟩
  rw [nI_clamp (n := o) (by omega)]
  refine ⟨vo, nm_r w ⟨vo, br_f (by rw [s1]; decide) ⟨vo, br_t s1 (yw_has (fun y => br_f (by decide) ?_) (fun y => br_t rfl (h1 y)))⟩⟩⟩
  rw [nI_clamp (n := p) (by omega), hc]
  refine ⟨vp, pk_eq c 6 (h2 y) (fun e => ⟨vp, ?_⟩)⟩
  rw [dk_6, nI_clamp (n := 6 * p + c) (by omega), nI_1]
  exact ⟨vp_in_nI (by omega) (by omega), nm_e ⟨vp, vp, nm_e (h3 y (by omega))⟩⟩
theorem ym_w0 (hq : q < 4) (ha : ¬ al q = 0) (hd : d < 6) (e : le (6 * q + d) = nI o) (ho : o < 24) (s1 : so o = 0) (hf : f < 28) (w : wh o = nI f) (g : og o = nI a) (z : fs f = nI l) (hal : a ≤ l) (hl : l ≤ 8)
    (h1 : a < 8 → a = l → post 0 (al, le, so, wh, upd og o (nI (a + 1)), nm, upd fs f (nI (a + 1)), upd fb (8 * f + a) (x &&& 255), pc, yb))
    (h2 : a < 8 → a ≠ l → post 0 (al, le, so, wh, upd og o (nI (a + 1)), nm, fs, upd fb (8 * f + a) (x &&& 255), pc, yb)) (h3 : a = 8 → post (-2) (al, le, so, wh, og, nm, fs, fb, pc, yb)) : wpY_write post (al, le, so, wh, og, nm, fs, fb, pc, yb) (nI q) (nI d) x := by
  unfold wpY_write
  refine yw_free0 hq ha hd (dk_ge0 e) (br_t rfl ?_)
  rw [dk_6, nI_clamp (n := 6 * q + d) (by omega)]
  have vo : vp_in (nI o) 24 := vp_in_nI ho (by omega)
  have vf : vp_in (nI f) 28 := vp_in_nI hf (by omega)
  refine ⟨vp_in_nI (by omega) (by omega), nm_r e ?_⟩
  rw [nI_clamp (n := o) (by omega), g]
  refine ⟨vo, nm_r w ⟨vo, br_f (by rw [s1]; decide) ⟨vo, br_f (by rw [s1]; decide) ⟨vo, pk_eq a 8 h3 (fun e => ⟨vo, ?_⟩)⟩⟩⟩⟩
  rw [dk_8, nI_clamp (n := 8 * f + a) (by omega), nI_clamp (n := f) (by omega), z, nI_1]
  refine ⟨vp_in_nI (by omega) (by omega), nm_e ⟨vo, vf, pk_eq a l (fun y => ⟨vf, vf, nm_e (yw_187 ho g ?_)⟩) (fun y => yw_187 ho g (h2 (by omega) y))⟩⟩
  rw [← y]
  exact h1 (by omega) y
theorem ym_r2 (hq : q < 4) (ha : ¬ al q = 0) (hd : d < 6) (e : le (6 * q + d) = nI o) (ho : o < 24) (s1 : so o = 2) (h : post (-1) (al, le, so, wh, og, nm, fs, fb, pc, yb)) : wpY_read post (al, le, so, wh, og, nm, fs, fb, pc, yb) (nI q) (nI d) := by
  unfold wpY_read
  refine yw_free0 hq ha hd (dk_ge0 e) (br_t rfl ?_)
  rw [dk_6, nI_clamp (n := 6 * q + d) (by omega)]
  have vo : vp_in (nI o) 24 := vp_in_nI ho (by omega)
  refine ⟨vp_in_nI (by omega) (by omega), nm_r e ?_⟩
  rw [nI_clamp (n := o) (by omega)]
  exact ⟨vo, nm_e ⟨vo, br_t s1 h⟩⟩
theorem yw_107 (hp : p < 24) (hc : pc p = nI c) (hc6 : c < 6) (h : post x (al, le, so, wh, og, nm, fs, fb, pc, dk_sh yb p c)) : ∀ (m k : Nat), k + m = c → wY_read_107 post (nI p) x (m + 1) (nI k) al le so wh og nm fs fb pc (dk_sh yb p k) := by
  have v : vp_in (nI p) 24 := vp_in_nI hp (by omega)
  intro m
  induction m with
  | zero =>
    intro k e
    have e' : k = c := by omega
    subst e'
    refine ⟨v, br_t ?_ h⟩
    rw [nI_clamp (by omega), hc]
    exact nI_le (by omega) (by omega)
  | succ m ih =>
    intro k e
    refine ⟨v, br_f ?_ ?_⟩
    · rw [nI_clamp (by omega), hc]
      exact nI_ge (by omega) (by omega)
    · rw [dk_6, nI_1, nI_clamp (n := 6 * p + k) (by omega), nI_clamp (n := 6 * p + k + 1) (by omega)]
      exact ⟨vp_in_nI (by omega) (by omega), vp_in_nI (by omega) (by omega), nm_r (dk_sh1 p k) (nm_r (nI_1 k) (ih (k + 1) (by omega)))⟩
theorem ym_r10 (hq : q < 4) (ha : ¬ al q = 0) (hd : d < 6) (e : le (6 * q + d) = nI o) (ho : o < 24) (s1 : so o = 1) (hp : p < 24) (w : wh o = nI p) (hc : pc p = 0)
    (h1 : ¬ (∃ o, o < 24 ∧ dk_C le so wh 2 (nI p) o) → post (-5) (al, le, so, wh, og, nm, fs, fb, pc, yb)) (h2 : (∃ o, o < 24 ∧ dk_C le so wh 2 (nI p) o) → post (-4) (al, le, so, wh, og, nm, fs, fb, pc, yb)) : wpY_read post (al, le, so, wh, og, nm, fs, fb, pc, yb) (nI q) (nI d) := by
  unfold wpY_read
  refine yw_free0 hq ha hd (dk_ge0 e) (br_t rfl ?_)
  rw [dk_6, nI_clamp (n := 6 * q + d) (by omega)]
  have vo : vp_in (nI o) 24 := vp_in_nI ho (by omega)
  have vp : vp_in (nI p) 24 := vp_in_nI hp (by omega)
  refine ⟨vp_in_nI (by omega) (by omega), nm_r e ?_⟩
  rw [nI_clamp (n := o) (by omega)]
  refine ⟨vo, nm_r w ⟨vo, br_f (by rw [s1]; decide) ⟨vo, br_t s1 ⟨vp, br_t ?_ (yw_has (fun y => br_f (by decide) (h2 y)) (fun y => br_t rfl (h1 y)))⟩⟩⟩⟩
  rw [nI_clamp (n := p) (by omega)]
  exact hc
theorem ym_r11 (hq : q < 4) (ha : ¬ al q = 0) (hd : d < 6) (e : le (6 * q + d) = nI o) (ho : o < 24) (s1 : so o = 1) (hp : p < 24) (w : wh o = nI p) (hc : pc p = nI (c + 1)) (hc6 : c < 6)
    (h : post (yb (6 * p)) (al, le, so, wh, og, nm, fs, fb, upd pc p (nI c), dk_sh yb p c)) : wpY_read post (al, le, so, wh, og, nm, fs, fb, pc, yb) (nI q) (nI d) := by
  unfold wpY_read
  refine yw_free0 hq ha hd (dk_ge0 e) (br_t rfl ?_)
  rw [dk_6, nI_clamp (n := 6 * q + d) (by omega)]
  have vo : vp_in (nI o) 24 := vp_in_nI ho (by omega)
  have vp : vp_in (nI p) 24 := vp_in_nI hp (by omega)
  refine ⟨vp_in_nI (by omega) (by omega), nm_r e ?_⟩
  rw [nI_clamp (n := o) (by omega)]
  refine ⟨vo, nm_r w ⟨vo, br_f (by rw [s1]; decide) ⟨vo, br_t s1 ⟨vp, ?_⟩⟩⟩⟩
  rw [nI_clamp (n := p) (by omega), hc, dk_66, nI_clamp (n := 6 * p) (by omega), nI_pred]
  refine br_f (nI_ne0 (by omega) (by omega)) ⟨vp_in_nI (by omega) (by omega), nm_e ⟨vp, vp, nm_e ⟨c + 1, ?_⟩⟩⟩
  have y := yw_107 hp (pk_us (f := pc) (k := p) (x := nI c)) hc6 h c 0 (by omega)
  rw [dk_sh0, nI_0] at y
  exact y
theorem ym_r0 (hq : q < 4) (ha : ¬ al q = 0) (hd : d < 6) (e : le (6 * q + d) = nI o) (ho : o < 24) (s1 : so o = 0) (hf : f < 28) (w : wh o = nI f) (g : og o = nI a) (z : fs f = nI l) (hal : a ≤ l) (hl : l ≤ 8)
    (h1 : a < l → post (fb (8 * f + a)) (al, le, so, wh, upd og o (nI (a + 1)), nm, fs, fb, pc, yb)) (h2 : a = l → post (-5) (al, le, so, wh, og, nm, fs, fb, pc, yb)) : wpY_read post (al, le, so, wh, og, nm, fs, fb, pc, yb) (nI q) (nI d) := by
  unfold wpY_read
  refine yw_free0 hq ha hd (dk_ge0 e) (br_t rfl ?_)
  rw [dk_6, nI_clamp (n := 6 * q + d) (by omega)]
  have vo : vp_in (nI o) 24 := vp_in_nI ho (by omega)
  have vf : vp_in (nI f) 28 := vp_in_nI hf (by omega)
  refine ⟨vp_in_nI (by omega) (by omega), nm_r e ?_⟩
  rw [nI_clamp (n := o) (by omega), g, nI_1]
  refine ⟨vo, nm_r w ⟨vo, br_f (by rw [s1]; decide) ⟨vo, br_f (by rw [s1]; decide) ⟨vo, vf, ?_⟩⟩⟩⟩
  rw [nI_clamp (n := f) (by omega), z]
  refine pk_eq a l h2 (fun y => ⟨vo, vo, nm_e ⟨vo, ?_⟩⟩)
  rw [pk_us, dk_8, show 8 * f + (a + 1) = 8 * f + a + 1 from rfl, nI_pred, nI_clamp (n := 8 * f + a) (by omega)]
  exact ⟨vp_in_nI (by omega) (by omega), h1 (by omega)⟩
end
end
section
section
variable {lv : Int32} {al le us xs wh og nm fu fs fb hr hw ps pc xb : Nat → Int32} {post : Int32 → SX → Prop} {x : Int32} {q d o f : Nat}
theorem xm_write (hq : q < 4) (ha : ¬ al q = 0) (hd : d < 6) (e : le (6 * q + d) = nI o) (ho : o < 24)
    (h1 : xs o = 2 → post (-1) (lv, al, le, us, xs, wh, og, nm, fu, fs, fb, hr, hw, ps, pc, xb)) (h2 : ¬ xs o = 2 → xs o = 1 → wpX_writeFile post (lv, al, le, us, xs, wh, og, nm, fu, fs, fb, hr, hw, ps, pc, xb) (nI o) (x &&& 255)) (h3 : ¬ xs o = 2 → ¬ xs o = 1 → wpX_writePipe post (lv, al, le, us, xs, wh, og, nm, fu, fs, fb, hr, hw, ps, pc, xb) (wh o) (x &&& 255)) : wpX_write post (lv, al, le, us, xs, wh, og, nm, fu, fs, fb, hr, hw, ps, pc, xb) (nI q) (nI d) x := by
  unfold wpX_write
  refine xw_op1 hq ha hd ?_
  rw [e, nI_clamp (n := o) (by omega)]
  have vo : vp_in (nI o) 24 := vp_in_nI ho (by omega)
  exact br_f (nI_pos (by omega)) ⟨vo, br_c h1 (fun y => ⟨vo, br_c (h2 y) (fun z => ⟨vo, h3 y z⟩)⟩)⟩
theorem xm_read (hq : q < 4) (ha : ¬ al q = 0) (hd : d < 6) (e : le (6 * q + d) = nI o) (ho : o < 24)
    (h1 : xs o = 3 → post (-1) (lv, al, le, us, xs, wh, og, nm, fu, fs, fb, hr, hw, ps, pc, xb)) (h2 : ¬ xs o = 3 → xs o = 1 → wpX_readFile post (lv, al, le, us, xs, wh, og, nm, fu, fs, fb, hr, hw, ps, pc, xb) (nI o)) (h3 : ¬ xs o = 3 → ¬ xs o = 1 → wpX_readPipe post (lv, al, le, us, xs, wh, og, nm, fu, fs, fb, hr, hw, ps, pc, xb) (wh o)) : wpX_read post (lv, al, le, us, xs, wh, og, nm, fu, fs, fb, hr, hw, ps, pc, xb) (nI q) (nI d) := by
  unfold wpX_read
  refine xw_op1 hq ha hd ?_
  rw [e, nI_clamp (n := o) (by omega)]
  have vo : vp_in (nI o) 24 := vp_in_nI ho (by omega)
  exact br_f (nI_pos (by omega)) ⟨vo, br_c h1 (fun y => ⟨vo, br_c (h2 y) (fun z => ⟨vo, h3 y z⟩)⟩)⟩
theorem xm_seek (hq : q < 4) (ha : ¬ al q = 0) (hd : d < 6) (e : le (6 * q + d) = nI o) (ho : o < 24)
    (h1 : ¬ xs o = 1 → post (-1) (lv, al, le, us, xs, wh, og, nm, fu, fs, fb, hr, hw, ps, pc, xb)) (h2 : xs o = 1 → x < 0 → post (-1) (lv, al, le, us, xs, wh, og, nm, fu, fs, fb, hr, hw, ps, pc, xb)) (h3 : xs o = 1 → ¬ x < 0 → ∃ f, f < 28 ∧ wh o = nI f ∧ (x ≤ fs f → post 0 (lv, al, le, us, xs, wh, upd og o x, nm, fu, fs, fb, hr, hw, ps, pc, xb)) ∧ (¬ x ≤ fs f → post (-1) (lv, al, le, us, xs, wh, og, nm, fu, fs, fb, hr, hw, ps, pc, xb))) : wpX_seek post (lv, al, le, us, xs, wh, og, nm, fu, fs, fb, hr, hw, ps, pc, xb) (nI q) (nI d) x := by
  unfold wpX_seek
  refine xw_op1 hq ha hd ?_
  rw [e, nI_clamp (n := o) (by omega)]
  have vo : vp_in (nI o) 24 := vp_in_nI ho (by omega)
  refine br_f (nI_pos (by omega)) ⟨vo, br_c (fun y => br_c (h2 y) (fun z => ⟨vo, ?_⟩)) h1⟩
  obtain ⟨f, hf, w, h4, h5⟩ := h3 y z
  rw [w, nI_clamp (n := f) (by omega)]
  exact ⟨vp_in_nI hf (by omega), br_c (fun y => ⟨vo, nm_e (h4 y)⟩) h5⟩
end
section
variable {al le so wh og nm fs fb pc yb : Nat → Int32} {post : Int32 → SY → Prop} {x : Int32} {q d o f : Nat}
theorem ym_seek (hq : q < 4) (ha : ¬ al q = 0) (hd : d < 6) (e : le (6 * q + d) = nI o) (ho : o < 24)
    (h1 : ¬ so o = 0 → post (-1) (al, le, so, wh, og, nm, fs, fb, pc, yb)) (h2 : so o = 0 → x < 0 → post (-1) (al, le, so, wh, og, nm, fs, fb, pc, yb)) (h3 : so o = 0 → ¬ x < 0 → ∃ f, f < 28 ∧ wh o = nI f ∧ (x ≤ fs f → post 0 (al, le, so, wh, upd og o x, nm, fs, fb, pc, yb)) ∧ (¬ x ≤ fs f → post (-1) (al, le, so, wh, og, nm, fs, fb, pc, yb))) : wpY_seek post (al, le, so, wh, og, nm, fs, fb, pc, yb) (nI q) (nI d) x := by
  unfold wpY_seek
  refine yw_free0 hq ha hd (dk_ge0 e) (br_t rfl ?_)
  rw [dk_6, nI_clamp (n := 6 * q + d) (by omega)]
  have vo : vp_in (nI o) 24 := vp_in_nI ho (by omega)
  refine ⟨vp_in_nI (by omega) (by omega), nm_r e ?_⟩
  rw [nI_clamp (n := o) (by omega)]
  refine ⟨vo, br_c (fun y => br_c (h2 y) (fun z => ⟨vo, ?_⟩)) h1⟩
  obtain ⟨f, hf, w, h4, h5⟩ := h3 y z
  rw [w, nI_clamp (n := f) (by omega)]
  exact ⟨vp_in_nI hf (by omega), br_c (fun y => ⟨vo, nm_e (h4 y)⟩) h5⟩
end
theorem i_vc_write {k : Nat} {u : SX} {v : SY} (I : i_Rel k u v) (hk : k + 4 ≤ 2048) (v1 : Int32) (v2 : Int32) (v3 : Int32) : wpX_write (fun r u' => wpY_write (fun r' v' => r' = r ∧ i_Rel (k + 4) u' v') v v1 v2 v3) u v1 v2 v3 := by
  refine dk_el (P := fun u v => wpX_write (fun r u' => wpY_write (fun r' v' => r' = r ∧ i_Rel (k + 4) u' v') v v1 v2 v3) u v1 v2 v3) I ?_
  intro lv al le us xs wh og nm fu fs fb hr hw ps pc xb so yb I
  obtain ⟨A, L, U, S, O, F, N, Q, R, W, P⟩ := id I
  rcases Classical.em (∃ q d, q < 4 ∧ d < 6 ∧ v1 = nI q ∧ v2 = nI d ∧ ¬ al q = 0 ∧ 0 ≤ le (6 * q + d)) with ⟨q, d, hq, hd, rfl, rfl, ha, hg⟩ | hn
  · obtain ⟨o, ho, e⟩ := dk_used L (by omega) hg
    have lo : dk_L le o := ⟨6 * q + d, by omega, e⟩
    rcases S o ho lo with ⟨s, x, f, hf, w⟩ | ⟨s, x, p, hp, w⟩ | ⟨s, x, p, hp, w⟩
    · obtain ⟨a, l, hal, hl, g, z⟩ := O o f ho hf lo s w
      refine xm_write hq ha hd e ho (fun y => absurd (x.symm.trans y) (by decide)) (fun _ _ => ?_) (fun _ y => absurd x y)
      refine xw_wf ho hf w g z hal hl (fun h8 y => ?_) (fun h8 y => ?_) (fun h8 => ?_)
      · have I1 := dk_grow (o := o) I hf w (y.symm ▸ z) h8
        exact ym_w0 hq ha hd e ho s hf w g z hal hl (fun _ _ => ⟨rfl, dk_in I1⟩) (fun _ y' => absurd y y') (fun y' => by omega)
      · have I1 := dk_off (o := o) (a := a + 1) I hf w z (by omega) hl
        exact ym_w0 hq ha hd e ho s hf w g z hal hl (fun _ y' => absurd y' y) (fun _ _ => ⟨rfl, dk_in I1⟩) (fun y' => by omega)
      · exact ym_w0 hq ha hd e ho s hf w g z hal hl (fun y' _ => by omega) (fun y' _ => by omega) (fun _ => ⟨rfl, dk_in I⟩)
    · exact xm_write hq ha hd e ho (fun _ => ym_w1 hq ha hd e ho s ⟨rfl, dk_in I⟩) (fun y => absurd x y) (fun y => absurd x y)
    · obtain ⟨st, c, hs6, hc6, hs, hc, hb⟩ := P p hp
      refine xm_write hq ha hd e ho (fun y => absurd (x.symm.trans y) (by decide)) (fun _ y => absurd (x.symm.trans y) (by decide)) (fun _ _ => ?_)
      rw [w]
      have cr := dk_C_h R (by decide) hp
      refine xw_wp hp hs hc hs6 hc6 (fun y => ?_) (fun y y6 => ?_) (fun y y6 => ?_)
      · exact ym_w2 hq ha hd e ho s hp w hc hc6 (fun _ => ⟨rfl, dk_in I⟩) (fun z => absurd y (cr.mp z)) (fun z => absurd y (cr.mp z))
      · exact ym_w2 hq ha hd e ho s hp w hc hc6 (fun z => absurd (cr.mpr y) z) (fun _ _ => ⟨rfl, dk_in I⟩) (fun _ z => by omega)
      · have I1 := dk_pw (v := v3 &&& 255) I hp hs hc hs6 y6
        exact ym_w2 hq ha hd e ho s hp w hc hc6 (fun z => absurd (cr.mpr y) z) (fun _ z => by omega) (fun _ _ => ⟨rfl, dk_in I1⟩)
  · unfold wpX_write
    refine xw_op0 L hn (br_t (by decide) ?_)
    unfold wpY_write
    exact yw_free1 hn (br_f (by decide) ⟨rfl, dk_in I⟩)
theorem i_vc_read {k : Nat} {u : SX} {v : SY} (I : i_Rel k u v) (hk : k + 4 ≤ 2048) (v1 : Int32) (v2 : Int32) : wpX_read (fun r u' => wpY_read (fun r' v' => r' = r ∧ i_Rel (k + 4) u' v') v v1 v2) u v1 v2 := by
  refine dk_el (P := fun u v => wpX_read (fun r u' => wpY_read (fun r' v' => r' = r ∧ i_Rel (k + 4) u' v') v v1 v2) u v1 v2) I ?_
  intro lv al le us xs wh og nm fu fs fb hr hw ps pc xb so yb I
  obtain ⟨A, L, U, S, O, F, N, Q, R, W, P⟩ := id I
  rcases Classical.em (∃ q d, q < 4 ∧ d < 6 ∧ v1 = nI q ∧ v2 = nI d ∧ ¬ al q = 0 ∧ 0 ≤ le (6 * q + d)) with ⟨q, d, hq, hd, rfl, rfl, ha, hg⟩ | hn
  · obtain ⟨o, ho, e⟩ := dk_used L (by omega) hg
    have lo : dk_L le o := ⟨6 * q + d, by omega, e⟩
    rcases S o ho lo with ⟨s, x, f, hf, w⟩ | ⟨s, x, p, hp, w⟩ | ⟨s, x, p, hp, w⟩
    · obtain ⟨a, l, hal, hl, g, z⟩ := O o f ho hf lo s w
      refine xm_read hq ha hd e ho (fun y => absurd (x.symm.trans y) (by decide)) (fun _ _ => ?_) (fun _ y => absurd x y)
      refine xw_rf ho hf w g z hal hl (fun y => ?_) (fun y => ?_)
      · have I1 := dk_off (o := o) (a := a + 1) I hf w z (by omega) hl
        exact ym_r0 hq ha hd e ho s hf w g z hal hl (fun _ => ⟨rfl, dk_in I1⟩) (fun y' => by omega)
      · exact ym_r0 hq ha hd e ho s hf w g z hal hl (fun y' => by omega) (fun _ => ⟨rfl, dk_in I⟩)
    · obtain ⟨st, c, hs6, hc6, hs, hc, hb⟩ := P p hp
      refine xm_read hq ha hd e ho (fun y => absurd (x.symm.trans y) (by decide)) (fun _ y => absurd (x.symm.trans y) (by decide)) (fun _ _ => ?_)
      rw [w]
      have cw := dk_C_h W (by decide) hp
      rcases Nat.eq_zero_or_pos c with y | y
      · subst y
        exact xw_rp0 hp hc (fun y => ym_r10 hq ha hd e ho s hp w hc (fun _ => ⟨rfl, dk_in I⟩) (fun z => absurd y (cw.mp z))) (fun y => ym_r10 hq ha hd e ho s hp w hc (fun z => absurd (cw.mpr y) z) (fun _ => ⟨rfl, dk_in I⟩))
      · obtain ⟨c, rfl⟩ : ∃ m, c = m + 1 := ⟨c - 1, by omega⟩
        have I1 := dk_pr I hp hs hc hs6 (by omega)
        have b0 := hb 0 (by omega)
        rw [Nat.add_zero, Nat.add_zero, Nat.mod_eq_of_lt hs6] at b0
        exact xw_rp1 hp hs hc hs6 (by omega) (ym_r11 hq ha hd e ho s hp w hc (by omega) ⟨b0, dk_in I1⟩)
    · exact xm_read hq ha hd e ho (fun _ => ym_r2 hq ha hd e ho s ⟨rfl, dk_in I⟩) (fun y => absurd x y) (fun y => absurd x y)
  · unfold wpX_read
    refine xw_op0 L hn (br_t (by decide) ?_)
    unfold wpY_read
    exact yw_free1 hn (br_f (by decide) ⟨rfl, dk_in I⟩)
theorem i_vc_seek {k : Nat} {u : SX} {v : SY} (I : i_Rel k u v) (hk : k + 4 ≤ 2048) (v1 : Int32) (v2 : Int32) (v3 : Int32) : wpX_seek (fun r u' => wpY_seek (fun r' v' => r' = r ∧ i_Rel (k + 4) u' v') v v1 v2 v3) u v1 v2 v3 := by
  refine dk_el (P := fun u v => wpX_seek (fun r u' => wpY_seek (fun r' v' => r' = r ∧ i_Rel (k + 4) u' v') v v1 v2 v3) u v1 v2 v3) I ?_
  intro lv al le us xs wh og nm fu fs fb hr hw ps pc xb so yb I
  obtain ⟨A, L, U, S, O, F, N, Q, R, W, P⟩ := id I
  rcases Classical.em (∃ q d, q < 4 ∧ d < 6 ∧ v1 = nI q ∧ v2 = nI d ∧ ¬ al q = 0 ∧ 0 ≤ le (6 * q + d)) with ⟨q, d, hq, hd, rfl, rfl, ha, hg⟩ | hn
  · obtain ⟨o, ho, e⟩ := dk_used L (by omega) hg
    have lo : dk_L le o := ⟨6 * q + d, by omega, e⟩
    have pipe : ¬ xs o = 1 → ¬ so o = 0 → wpX_seek (fun r u' => wpY_seek (fun r' v' => r' = r ∧ i_Rel (k + 4) u' v') (al, le, so, wh, og, nm, fs, fb, pc, yb) (nI q) (nI d) v3) (lv, al, le, us, xs, wh, og, nm, fu, fs, fb, hr, hw, ps, pc, xb) (nI q) (nI d) v3 := fun hx hs =>
      xm_seek hq ha hd e ho (fun _ => ym_seek hq ha hd e ho (fun _ => ⟨rfl, dk_in I⟩) (fun y => absurd y hs) (fun y => absurd y hs)) (fun y => absurd y hx) (fun y => absurd y hx)
    rcases S o ho lo with ⟨s, x, f, hf, w⟩ | ⟨s, x, p, hp, w⟩ | ⟨s, x, p, hp, w⟩
    · obtain ⟨a, l, hal, hl, g, z⟩ := O o f ho hf lo s w
      refine xm_seek hq ha hd e ho (fun y => absurd x y) (fun _ y => ?_) (fun _ y => ⟨f, hf, w, fun y2 => ?_, fun y2 => ?_⟩)
      · exact ym_seek hq ha hd e ho (fun z => absurd s z) (fun _ _ => ⟨rfl, dk_in I⟩) (fun _ z => absurd y z)
      · obtain ⟨b, hb, rfl⟩ := nI_of y
        have hbl : b ≤ l := by
          rw [z, nI_leI hb (by omega)] at y2
          exact y2
        have I1 := dk_off (o := o) (a := b) I hf w z hbl hl
        exact ym_seek hq ha hd e ho (fun z => absurd s z) (fun _ z => absurd z y) (fun _ _ => ⟨f, hf, w, fun _ => ⟨rfl, dk_in I1⟩, fun z => absurd y2 z⟩)
      · exact ym_seek hq ha hd e ho (fun z => absurd s z) (fun _ z => absurd z y) (fun _ _ => ⟨f, hf, w, fun z => absurd z y2, fun _ => ⟨rfl, dk_in I⟩⟩)
    · exact pipe (by rw [x]; decide) (by rw [s]; decide)
    · exact pipe (by rw [x]; decide) (by rw [s]; decide)
  · unfold wpX_seek
    refine xw_op0 L hn (br_t (by decide) ?_)
    unfold wpY_seek
    exact yw_free1 hn (br_f (by decide) ⟨rfl, dk_in I⟩)
end
section
theorem i_vc_link {k : Nat} {u : SX} {v : SY} (I : i_Rel k u v) (hk : k + 4 ≤ 2048) (v1 : Int32) (v2 : Int32) : wpX_link (fun r u' => wpY_link (fun r' v' => r' = r ∧ i_Rel (k + 4) u' v') v v1 v2) u v1 v2 := by
  refine dk_el (P := fun u v => wpX_link (fun r u' => wpY_link (fun r' v' => r' = r ∧ i_Rel (k + 4) u' v') v v1 v2) u v1 v2) I ?_
  intro lv al le us xs wh og nm fu fs fb hr hw ps pc xb so yb I
  have N := I.2.2.2.2.2.2.1
  unfold wpX_link
  rcases Classical.em (∃ n, n < 4 ∧ v1 = nI n) with ⟨m, hm, rfl⟩ | hb
  · refine xw_name1 hm (br_f (by decide) ?_)
    rcases Classical.em (∃ n, n < 4 ∧ v2 = nI n) with ⟨n, hn, rfl⟩ | hb
    · refine xw_name1 hn (br_f (by decide) ?_)
      have vm : vp_in (nI m) 4 := vp_in_nI hm (by omega)
      have vn : vp_in (nI n) 4 := vp_in_nI hn (by omega)
      rw [nI_clamp (n := m) (by omega), nI_clamp (n := n) (by omega)]
      refine ⟨vm, ?_⟩
      rcases N m hm with e | ⟨f, hf, e⟩
      · refine br_t (by rw [e]; decide) ?_
        unfold wpY_link
        refine yw_name0 hm (br_t rfl (yw_name0 hn (br_t rfl ⟨vm, br_t ?_ ⟨rfl, dk_in I⟩⟩)))
        rw [nI_clamp (n := m) (by omega), e]; decide
      · refine br_f (by rw [e]; exact nI_pos (by omega)) ⟨vn, ?_⟩
        rcases N n hn with e2 | ⟨g, hg, e2⟩
        · refine br_t (by rw [e2]; decide) ⟨vm, vn, nm_e ⟨vn, ?_⟩⟩
          rw [pk_us, e, nI_clamp (n := f) (by omega)]
          have vf : vp_in (nI f) 28 := vp_in_nI hf (by omega)
          refine ⟨vf, vf, nm_e ?_⟩
          have I1 := dk_link I hn e2 hf
          unfold wpY_link
          refine yw_name0 hm (br_t rfl (yw_name0 hn (br_t rfl ?_)))
          rw [nI_clamp (n := m) (by omega), nI_clamp (n := n) (by omega), e]
          exact ⟨vm, br_f (nI_pos (by omega)) ⟨vn, br_t (by rw [e2]; decide) ⟨vm, vn, nm_e ⟨rfl, dk_in I1⟩⟩⟩⟩
        · refine br_f (by rw [e2]; exact nI_pos (by omega)) ?_
          unfold wpY_link
          refine yw_name0 hm (br_t rfl (yw_name0 hn (br_t rfl ?_)))
          rw [nI_clamp (n := m) (by omega), nI_clamp (n := n) (by omega), e, e2]
          exact ⟨vm, br_f (nI_pos (by omega)) ⟨vn, br_f (nI_pos (by omega)) ⟨rfl, dk_in I⟩⟩⟩
    · refine xw_name0 hb (br_t rfl ?_)
      unfold wpY_link
      exact yw_name0 hm (br_t rfl (yw_name1 hb (br_f (by decide) ⟨rfl, dk_in I⟩)))
  · refine xw_name0 hb (br_t rfl ?_)
    unfold wpY_link
    exact yw_name1 hb (br_f (by decide) ⟨rfl, dk_in I⟩)
theorem i_vc_unlink {k : Nat} {u : SX} {v : SY} (I : i_Rel k u v) (hk : k + 4 ≤ 2048) (v1 : Int32) : wpX_unlink (fun r u' => wpY_unlink (fun r' v' => r' = r ∧ i_Rel (k + 4) u' v') v v1) u v1 := by
  refine dk_el (P := fun u v => wpX_unlink (fun r u' => wpY_unlink (fun r' v' => r' = r ∧ i_Rel (k + 4) u' v') v v1) u v1) I ?_
  intro lv al le us xs wh og nm fu fs fb hr hw ps pc xb so yb I
  have N := I.2.2.2.2.2.2.1
  unfold wpX_unlink
  rcases Classical.em (∃ n, n < 4 ∧ v1 = nI n) with ⟨m, hm, rfl⟩ | hb
  · refine xw_name1 hm (br_f (by decide) ?_)
    have vm : vp_in (nI m) 4 := vp_in_nI hm (by omega)
    rw [nI_clamp (n := m) (by omega)]
    refine ⟨vm, ?_⟩
    rcases N m hm with e | ⟨f, hf, e⟩
    · refine br_f (by rw [e]; decide) ?_
      unfold wpY_unlink
      refine yw_name0 hm (br_t rfl ⟨vm, br_f ?_ ⟨rfl, dk_in I⟩⟩)
      rw [nI_clamp (n := m) (by omega), e]; decide
    · refine br_t (dk_ge0 e) ⟨vm, ?_⟩
      rw [e, nI_clamp (n := f) (by omega)]
      have vf : vp_in (nI f) 28 := vp_in_nI hf (by omega)
      refine ⟨vf, vf, nm_e ⟨vm, nm_e ?_⟩⟩
      have I1 := dk_unlink I hm e hf
      unfold wpY_unlink
      refine yw_name0 hm (br_t rfl ?_)
      rw [nI_clamp (n := m) (by omega)]
      exact ⟨vm, br_t (dk_ge0 e) ⟨vm, nm_e ⟨rfl, dk_in I1⟩⟩⟩
  · refine xw_name0 hb (br_t rfl ?_)
    unfold wpY_unlink
    exact yw_name1 hb (br_f (by decide) ⟨rfl, dk_in I⟩)
end
section
section
variable {lv : Int32} {al le us xs wh og nm fu fs fb hr hw ps pc xb : Nat → Int32} {post : Int32 → Prop} {x1 x2 x3 : Int32}
theorem xw_c77 (h : post (100 * x1 + 10 * x2 + nI (dk_n (fun p => ¬ (hr p = 0 ∧ hw p = 0)) 24))) : ∃ n, wX_counts_77 post x1 x2 lv al le us xs wh og nm fu fs fb hr hw ps pc xb n 0 0 := by
  refine dk_ct (fun n x y => wX_counts_77 post x1 x2 lv al le us xs wh og nm fu fs fb hr hw ps pc xb n x y) (fun p => ¬ (hr p = 0 ∧ hw p = 0)) 24 (fun n => ?_) (fun n k c hk z hW => ?_) (fun n k c hk z hW => ?_)
  · exact br_t (nI_le (a := 24) (b := 24) (by omega) (by omega)) h
  · refine br_f (nI_ge (a := k) (b := 24) hk (by omega)) ?_
    have v : vp_in (nI k) 24 := vp_in_nI hk (by omega)
    rw [nI_clamp (n := k) (by omega)]
    exact ⟨v, br_c (fun a => ⟨v, br_f (fun b => z ⟨a, b⟩) (nm_e (nm_e hW))⟩) (fun _ => nm_e (nm_e hW))⟩
  · refine br_f (nI_ge (a := k) (b := 24) hk (by omega)) ?_
    have v : vp_in (nI k) 24 := vp_in_nI hk (by omega)
    have z' := Classical.not_not.mp z
    rw [nI_clamp (n := k) (by omega)]
    exact ⟨v, br_t z'.1 ⟨v, br_t z'.2 (nm_r (Int32.add_zero _) (nm_e hW))⟩⟩
theorem xw_c43 (h : post (100 * x1 + 10 * nI (dk_n (fun f => ¬ fu f ≤ 0) 28) + nI (dk_n (fun p => ¬ (hr p = 0 ∧ hw p = 0)) 24))) : ∃ n, wX_counts_43 post x1 0 lv al le us xs wh og nm fu fs fb hr hw ps pc xb n 0 0 := by
  refine dk_ct (fun n x y => wX_counts_43 post x1 0 lv al le us xs wh og nm fu fs fb hr hw ps pc xb n x y) (fun f => ¬ fu f ≤ 0) 28 (fun n => ?_) (fun n k c hk z hW => ?_) (fun n k c hk z hW => ?_)
  · exact br_t (nI_le (a := 28) (b := 28) (by omega) (by omega)) (xw_c77 h)
  · refine br_f (nI_ge (a := k) (b := 28) hk (by omega)) ?_
    rw [nI_clamp (n := k) (by omega)]
    exact ⟨vp_in_nI hk (by omega), br_f z (nm_e (nm_e hW))⟩
  · refine br_f (nI_ge (a := k) (b := 28) hk (by omega)) ?_
    rw [nI_clamp (n := k) (by omega)]
    exact ⟨vp_in_nI hk (by omega), br_t (Classical.not_not.mp z) (nm_r (Int32.add_zero _) (nm_e hW))⟩
theorem xm_counts (h : post (100 * nI (dk_n (fun o => ¬ us o ≤ 0) 24) + 10 * nI (dk_n (fun f => ¬ fu f ≤ 0) 28) + nI (dk_n (fun p => ¬ (hr p = 0 ∧ hw p = 0)) 24))) : wpX_counts post (lv, al, le, us, xs, wh, og, nm, fu, fs, fb, hr, hw, ps, pc, xb) := by
  refine dk_ct (fun n x y => wX_counts_9 post 0 0 lv al le us xs wh og nm fu fs fb hr hw ps pc xb n x y) (fun o => ¬ us o ≤ 0) 24 (fun n => ?_) (fun n k c hk z hW => ?_) (fun n k c hk z hW => ?_)
  · exact br_t (nI_le (a := 24) (b := 24) (by omega) (by omega)) (xw_c43 h)
  · refine br_f (nI_ge (a := k) (b := 24) hk (by omega)) ?_
    rw [nI_clamp (n := k) (by omega)]
    exact ⟨vp_in_nI hk (by omega), br_f z (nm_e (nm_e hW))⟩
  · refine br_f (nI_ge (a := k) (b := 24) hk (by omega)) ?_
    rw [nI_clamp (n := k) (by omega)]
    exact ⟨vp_in_nI hk (by omega), br_t (Classical.not_not.mp z) (nm_r (Int32.add_zero _) (nm_e hW))⟩
end
section
variable {al le so wh og nm fs fb pc yb : Nat → Int32} {post : Int32 → Prop} {x1 x2 x3 : Int32}
theorem yw_c50 (h : post (100 * x1 + 10 * nI (dk_n (fun f => dk_G le so wh nm (nI f)) 28) + x3)) : ∃ n, wY_counts_50 post x1 x3 al le so wh og nm fs fb pc yb n 0 0 := by
  refine dk_ct (fun n x y => wY_counts_50 post x1 x3 al le so wh og nm fs fb pc yb n x y) (fun f => dk_G le so wh nm (nI f)) 28 (fun n => ?_) (fun n k c hk z hW => ?_) (fun n k c hk z hW => ?_)
  · exact br_t (nI_le (a := 28) (b := 28) (by omega) (by omega)) h
  · refine br_f (nI_ge (a := k) (b := 28) hk (by omega)) ?_
    exact yw_isf (fun _ => br_f (by decide) (nm_e (nm_e hW))) (fun y => absurd z y)
  · refine br_f (nI_ge (a := k) (b := 28) hk (by omega)) ?_
    exact yw_isf (fun y => absurd y z) (fun _ => br_t rfl (nm_e hW))
theorem yw_c28 {J : Int32 → Int32 → Int32 → Prop} {b k : Nat} (h : J x1 (nI (b + dk_b (∃ o, o < 24 ∧ dk_C le so wh 3 (nI k) o))) (nI k + 1)) : wY_counts_28 post J x1 x2 (nI b) (nI k) al le so wh og nm fs fb pc yb := by
  unfold wY_counts_28
  refine yw_has (fun y => br_f (by decide) ?_) (fun y => br_t rfl ?_)
  · rw [dk_bt y] at h
    exact nm_r (nI_1 b) (nm_e h)
  · rw [dk_bf y] at h
    exact nm_e h
theorem ym_counts (h : post (100 * nI (dk_n (fun o => dk_L le o) 24) + 10 * nI (dk_n (fun f => dk_G le so wh nm (nI f)) 28) + nI (dk_n (fun p => ∃ o, o < 24 ∧ dk_C le so wh 3 (nI p) o) 24))) : wpY_counts post (al, le, so, wh, og, nm, fs, fb, pc, yb) := by
  refine dk_ct2 (fun n x y z => wY_counts_9 post 0 al le so wh og nm fs fb pc yb n x y z) (fun o => dk_L le o) (fun p => ∃ o, o < 24 ∧ dk_C le so wh 3 (nI p) o) 24 (fun n => ?_) (fun n k a b hk hW => ?_)
  · exact br_t (nI_le (a := 24) (b := 24) (by omega) (by omega)) (yw_c50 h)
  · refine br_f (nI_ge (a := k) (b := 24) hk (by omega)) ?_
    refine yw_opened (fun y => br_f (by decide) ?_) (fun y => br_t rfl ?_)
    · rw [dk_bt y] at hW
      exact nm_r (nI_1 a) (yw_c28 hW)
    · rw [dk_bf y] at hW
      exact yw_c28 hW
end
theorem dk_le0 {x : Int32} {n : Nat} (e : x = nI n) (h : n < 2 ^ 31) : x ≤ 0 ↔ x = 0 := by
  subst e
  rw [← nI_0, nI_leI h (by omega), nI_eq h (by omega)]
  omega
theorem i_vc_counts {k : Nat} {u : SX} {v : SY} (I : i_Rel k u v) (hk : k + 4 ≤ 2048) : wpX_counts (fun r => wpY_counts (fun r' => r' = r ∧ i_Rel (k + 4) u v) v) u := by
  refine dk_el (P := fun u v => wpX_counts (fun r => wpY_counts (fun r' => r' = r ∧ i_Rel (k + 4) u v) v) u) I ?_
  intro lv al le us xs wh og nm fu fs fb hr hw ps pc xb so yb I
  obtain ⟨A, L, U, S, O, F, N, Q, R, W, P⟩ := id I
  have e1 : dk_n (fun o => ¬ us o ≤ 0) 24 = dk_n (fun o => dk_L le o) 24 := dk_n_c (fun o ho => by
    have b := dk_n_le (fun i => le i = nI o) 24
    rw [dk_le0 (U o ho) (by omega), dk_us_L U ho]
    exact Classical.not_not)
  have e2 : dk_n (fun f => ¬ fu f ≤ 0) 28 = dk_n (fun f => dk_G le so wh nm (nI f)) 28 := dk_n_c (fun f hf => by
    have b1 := dk_n_le (fun n => nm n = nI f) 4
    have b2 : dk_K le so wh 0 f ≤ 24 := dk_n_le _ 24
    rw [dk_le0 (Q f hf) (by omega), dk_G_fu Q hf]
    exact Classical.not_not)
  have e3 : dk_n (fun p => ¬ (hr p = 0 ∧ hw p = 0)) 24 = dk_n (fun p => ∃ o, o < 24 ∧ dk_C le so wh 3 (nI p) o) 24 := dk_n_c (fun p hp => (dk_C_3 S R W hp).symm)
  refine xm_counts (ym_counts ⟨?_, dk_in I⟩)
  rw [e1, e2, e3]
end
section
def dk_fill (N : Nat) : Nat → Int32 := fun j => if j < N then -1 else 0
theorem dk_fill0 : dk_fill 0 = fun _ => 0 := by
  funext j
  exact if_neg (by omega)
theorem dk_fill1 (k : Nat) : upd (dk_fill k) k (-1) = dk_fill (k + 1) := by
  funext j
  by_cases e : j = k
  · subst e
    rw [pk_us]
    exact (if_pos (by omega)).symm
  · rw [pk_un e]
    unfold dk_fill
    by_cases y : j < k
    · rw [if_pos y, if_pos (by omega)]
    · rw [if_neg y, if_neg (by omega)]
theorem dk_fill_lt {k j : Nat} (h : j < k) : dk_fill k j = -1 := if_pos h
section
variable {lv : Int32} {al le us xs wh og nm fu fs fb hr hw ps pc xb : Nat → Int32} {post : SX → Prop}
theorem xw_i147 (h : post (1, upd al 0 1, le, us, xs, wh, og, dk_fill 4, fu, fs, fb, hr, hw, ps, pc, xb)) : ∀ m k, k + m = 4 → wX_init_147 post lv (m + 1) (nI k) al le us xs wh og (dk_fill k) fu fs fb hr hw ps pc xb := by
  intro m
  induction m with
  | zero =>
    intro k e
    have e' : k = 4 := by omega
    subst e'
    refine br_t (nI_le (a := 4) (b := 4) (by omega) (by omega)) ?_
    rw [dk_nb1]
    exact nm_e h
  | succ m ih =>
    intro k e
    refine br_f (nI_ge (a := k) (b := 4) (by omega) (by omega)) ?_
    rw [nI_clamp (n := k) (by omega)]
    exact ⟨vp_in_nI (by omega) (by omega), nm_r (dk_fill1 k) (nm_r (nI_1 k) (ih (k + 1) (by omega)))⟩
theorem xw_i126 (h : ∃ n, wX_init_147 post lv n 0 al (dk_fill 24) us xs wh og nm fu fs fb hr hw ps pc xb) : ∀ m k, k + m = 24 → wX_init_126 post lv (m + 1) (nI k) al (dk_fill k) us xs wh og nm fu fs fb hr hw ps pc xb := by
  intro m
  induction m with
  | zero =>
    intro k e
    have e' : k = 24 := by omega
    subst e'
    exact br_t (nI_le (a := 24) (b := 24) (by omega) (by omega)) h
  | succ m ih =>
    intro k e
    refine br_f (nI_ge (a := k) (b := 24) (by omega) (by omega)) ?_
    rw [nI_clamp (n := k) (by omega)]
    exact ⟨vp_in_nI (by omega) (by omega), nm_r (dk_fill1 k) (nm_r (nI_1 k) (ih (k + 1) (by omega)))⟩
end
section
variable {al le so wh og nm fs fb pc yb : Nat → Int32} {post : SY → Prop}
theorem yw_i114 (h : post (al, le, so, wh, og, dk_fill 4, fs, fb, pc, yb)) : ∀ m k, k + m = 4 → wY_init_114 post (m + 1) (nI k) al le so wh og (dk_fill k) fs fb pc yb := by
  intro m
  induction m with
  | zero =>
    intro k e
    have e' : k = 4 := by omega
    subst e'
    exact br_t (nI_le (a := 4) (b := 4) (by omega) (by omega)) h
  | succ m ih =>
    intro k e
    refine br_f (nI_ge (a := k) (b := 4) (by omega) (by omega)) ?_
    rw [nI_clamp (n := k) (by omega)]
    exact ⟨vp_in_nI (by omega) (by omega), nm_r (dk_fill1 k) (nm_r (nI_1 k) (ih (k + 1) (by omega)))⟩
theorem yw_i93 (h : ∃ n, wY_init_114 post n 0 al (dk_fill 24) so wh og nm fs fb pc yb) : ∀ m k, k + m = 24 → wY_init_93 post (m + 1) (nI k) al (dk_fill k) so wh og nm fs fb pc yb := by
  intro m
  induction m with
  | zero =>
    intro k e
    have e' : k = 24 := by omega
    subst e'
    exact br_t (nI_le (a := 24) (b := 24) (by omega) (by omega)) h
  | succ m ih =>
    intro k e
    refine br_f (nI_ge (a := k) (b := 24) (by omega) (by omega)) ?_
    rw [nI_clamp (n := k) (by omega)]
    exact ⟨vp_in_nI (by omega) (by omega), nm_r (dk_fill1 k) (nm_r (nI_1 k) (ih (k + 1) (by omega)))⟩
end
abbrev dk_0 : Nat → Int32 := fun _ => 0
theorem dk_no (o : Nat) (ho : o < 24) : ¬ dk_L (dk_fill 24) o := fun ⟨i, hi, e⟩ => by
  rw [dk_fill_lt hi] at e
  exact dk_ne1' (by omega) e
theorem dk_K0 (s : Int32) (t : Nat) : dk_K (dk_fill 24) dk_0 dk_0 s t = 0 := dk_n_z (fun o ho z => dk_no o ho z.1)
theorem dk_I0 : dk_I 1 (upd dk_0 0 1) (dk_fill 24) dk_0 dk_0 dk_0 dk_0 (dk_fill 4) dk_0 dk_0 dk_0 dk_0 dk_0 dk_0 dk_0 dk_0 dk_0 := by
  refine ⟨⟨?_, ?_⟩, ?_, ?_, ?_, ?_, ?_, ?_, ?_, ?_, ?_, ?_⟩
  · simp only [dk_n]
    rw [dk_bt (P := ¬ upd dk_0 0 1 0 = 0) (by decide), dk_bf (P := ¬ upd dk_0 0 1 1 = 0) (by decide), dk_bf (P := ¬ upd dk_0 0 1 2 = 0) (by decide), dk_bf (P := ¬ upd dk_0 0 1 3 = 0) (by decide)]
    rfl
  · intro p d hp _ hd
    exact dk_fill_lt (by omega)
  · intro i hi
    exact Or.inl (dk_fill_lt hi)
  · intro o ho
    rw [dk_n_z (P := fun i => dk_fill 24 i = nI o) (fun i hi e => dk_no o ho ⟨i, hi, e⟩)]
    exact nI_0.symm
  · intro o ho l
    exact absurd l (dk_no o ho)
  · intro o f ho hf l
    exact absurd l (dk_no o ho)
  · intro f hf
    exact ⟨0, by omega, nI_0.symm⟩
  · intro n hn
    exact Or.inl (dk_fill_lt hn)
  · intro f hf
    rw [dk_K0, dk_n_z (P := fun n => dk_fill 4 n = nI f) (fun n hn e => by
      rw [dk_fill_lt hn] at e
      exact dk_ne1' (by omega) e)]
    exact nI_0.symm
  · intro p hp
    rw [dk_K0]
    exact ⟨nI_0.symm, by omega⟩
  · intro p hp
    rw [dk_K0]
    exact ⟨nI_0.symm, by omega⟩
  · intro p hp
    exact ⟨0, 0, by omega, by omega, nI_0.symm, nI_0.symm, fun i hi => absurd hi (Nat.not_lt_zero _)⟩
theorem i_vc0 : wpX_init (fun u => wpY_init (fun v => i_Rel 0 u v)) := by
  unfold wpX_init
  refine ⟨25, ?_⟩
  have x := xw_i126 (post := fun u => wpY_init (fun v => i_Rel 0 u v)) (lv := 0) (al := dk_0) (us := dk_0) (xs := dk_0) (wh := dk_0) (og := dk_0) (nm := dk_0) (fu := dk_0) (fs := dk_0) (fb := dk_0) (hr := dk_0) (hw := dk_0) (ps := dk_0) (pc := dk_0) (xb := dk_0)
    (by
      refine ⟨5, ?_⟩
      have z := xw_i147 (post := fun u => wpY_init (fun v => i_Rel 0 u v)) (lv := 0) (al := dk_0) (le := dk_fill 24) (us := dk_0) (xs := dk_0) (wh := dk_0) (og := dk_0) (fu := dk_0) (fs := dk_0) (fb := dk_0) (hr := dk_0) (hw := dk_0) (ps := dk_0) (pc := dk_0) (xb := dk_0)
        (by
          unfold wpY_init
          rw [dk_nb1]
          refine nm_e ⟨25, ?_⟩
          have y := yw_i93 (post := fun v => i_Rel 0 (1, upd dk_0 0 1, dk_fill 24, dk_0, dk_0, dk_0, dk_0, dk_fill 4, dk_0, dk_0, dk_0, dk_0, dk_0, dk_0, dk_0, dk_0) v) (al := upd dk_0 0 1) (so := dk_0) (wh := dk_0) (og := dk_0) (nm := dk_0) (fs := dk_0) (fb := dk_0) (pc := dk_0) (yb := dk_0)
            (by
              refine ⟨5, ?_⟩
              have w := yw_i114 (post := fun v => i_Rel 0 (1, upd dk_0 0 1, dk_fill 24, dk_0, dk_0, dk_0, dk_0, dk_fill 4, dk_0, dk_0, dk_0, dk_0, dk_0, dk_0, dk_0, dk_0) v) (al := upd dk_0 0 1) (le := dk_fill 24) (so := dk_0) (wh := dk_0) (og := dk_0) (fs := dk_0) (fb := dk_0) (pc := dk_0) (yb := dk_0) (dk_in dk_I0) 4 0 (by omega)
              rw [dk_fill0, nI_0] at w
              exact w) 24 0 (by omega)
          rw [dk_fill0, nI_0] at y
          exact y) 4 0 (by omega)
      rw [dk_fill0, nI_0] at z
      exact z) 24 0 (by omega)
  rw [dk_fill0, nI_0] at x
  exact x
end
