section
theorem pk_us {f : Nat → Int32} {k : Nat} {x : Int32} : upd f k x k = x := if_pos rfl
theorem pk_un {f : Nat → Int32} {k j : Nat} {x : Int32} (h : j ≠ k) : upd f k x j = f j := if_neg h
theorem pk_sub {a b : Nat} (h : b ≤ a) : nI a - nI b = nI (a - b) := by
  obtain ⟨c, rfl⟩ : ∃ c, a = c + b := ⟨a - b, by omega⟩
  rw [← nI_add, Int32.add_sub_cancel, Nat.add_sub_cancel]
theorem pk_m1 (n : Nat) : nI (n + 1) + (-1) = nI n := by
  rw [← nI_1, Int32.add_assoc, show (1 : Int32) + (-1) = 0 from rfl, Int32.add_zero]
theorem pk_mul (a b : Nat) : nI a * nI b = nI (a * b) := (Int32.ofNat_mul a b).symm
theorem pk_div {a d : Nat} (ha : a < 2 ^ 31) (h0 : 0 < d) (hd : d < 2 ^ 31) : nI a / nI d = nI (a / d) := by
  apply Int32.toInt_inj.mp
  rw [lg_idiv_nonneg (by rw [nI_toInt ha]; omega) (by rw [nI_toInt hd]; omega), nI_toInt ha, nI_toInt hd, nI_toInt (Nat.lt_of_le_of_lt (Nat.div_le_self a d) ha)]
  first | rfl | exact (Int.natCast_ediv _ _).symm
theorem pk_rem {a d : Nat} (ha : a < 2 ^ 31) (h0 : 0 < d) (hd : d < 2 ^ 31) : nI a - nI a / nI d * nI d = nI (a % d) := by
  rw [pk_div ha h0 hd, pk_mul, pk_sub (Nat.div_mul_le_self a d)]
  exact congrArg nI (by have := Nat.div_add_mod' a d; omega)
theorem pk_sub_toInt {a b : Nat} (ha : a < 2 ^ 30) (hb : b < 2 ^ 30) : (nI a - nI b).toInt = (a : Int) - b := by
  rw [Int32.toInt_sub, nI_toInt (by omega), nI_toInt (by omega)]
  exact Int.bmod_eq_of_le (by omega) (by omega)
theorem pk_sneg {a b : Nat} (hb : b < 2 ^ 30) (h : a < b) : nI a - nI b < 0 := by
  rw [Int32.lt_iff_toInt_lt, pk_sub_toInt (by omega) hb, show (0 : Int32).toInt = 0 from by decide]
  omega
theorem pk_ix (x : Int32) {n : Nat} (hn : n < 2 ^ 31) : x < 0 ∨ nI n ≤ x ∨ ∃ j : Nat, j < n ∧ x = nI j := by
  by_cases h : x < 0
  · exact Or.inl h
  · obtain ⟨j, hj, rfl⟩ := nI_of h
    by_cases h2 : j < n
    · exact Or.inr (Or.inr ⟨j, h2, rfl⟩)
    · exact Or.inr (Or.inl (nI_le (by omega) hj))
theorem pk_le {x y : Int32} {A B : Prop} (a b : Nat) (f : a ≤ b → A) (g : b < a → B) (hx : x = nI a := by rfl) (hy : y = nI b := by rfl) (ha : a < 2 ^ 31 := by omega) (hb : b < 2 ^ 31 := by omega) : (x ≤ y → A) ∧ (¬ x ≤ y → B) := by
  subst hx hy
  rw [nI_leI ha hb]
  exact ⟨f, fun z => g (by omega)⟩
theorem pk_lt {x y : Int32} {A B : Prop} (a b : Nat) (f : a < b → A) (g : b ≤ a → B) (hx : x = nI a := by rfl) (hy : y = nI b := by rfl) (ha : a < 2 ^ 31 := by omega) (hb : b < 2 ^ 31 := by omega) : (x < y → A) ∧ (¬ x < y → B) := by
  subst hx hy
  rw [nI_ltI ha hb]
  exact ⟨f, fun z => g (by omega)⟩
theorem pk_eq {x y : Int32} {A B : Prop} (a b : Nat) (f : a = b → A) (g : a ≠ b → B) (hx : x = nI a := by rfl) (hy : y = nI b := by rfl) (ha : a < 2 ^ 31 := by omega) (hb : b < 2 ^ 31 := by omega) : (x = y → A) ∧ (¬ x = y → B) := by
  subst hx hy
  rw [nI_eq ha hb]
  exact ⟨f, g⟩
theorem pk_in {x : Int32} (n N : Nat) (h : n < N) (hx : x = nI n := by rfl) (hN : N < 2 ^ 31 := by omega) : vp_in x N := by
  subst hx
  exact vp_in_nI h hN
theorem pk_cl {x : Int32} (n : Nat) (hx : x = nI n := by rfl) (h : n < 2 ^ 31 := by omega) : x.toNatClampNeg = n := by
  subst hx
  exact nI_clamp h
theorem pk_least (P : Nat → Prop) (h : ∃ k, P k) : ∃ k, P k ∧ ∀ j, j < k → ¬ P j := by
  obtain ⟨k, hk⟩ := h
  induction k using Nat.strongRecOn with
  | ind k ih =>
    by_cases e : ∃ j, j < k ∧ P j
    · obtain ⟨j, hj, pj⟩ := e
      exact ih j hj pj
    · exact ⟨k, hk, fun j hj pj => e ⟨j, hj, pj⟩⟩
end
section
/-! sums, stores into naturals' functions, the search's pure picture -/
def ba_u (f : Nat → Nat) (k x : Nat) : Nat → Nat := fun j => if j = k then x else f j
theorem ba_us {f : Nat → Nat} {k x : Nat} : ba_u f k x k = x := if_pos rfl
theorem ba_un {f : Nat → Nat} {k j x : Nat} (h : j ≠ k) : ba_u f k x j = f j := if_neg h
def ba_a (f : Nat → Nat) (k x : Nat) : Nat → Nat := ba_u f k (f k + x)
theorem ba_as {f : Nat → Nat} {k x : Nat} : ba_a f k x k = f k + x := if_pos rfl
theorem ba_an {f : Nat → Nat} {k j x : Nat} (h : j ≠ k) : ba_a f k x j = f j := if_neg h
theorem ba_a_eq (f : Nat → Nat) (k x j : Nat) : ba_a f k x j = f j + (if k = j then x else 0) := by
  by_cases h : j = k
  · subst h; rw [ba_as, if_pos rfl]
  · rw [ba_an h, if_neg (fun z => h z.symm)]; rfl
def ba_S (f : Nat → Nat) : Nat → Nat
  | 0 => 0
  | n + 1 => ba_S f n + f n
theorem ba_S_0 (f : Nat → Nat) : ba_S f 0 = 0 := rfl
theorem ba_S_s (f : Nat → Nat) (n : Nat) : ba_S f (n + 1) = ba_S f n + f n := rfl
theorem ba_S_congr {f g : Nat → Nat} : ∀ n, (∀ i, i < n → f i = g i) → ba_S f n = ba_S g n := by
  intro n
  induction n with
  | zero => intro _; rfl
  | succ n ih =>
    intro h
    rw [ba_S_s, ba_S_s, ih (fun i hi => h i (by omega)), h n (by omega)]
theorem ba_S_le {f g : Nat → Nat} : ∀ n, (∀ i, i < n → f i ≤ g i) → ba_S f n ≤ ba_S g n := by
  intro n
  induction n with
  | zero => intro _; exact Nat.le_refl _
  | succ n ih =>
    intro h
    have h1 := ih (fun i hi => h i (by omega))
    have h2 := h n (by omega)
    rw [ba_S_s, ba_S_s]; omega
theorem ba_S_add (f g : Nat → Nat) : ∀ n, ba_S (fun i => f i + g i) n = ba_S f n + ba_S g n := by
  intro n
  induction n with
  | zero => rfl
  | succ n ih => rw [ba_S_s, ba_S_s, ba_S_s, ih]; omega
theorem ba_S_c (c : Nat) : ∀ n, ba_S (fun _ => c) n = n * c := by
  intro n
  induction n with
  | zero => rw [ba_S_0, Nat.zero_mul]
  | succ n ih => rw [ba_S_s, ih, Nat.succ_mul]
theorem ba_S_0f {f : Nat → Nat} (n : Nat) (h : ∀ i, i < n → f i = 0) : ba_S f n = 0 := by
  rw [ba_S_congr (g := fun _ => 0) n h, ba_S_c, Nat.mul_zero]
theorem ba_S_bd {f : Nat → Nat} {c : Nat} (n : Nat) (h : ∀ i, i < n → f i ≤ c) : ba_S f n ≤ n * c := by
  have := ba_S_le (g := fun _ => c) n h
  rw [ba_S_c] at this; exact this
theorem ba_S_one {f : Nat → Nat} {k : Nat} : ∀ n, k < n → f k ≤ ba_S f n := by
  intro n
  induction n with
  | zero => intro h; omega
  | succ n ih =>
    intro h
    rw [ba_S_s]
    by_cases e : k = n
    · subst e; omega
    · have := ih (by omega); omega
theorem ba_S_two {f : Nat → Nat} {k l : Nat} (hkl : k < l) : ∀ n, l < n → f k + f l ≤ ba_S f n := by
  intro n
  induction n with
  | zero => intro h; omega
  | succ n ih =>
    intro h
    rw [ba_S_s]
    by_cases e : l = n
    · subst e
      have := ba_S_one (f := f) l hkl
      omega
    · have := ih (by omega); omega
/-- one place raised -/
theorem ba_S_a {f : Nat → Nat} {k x : Nat} : ∀ n, k < n → ba_S (ba_a f k x) n = ba_S f n + x := by
  intro n
  induction n with
  | zero => intro h; omega
  | succ n ih =>
    intro h
    rw [ba_S_s, ba_S_s]
    by_cases e : k = n
    · subst e
      rw [ba_as, ba_S_congr (f := ba_a f k x) (g := f) k (fun i hi => ba_an (by omega))]; omega
    · rw [ih (by omega), ba_an (fun z => e z.symm)]; omega
theorem ba_S_swap {f g : Nat → Nat} {i : Nat} (h : ∀ t, t ≠ i → t ≠ i + 1 → f t = g t) (e : f i + f (i + 1) = g i + g (i + 1)) : ∀ n, i + 2 ≤ n → ba_S f n = ba_S g n := by
  intro n
  induction n with
  | zero => intro h; omega
  | succ n ih =>
    intro hn
    by_cases c : n = i + 1
    · subst c
      rw [ba_S_s, ba_S_s, ba_S_s, ba_S_s, ba_S_congr (f := f) (g := g) i (fun t ht => h t (by omega) (by omega))]; omega
    · rw [ba_S_s, ba_S_s, ih (by omega), h n (by omega) (by omega)]
/-- each job lies on one machine -/
theorem ba_S_one_of {M x : Nat} : ∀ a, a < M → ba_S (fun m => if a = m then x else 0) M = x := by
  intro a
  induction M with
  | zero => intro h; omega
  | succ M ih =>
    intro h
    rw [ba_S_s]
    by_cases e : a = M
    · subst e
      rw [if_pos rfl, ba_S_0f a (fun i hi => if_neg (by omega)), Nat.zero_add]
    · rw [ih (by omega), if_neg e]; rfl
theorem ba_S_load {M : Nat} {g L : Nat → Nat} (hg : ∀ i, g i < M) : ∀ n, ba_S (fun m => ba_S (fun i => if g i = m then L i else 0) n) M = ba_S L n := by
  intro n
  induction n with
  | zero => exact ba_S_0f M (fun _ _ => rfl)
  | succ n ih =>
    have e : ba_S (fun m => ba_S (fun i => if g i = m then L i else 0) (n + 1)) M = ba_S (fun m => ba_S (fun i => if g i = m then L i else 0) n + (if g n = m then L n else 0)) M := rfl
    rw [e, ba_S_add, ih, ba_S_one_of (g n) (hg n)]; rfl
/-- the sum of r places from d on -/
def ba_T (f : Nat → Nat) : Nat → Nat → Nat
  | 0, _ => 0
  | r + 1, d => ba_T f r (d + 1) + f d
theorem ba_T_s (f : Nat → Nat) (r d : Nat) : ba_T f (r + 1) d = ba_T f r (d + 1) + f d := rfl
theorem ba_T_S (f : Nat → Nat) : ∀ r d, ba_S f d + ba_T f r d = ba_S f (d + r) := by
  intro r
  induction r with
  | zero => intro d; rfl
  | succ r ih =>
    intro d
    have h := ih (d + 1)
    rw [ba_S_s] at h
    rw [ba_T_s, show d + (r + 1) = d + 1 + r from by omega, ← h]; omega
theorem ba_T_congr {f g : Nat → Nat} : ∀ r d, (∀ t, d ≤ t → t < d + r → f t = g t) → ba_T f r d = ba_T g r d := by
  intro r
  induction r with
  | zero => intro d _; rfl
  | succ r ih =>
    intro d h
    rw [ba_T_s, ba_T_s, ih (d + 1) (fun t h1 h2 => h t (by omega) (by omega)), h d (by omega) (by omega)]
theorem ba_T_bd {f : Nat → Nat} {c : Nat} : ∀ r d, (∀ t, f t ≤ c) → ba_T f r d ≤ r * c := by
  intro r
  induction r with
  | zero => intro d _; exact Nat.zero_le _
  | succ r ih =>
    intro d h
    have h1 := ih (d + 1) h
    have h2 := h d
    rw [ba_T_s, Nat.succ_mul]; omega
/-- whether the jobs at the places from d on can be laid so that no machine ends past lim -/
def ba_pf (M lim : Nat) (sz : Nat → Nat) : Nat → Nat → (Nat → Nat) → Prop
  | 0, _, E => ∀ m, m < M → E m ≤ lim
  | r + 1, d, E => ∃ m, m < M ∧ ba_pf M lim sz r (d + 1) (ba_a E m (sz d))
theorem ba_pf_le {M lim : Nat} {sz : Nat → Nat} : ∀ r d E, ba_pf M lim sz r d E → ∀ m, m < M → E m ≤ lim := by
  intro r
  induction r with
  | zero => intro d E h; exact h
  | succ r ih =>
    intro d E h m hm
    obtain ⟨x, hx, h⟩ := h
    have := ih _ _ h m hm
    rw [ba_a_eq] at this
    omega
theorem ba_pf_sum {M lim : Nat} {sz : Nat → Nat} : ∀ r d E, ba_pf M lim sz r d E → ba_T sz r d + ba_S E M ≤ M * lim := by
  intro r
  induction r with
  | zero => intro d E h; have := ba_S_bd M h; exact (Nat.zero_add _).symm ▸ this
  | succ r ih =>
    intro d E h
    obtain ⟨x, hx, h⟩ := h
    have := ih _ _ h
    rw [ba_S_a M hx] at this
    rw [ba_T_s]; omega
theorem ba_pf_perm {M lim : Nat} {sz : Nat → Nat} {σ : Nat → Nat} (hs : ∀ j, σ (σ j) = j) (hM : ∀ j, j < M → σ j < M) : ∀ r d E E', (∀ j, j < M → E' j = E (σ j)) → ba_pf M lim sz r d E → ba_pf M lim sz r d E' := by
  intro r
  induction r with
  | zero =>
    intro d E E' he h m hm
    rw [he m hm]
    exact h _ (hM m hm)
  | succ r ih =>
    intro d E E' he h
    obtain ⟨x, hx, h⟩ := h
    refine ⟨σ x, hM x hx, ih _ _ _ ?_ h⟩
    intro j hj
    rw [ba_a_eq, ba_a_eq, he j hj]
    by_cases e : σ x = j
    · subst e
      rw [if_pos rfl, if_pos (hs x).symm]
    · rw [if_neg e, if_neg (fun z => e (by rw [z, hs]))]
def ba_sw (o m j : Nat) : Nat := if j = o then m else if j = m then o else j
theorem ba_sw_sw (o m j : Nat) : ba_sw o m (ba_sw o m j) = j := by
  unfold ba_sw
  by_cases h1 : j = o
  · subst h1
    rw [if_pos rfl]
    by_cases h2 : m = j
    · rw [if_pos h2, h2]
    · rw [if_neg h2, if_pos rfl]
  · rw [if_neg h1]
    by_cases h2 : j = m
    · rw [if_pos h2, if_pos rfl, h2]
    · rw [if_neg h2, if_neg h1, if_neg h2]
/-- of two machines with equal ends one serves as well as the other -/
theorem ba_pf_skip {M lim : Nat} {sz : Nat → Nat} {r d o m x : Nat} {B : Nat → Nat} (ho : o < M) (hm : m < M) (e : B o = B m) (h : ba_pf M lim sz r d (ba_a B m x)) : ba_pf M lim sz r d (ba_a B o x) := by
  refine ba_pf_perm (σ := ba_sw o m) (ba_sw_sw o m) ?_ r d _ _ ?_ h
  · intro j hj
    unfold ba_sw
    by_cases h1 : j = o
    · rw [if_pos h1]; exact hm
    · rw [if_neg h1]
      by_cases h2 : j = m
      · rw [if_pos h2]; exact ho
      · rw [if_neg h2]; exact hj
  · intro j hj
    rw [ba_a_eq, ba_a_eq]
    unfold ba_sw
    by_cases h1 : j = o
    · subst h1
      rw [if_pos rfl, if_pos rfl, if_pos rfl, e]
    · rw [if_neg h1]
      by_cases h2 : j = m
      · subst h2
        rw [if_pos rfl, e, if_neg (fun z => h1 z.symm), if_neg (fun z => h1 z)]
      · rw [if_neg h2, if_neg (fun z => h1 z.symm), if_neg (fun z => h2 z.symm)]
/-- as an assignment of the jobs -/
theorem ba_pf_g {M lim N : Nat} {L O : Nat → Nat} (hM : 0 < M) (hi : ∀ k l, k < l → l < N → O k ≠ O l) : ∀ r d E, d + r = N →
    (ba_pf M lim (fun k => L (O k)) r d E ↔ ∃ g : Nat → Nat, (∀ i, g i < M) ∧ ∀ m, m < M → E m + ba_T (fun k => if g (O k) = m then L (O k) else 0) r d ≤ lim) := by
  intro r
  induction r with
  | zero =>
    intro d E _
    exact ⟨fun h => ⟨fun _ => 0, fun _ => hM, fun m hm => h m hm⟩, fun ⟨g, _, h⟩ => h⟩
  | succ r ih =>
    intro d E hd
    constructor
    · rintro ⟨x, hx, h⟩
      obtain ⟨g, hg, h⟩ := (ih _ _ (by omega)).mp h
      refine ⟨ba_u g (O d) x, ?_, ?_⟩
      · intro i
        by_cases e : i = O d
        · subst e; rw [ba_us]; exact hx
        · rw [ba_un e]; exact hg i
      · intro m hm
        have h3 := h m hm
        rw [ba_a_eq] at h3
        rw [ba_T_s, ba_us]
        rw [ba_T_congr (g := fun k => if g (O k) = m then L (O k) else 0) r (d + 1) (fun t h1 h2 => by
          show (if ba_u g (O d) x (O t) = m then L (O t) else 0) = _
          rw [ba_un (hi d t (by omega) (by omega)).symm])]
        dsimp only at h3 ⊢
        omega
    · rintro ⟨g, hg, h⟩
      refine ⟨g (O d), hg _, (ih _ _ (by omega)).mpr ⟨g, hg, ?_⟩⟩
      intro m hm
      have h3 := h m hm
      rw [ba_T_s] at h3
      rw [ba_a_eq]
      dsimp only at h3 ⊢
      omega
end
section
/-! feasibility by an assignment; plans by their numbers; the chosen one -/
def ba_fe (M : Nat) (R L Fx : Nat → Nat) (lim : Nat) : Prop :=
  ∃ g : Nat → Nat, (∀ i, g i < M) ∧ (∀ i, i < 9 → Fx i ≠ 0 → L i ≠ 0 → g i + 1 = Fx i) ∧ ∀ m, m < M → R m + ba_S (fun i => if g i = m then L i else 0) 9 ≤ lim
def ba_fr (L Fx w : Nat → Nat) (i : Nat) : Nat := if L i ≠ 0 ∧ Fx i = 0 then w i else 0
def ba_fx (L Fx : Nat → Nat) (m i : Nat) : Nat := if Fx i = m + 1 then L i else 0
/-- what arrange has done for the jobs below j -/
def ba_ar (M : Nat) (R L Fx : Nat → Nat) (j fr : Nat) (O E : Nat → Nat) : Prop :=
  fr ≤ j ∧ (∀ k, k < fr → O k < 9) ∧ (∀ w : Nat → Nat, ba_S (fun k => w (O k)) fr = ba_S (ba_fr L Fx w) j) ∧ ∀ m, m < M → E m = R m + ba_S (ba_fx L Fx m) j
theorem ba_S_atmost {x : Nat} (a M : Nat) : ba_S (fun m => if a = m then x else 0) M ≤ x := by
  by_cases h : a < M
  · rw [ba_S_one_of a h]; exact Nat.le_refl _
  · rw [ba_S_0f M (fun i hi => if_neg (by omega))]; exact Nat.zero_le _
theorem ba_ar_inj {M : Nat} {R L Fx O E : Nat → Nat} {j fr : Nat} (h : ba_ar M R L Fx j fr O E) : ∀ k l, k < l → l < fr → O k ≠ O l := by
  intro k l hkl hl e
  have h1 := h.2.2.1 (fun i => if O k = i then 1 else 0)
  have h2 := ba_S_two (f := fun t => if O k = O t then 1 else 0) hkl fr hl
  have h3 : ba_S (ba_fr L Fx (fun i => if O k = i then 1 else 0)) j ≤ ba_S (fun i => if O k = i then 1 else 0) j := by
    refine ba_S_le j (fun i _ => ?_)
    unfold ba_fr
    split
    · exact Nat.le_refl _
    · exact Nat.zero_le _
  have h4 := ba_S_atmost (x := 1) (O k) j
  rw [if_pos rfl, if_pos e] at h2
  omega
def ba_gf (Fx g : Nat → Nat) (i : Nat) : Nat := if i < 9 ∧ Fx i ≠ 0 then Fx i - 1 else g i
theorem ba_gf1 {Fx g : Nat → Nat} {i : Nat} (h : i < 9 ∧ Fx i ≠ 0) : ba_gf Fx g i = Fx i - 1 := if_pos h
theorem ba_gf0 {Fx g : Nat → Nat} {i : Nat} (h : ¬ (i < 9 ∧ Fx i ≠ 0)) : ba_gf Fx g i = g i := if_neg h
theorem ba_ar_fe {M lim : Nat} {R L Fx O E : Nat → Nat} {fr : Nat} (hM : 0 < M) (hF : ∀ i, i < 9 → Fx i ≤ M) (h : ba_ar M R L Fx 9 fr O E) : ba_pf M lim (fun k => L (O k)) fr 0 E ↔ ba_fe M R L Fx lim := by
  rw [ba_pf_g hM (ba_ar_inj h) fr 0 E (by omega)]
  have hS : ∀ (g : Nat → Nat) (m : Nat), ba_T (fun k => if g (O k) = m then L (O k) else 0) fr 0 = ba_S (ba_fr L Fx (fun i => if g i = m then L i else 0)) 9 := by
    intro g m
    have h1 := ba_T_S (fun k => if g (O k) = m then L (O k) else 0) fr 0
    have h2 := h.2.2.1 (fun i => if g i = m then L i else 0)
    rw [ba_S_0, Nat.zero_add, Nat.zero_add] at h1
    rw [h1]; exact h2
  constructor
  · rintro ⟨g, hg, hl⟩
    refine ⟨ba_gf Fx g, ?_, ?_, ?_⟩
    · intro i
      by_cases c : i < 9 ∧ Fx i ≠ 0
      · rw [ba_gf1 c]
        have := hF i c.1
        have := c.2
        omega
      · rw [ba_gf0 c]; exact hg i
    · intro i h9 h0 _
      rw [ba_gf1 ⟨h9, h0⟩]; omega
    · intro m hm
      have h3 := hl m hm
      rw [hS g m, h.2.2.2 m hm, Nat.add_assoc, ← ba_S_add] at h3
      refine Nat.le_trans (Nat.le_of_eq ?_) h3
      congr 1
      refine ba_S_congr 9 (fun i hi => ?_)
      unfold ba_fx ba_fr
      by_cases hf : Fx i = 0
      · have e1 : ¬ (i < 9 ∧ Fx i ≠ 0) := fun z => z.2 hf
        have e2 : ¬ Fx i = m + 1 := by omega
        rw [ba_gf0 e1, if_neg e2]
        by_cases hl : L i = 0
        · have e3 : ¬ (L i ≠ 0 ∧ Fx i = 0) := fun z => z.1 hl
          rw [if_neg e3, hl, ite_self]
        · have e3 : L i ≠ 0 ∧ Fx i = 0 := ⟨hl, hf⟩
          rw [if_pos e3, Nat.zero_add]
      · have e1 : i < 9 ∧ Fx i ≠ 0 := ⟨hi, hf⟩
        have e3 : ¬ (L i ≠ 0 ∧ Fx i = 0) := fun z => hf z.2
        rw [ba_gf1 e1, if_neg e3]
        by_cases e : Fx i = m + 1
        · have e4 : Fx i - 1 = m := by omega
          rw [if_pos e, if_pos e4]; rfl
        · have e4 : ¬ Fx i - 1 = m := by omega
          rw [if_neg e, if_neg e4]
  · rintro ⟨g, hg, hx, hl⟩
    refine ⟨g, hg, fun m hm => ?_⟩
    have h3 := hl m hm
    rw [hS g m, h.2.2.2 m hm, Nat.add_assoc, ← ba_S_add]
    refine Nat.le_trans (Nat.le_of_eq ?_) h3
    congr 1
    refine ba_S_congr 9 (fun i hi => ?_)
    unfold ba_fx ba_fr
    by_cases hl : L i = 0
    · have e3 : ¬ (L i ≠ 0 ∧ Fx i = 0) := fun z => z.1 hl
      rw [if_neg e3, hl, ite_self, ite_self]
    · by_cases hf : Fx i = 0
      · have e2 : ¬ Fx i = m + 1 := by omega
        have e3 : L i ≠ 0 ∧ Fx i = 0 := ⟨hl, hf⟩
        rw [if_neg e2, if_pos e3, Nat.zero_add]
      · have e1 := hx i hi hf hl
        have e3 : ¬ (L i ≠ 0 ∧ Fx i = 0) := fun z => hf z.2
        rw [if_neg e3]
        by_cases e : Fx i = m + 1
        · have e4 : g i = m := by omega
          rw [if_pos e, if_pos e4]; rfl
        · have e4 : ¬ g i = m := by omega
          rw [if_neg e, if_neg e4]
/-! numbers -/
def ba_cn (L : Nat → Nat) (j : Nat) : Nat := ba_S (fun i => if L i = 0 then 0 else 1) j
theorem ba_cn_0 {L : Nat → Nat} {j : Nat} (h : L j = 0) : ba_cn L (j + 1) = ba_cn L j := by
  show ba_cn L j + (if L j = 0 then 0 else 1) = _
  rw [if_pos h]; rfl
theorem ba_cn_1 {L : Nat → Nat} {j : Nat} (h : L j ≠ 0) : ba_cn L (j + 1) = ba_cn L j + 1 := by
  show ba_cn L j + (if L j = 0 then 0 else 1) = _
  rw [if_neg h]
theorem ba_cn_le {L : Nat → Nat} (i : Nat) : ∀ e, ba_cn L i ≤ ba_cn L (i + e) := by
  intro e
  induction e with
  | zero => exact Nat.le_refl _
  | succ e ih => exact Nat.le_trans ih (Nat.le_add_right _ _)
theorem ba_cn_mono {L : Nat → Nat} {i j : Nat} (h : i ≤ j) : ba_cn L i ≤ ba_cn L j := by
  have := ba_cn_le (L := L) i (j - i)
  rw [show i + (j - i) = j from by omega] at this
  exact this
theorem ba_cn_bd (L : Nat → Nat) (j : Nat) : ba_cn L j ≤ j := by
  have := ba_S_bd (f := fun i => if L i = 0 then 0 else 1) (c := 1) j (fun i _ => by split <;> omega)
  rw [Nat.mul_one] at this; exact this
def ba_dg (M : Nat) (L : Nat → Nat) (num i : Nat) : Nat := num / M ^ (ba_cn L 8 - ba_cn L (i + 1)) % M
def ba_ld (M : Nat) (R L : Nat → Nat) (num m : Nat) : Nat := R m + ba_S (fun i => if ba_dg M L num i = m then L i else 0) 8
def ba_mx (f : Nat → Nat) : Nat → Nat
  | 0 => 0
  | n + 1 => if f n ≤ ba_mx f n then ba_mx f n else f n
theorem ba_mx_le {f : Nat → Nat} {c : Nat} : ∀ n, ba_mx f n ≤ c ↔ ∀ m, m < n → f m ≤ c := by
  intro n
  induction n with
  | zero => exact ⟨fun _ m hm => absurd hm (by omega), fun _ => Nat.zero_le _⟩
  | succ n ih =>
    have e : ba_mx f (n + 1) = if f n ≤ ba_mx f n then ba_mx f n else f n := rfl
    rw [e]
    constructor
    · intro h m hm
      by_cases c1 : f n ≤ ba_mx f n
      · rw [if_pos c1] at h
        by_cases c2 : m = n
        · subst c2; omega
        · exact ih.mp h m (by omega)
      · rw [if_neg c1] at h
        by_cases c2 : m = n
        · subst c2; omega
        · exact ih.mp (by omega) m (by omega)
    · intro h
      have h1 := ih.mpr (fun m hm => h m (by omega))
      have h2 := h n (by omega)
      split <;> omega
def ba_en (M : Nat) (R L : Nat → Nat) (num : Nat) : Nat := ba_mx (ba_ld M R L num) M
theorem ba_dg_lt {M : Nat} {L : Nat → Nat} {num i : Nat} (hM : 0 < M) : ba_dg M L num i < M := Nat.mod_lt _ hM
theorem ba_num0 {M : Nat} {L g : Nat → Nat} (hM : 0 < M) (hg : ∀ i, g i < M) : ∀ j, ∃ N, N < M ^ ba_cn L j ∧ ∀ i, i < j → L i ≠ 0 → N / M ^ (ba_cn L j - ba_cn L (i + 1)) % M = g i := by
  intro j
  induction j with
  | zero => exact ⟨0, Nat.pow_pos hM, fun i hi => absurd hi (by omega)⟩
  | succ j ih =>
    obtain ⟨N, hN, h⟩ := ih
    by_cases c : L j = 0
    · refine ⟨N, by rw [ba_cn_0 c]; exact hN, fun i hi hl => ?_⟩
      have : i ≠ j := fun z => hl (by rw [z]; exact c)
      rw [ba_cn_0 c]
      exact h i (by omega) hl
    · refine ⟨g j + N * M, ?_, fun i hi hl => ?_⟩
      · rw [ba_cn_1 c, Nat.pow_succ]
        have h1 : (N + 1) * M ≤ M ^ ba_cn L j * M := Nat.mul_le_mul_right M hN
        rw [Nat.succ_mul] at h1
        have := hg j
        omega
      · by_cases e : i = j
        · subst e
          rw [Nat.sub_self, Nat.pow_zero, Nat.div_one, Nat.add_mul_mod_self_right]
          exact Nat.mod_eq_of_lt (hg i)
        · have h2 : ba_cn L (i + 1) ≤ ba_cn L j := ba_cn_mono (by omega)
          rw [ba_cn_1 c, show ba_cn L j + 1 - ba_cn L (i + 1) = (ba_cn L j - ba_cn L (i + 1)) + 1 from by omega, Nat.pow_succ, Nat.mul_comm (M ^ _) M, ← Nat.div_div_eq_div_mul, Nat.add_mul_div_right _ _ hM, Nat.div_eq_of_lt (hg j), Nat.zero_add]
          exact h i (by omega) hl
theorem ba_num {M : Nat} {L g : Nat → Nat} (hM : 0 < M) (hg : ∀ i, g i < M) : ∃ N, N < M ^ ba_cn L 8 ∧ ∀ i, i < 8 → L i ≠ 0 → ba_dg M L N i = g i := ba_num0 hM hg 8
def ba_px (M : Nat) (L : Nat → Nat) (num j : Nat) : Nat := num / M ^ (ba_cn L 8 - ba_cn L j)
theorem ba_px_1 {M : Nat} {L : Nat → Nat} {num j : Nat} (hj : j < 8) (h : L j ≠ 0) : ba_px M L num (j + 1) / M = ba_px M L num j := by
  have h1 : ba_cn L (j + 1) ≤ ba_cn L 8 := ba_cn_mono (by omega)
  have h2 := ba_cn_1 h
  unfold ba_px
  rw [show ba_cn L 8 - ba_cn L j = (ba_cn L 8 - ba_cn L (j + 1)) + 1 from by omega, Nat.pow_succ, Nat.div_div_eq_div_mul]
theorem ba_px_eq {M : Nat} {L : Nat → Nat} {a b : Nat} (ha : a < M ^ ba_cn L 8) (hb : b < M ^ ba_cn L 8) : ∀ j, j ≤ 8 → (∀ i, i < j → L i ≠ 0 → ba_dg M L a i = ba_dg M L b i) → ba_px M L a j = ba_px M L b j := by
  intro j
  induction j with
  | zero =>
    intro _ _
    have e : ba_cn L 8 - ba_cn L 0 = ba_cn L 8 := rfl
    unfold ba_px
    rw [e, Nat.div_eq_of_lt ha, Nat.div_eq_of_lt hb]
  | succ j ih =>
    intro hj h
    have h1 := ih (by omega) (fun i hi => h i (by omega))
    by_cases c : L j = 0
    · unfold ba_px at h1 ⊢
      rw [ba_cn_0 c]; exact h1
    · have h2 := h j (by omega) c
      have h3 := ba_px_1 (M := M) (num := a) (show j < 8 from by omega) c
      have h4 := ba_px_1 (M := M) (num := b) (show j < 8 from by omega) c
      have h5 := Nat.div_add_mod (ba_px M L a (j + 1)) M
      have h6 := Nat.div_add_mod (ba_px M L b (j + 1)) M
      have h7 : ba_px M L a (j + 1) % M = ba_px M L b (j + 1) % M := h2
      rw [← h5, ← h6, h3, h4, h1, h7]
theorem ba_lex {M : Nat} {L : Nat → Nat} {a b j : Nat} (ha : a < M ^ ba_cn L 8) (hb : b < M ^ ba_cn L 8) (hj : j < 8) (hl : L j ≠ 0) (h : ∀ i, i < j → L i ≠ 0 → ba_dg M L a i = ba_dg M L b i) (hd : ba_dg M L a j < ba_dg M L b j) : a < b := by
  have h1 := ba_px_eq ha hb j (by omega) h
  have h3 := ba_px_1 (M := M) (num := a) hj hl
  have h4 := ba_px_1 (M := M) (num := b) hj hl
  have h5 := Nat.div_add_mod (ba_px M L a (j + 1)) M
  have h6 := Nat.div_add_mod (ba_px M L b (j + 1)) M
  have h7 : ba_px M L a (j + 1) % M < ba_px M L b (j + 1) % M := hd
  rw [h3, h1] at h5
  rw [h4] at h6
  have h8 : ba_px M L a (j + 1) < ba_px M L b (j + 1) := by omega
  by_cases c : a < b
  · exact c
  · have h9 : ba_px M L b (j + 1) ≤ ba_px M L a (j + 1) := Nat.div_le_div_right (by omega)
    omega
def ba_be (M : Nat) (R L : Nat → Nat) (b : Nat) : Prop :=
  b < M ^ ba_cn L 8 ∧ (∀ a, a < M ^ ba_cn L 8 → ba_en M R L b ≤ ba_en M R L a) ∧ ∀ a, a < b → ba_en M R L b < ba_en M R L a
theorem ba_be_ex {M : Nat} (R L : Nat → Nat) (hM : 0 < M) : ∃ b, ba_be M R L b := by
  obtain ⟨v, ⟨a, ha, hv⟩, hm⟩ := pk_least (fun v => ∃ a, a < M ^ ba_cn L 8 ∧ ba_en M R L a = v) ⟨_, 0, Nat.pow_pos hM, rfl⟩
  obtain ⟨b, ⟨hb, hbv⟩, hl⟩ := pk_least (fun b => b < M ^ ba_cn L 8 ∧ ba_en M R L b = v) ⟨a, ha, hv⟩
  have key : ∀ a, a < M ^ ba_cn L 8 → v ≤ ba_en M R L a := by
    intro a ha
    by_cases c : v ≤ ba_en M R L a
    · exact c
    · exact absurd ⟨a, ha, rfl⟩ (hm (ba_en M R L a) (by omega))
  refine ⟨b, hb, fun a ha => by rw [hbv]; exact key a ha, fun a ha => ?_⟩
  have h1 := key a (by omega)
  have h2 : ¬ ba_en M R L a = v := fun z => hl a ha ⟨by omega, z⟩
  omega
theorem ba_be_un {M : Nat} {R L : Nat → Nat} {a b : Nat} (ha : ba_be M R L a) (hb : ba_be M R L b) : a = b := by
  by_cases h1 : a < b
  · have h2 := hb.2.2 a h1
    have h3 := ha.2.1 b hb.1
    omega
  · by_cases h2 : b < a
    · have h3 := ha.2.2 b h2
      have h4 := hb.2.1 a ha.1
      omega
    · omega
end
section
/-! feasibility and numbers -/
theorem ba_en_le {M : Nat} {R L : Nat → Nat} {a c : Nat} : ba_en M R L a ≤ c ↔ ∀ m, m < M → ba_ld M R L a m ≤ c := ba_mx_le M
theorem ba_ld_g {M : Nat} {R L g : Nat → Nat} {a m : Nat} (h : ∀ i, i < 8 → L i ≠ 0 → ba_dg M L a i = g i) : ba_ld M R L a m = R m + ba_S (fun i => if g i = m then L i else 0) 8 := by
  unfold ba_ld
  congr 1
  refine ba_S_congr 8 (fun i hi => ?_)
  try dsimp only
  by_cases c : L i = 0
  · rw [c]; split <;> split <;> rfl
  · rw [h i hi c]
theorem ba_fe_num {M lim : Nat} {R L Fx : Nat → Nat} (hM : 0 < M) (h8 : L 8 = 0) : ba_fe M R L Fx lim ↔ ∃ a, a < M ^ ba_cn L 8 ∧ (∀ i, i < 8 → Fx i ≠ 0 → L i ≠ 0 → ba_dg M L a i + 1 = Fx i) ∧ ba_en M R L a ≤ lim := by
  have hS : ∀ (g : Nat → Nat) (m : Nat), ba_S (fun i => if g i = m then L i else 0) 9 = ba_S (fun i => if g i = m then L i else 0) 8 := by
    intro g m
    rw [ba_S_s, h8]; split <;> rfl
  constructor
  · rintro ⟨g, hg, hx, hl⟩
    obtain ⟨a, ha, hd⟩ := ba_num (L := L) hM hg
    refine ⟨a, ha, fun i hi h1 h2 => ?_, ba_en_le.mpr fun m hm => ?_⟩
    · rw [hd i hi h2]; exact hx i (by omega) h1 h2
    · rw [ba_ld_g hd, ← hS g m]; exact hl m hm
  · rintro ⟨a, ha, hx, hl⟩
    refine ⟨fun i => ba_dg M L a i, fun i => ba_dg_lt hM, fun i hi h1 h2 => ?_, fun m hm => ?_⟩
    · by_cases e : i = 8
      · subst e; exact absurd h8 h2
      · exact hx i (by omega) h1 h2
    · rw [hS]; exact ba_en_le.mp hl m hm
theorem ba_fe_free {M lim : Nat} {R L Fx : Nat → Nat} (hM : 0 < M) (h8 : L 8 = 0) (h0 : ∀ i, i < 9 → Fx i = 0) : ba_fe M R L Fx lim ↔ ∃ a, a < M ^ ba_cn L 8 ∧ ba_en M R L a ≤ lim := by
  rw [ba_fe_num hM h8]
  exact ⟨fun ⟨a, ha, _, h⟩ => ⟨a, ha, h⟩, fun ⟨a, ha, h⟩ => ⟨a, ha, fun i hi z => absurd (h0 i (by omega)) z, h⟩⟩
/-- the least end, and the best plan's end -/
theorem ba_opt {M v b : Nat} {R L Fx : Nat → Nat} (hM : 0 < M) (h8 : L 8 = 0) (h0 : ∀ i, i < 9 → Fx i = 0) (h1 : ba_fe M R L Fx v) (h2 : ∀ w, w < v → ¬ ba_fe M R L Fx w) (hb : ba_be M R L b) : v = ba_en M R L b := by
  obtain ⟨a, ha, hl⟩ := (ba_fe_free hM h8 h0).mp h1
  have h3 := hb.2.1 a ha
  by_cases c : ba_en M R L b < v
  · exact absurd ((ba_fe_free hM h8 h0).mpr ⟨b, hb.1, Nat.le_refl _⟩) (h2 _ c)
  · omega
/-- one more job, of length v -/
def ba_fy (M : Nat) (R L : Nat → Nat) (D v : Nat) : Prop :=
  ∃ a, a < M ^ ba_cn L 8 ∧ ∃ k, k < M ∧ ba_ld M R L a k + v ≤ D ∧ ∀ q, q < M → q ≠ k → ba_ld M R L a q ≤ D
theorem ba_fy_mono {M D v w : Nat} {R L : Nat → Nat} (h : ba_fy M R L D v) (hw : w ≤ v) : ba_fy M R L D w := by
  obtain ⟨a, ha, k, hk, h1, h2⟩ := h
  exact ⟨a, ha, k, hk, by omega, h2⟩
theorem ba_S_tr {L g : Nat → Nat} {v m : Nat} : ba_S (fun i => if g i = m then ba_u L 8 v i else 0) 9 = ba_S (fun i => if g i = m then L i else 0) 8 + (if g 8 = m then v else 0) := by
  have e : ba_S (fun i => if g i = m then ba_u L 8 v i else 0) 8 = ba_S (fun i => if g i = m then L i else 0) 8 := by
    refine ba_S_congr 8 (fun i hi => ?_)
    rw [ba_un (by omega : i ≠ 8)]
  rw [ba_S_s, ba_us, e]
theorem ba_fe_tr {M D v : Nat} {R L Fx : Nat → Nat} (hM : 0 < M) (h0 : ∀ i, i < 9 → Fx i = 0) : ba_fe M R (ba_u L 8 v) Fx D ↔ ba_fy M R L D v := by
  constructor
  · rintro ⟨g, hg, _, hl⟩
    obtain ⟨a, ha, hd⟩ := ba_num (L := L) hM hg
    refine ⟨a, ha, g 8, hg 8, ?_, fun q hq hne => ?_⟩
    · have h3 := hl (g 8) (hg 8)
      rw [ba_S_tr, if_pos rfl] at h3
      rw [ba_ld_g hd]; omega
    · have h3 := hl q hq
      rw [ba_S_tr, if_neg (fun z => hne z.symm)] at h3
      rw [ba_ld_g hd]; omega
  · rintro ⟨a, ha, k, hk, h1, h2⟩
    refine ⟨fun i => if i = 8 then k else ba_dg M L a i, fun i => ?_, fun i hi z => absurd (h0 i hi) z, fun m hm => ?_⟩
    · try dsimp only
      split
      · exact hk
      · exact ba_dg_lt hM
    · have e : ba_ld M R L a m = R m + ba_S (fun i => if (fun i => if i = 8 then k else ba_dg M L a i) i = m then L i else 0) 8 := by
        refine ba_ld_g (fun i hi _ => ?_)
        try dsimp only
        rw [if_neg (by omega : ¬ i = 8)]
      rw [ba_S_tr]
      try dsimp only at e ⊢
      rw [if_pos rfl]
      by_cases c : k = m
      · subst c
        rw [if_pos rfl]; omega
      · have := h2 m hm (fun z => c z.symm)
        rw [if_neg c]; omega
/-- no plan goes below the bound -/
theorem ba_fe_lb {M lim : Nat} {R L Fx : Nat → Nat} (h8 : L 8 = 0) (h : ba_fe M R L Fx lim) : (∀ m, m < M → R m ≤ lim) ∧ ba_S R M + ba_S L 8 ≤ M * lim ∧ ∀ i, i < 8 → ∃ m, m < M ∧ R m + L i ≤ lim := by
  obtain ⟨g, hg, _, hl⟩ := h
  refine ⟨fun m hm => ?_, ?_, fun i hi => ⟨g i, hg i, ?_⟩⟩
  · have := hl m hm; omega
  · have h1 := ba_S_bd M hl
    rw [ba_S_add, ba_S_load hg, ba_S_s, h8] at h1
    omega
  · have h1 := hl (g i) (hg i)
    have h2 := ba_S_one (f := fun t => if g t = g i then L t else 0) (k := i) 9 (by omega)
    try dsimp only at h2
    rw [if_pos rfl] at h2
    omega
/-- the machine that a job is given: jobs below j are fixed as in the best plan b, the others free -/
def ba_pre (M : Nat) (L Fx : Nat → Nat) (b j : Nat) : Prop := (∀ i, i < j → L i ≠ 0 → Fx i = ba_dg M L b i + 1) ∧ (∀ i, j ≤ i → i < 9 → Fx i = 0) ∧ ∀ i, i < 9 → Fx i ≤ M
theorem ba_fix_hit {M b j : Nat} {R L Fx : Nat → Nat} (hM : 0 < M) (h8 : L 8 = 0) (hb : ba_be M R L b) (hp : ∀ i, i < j → L i ≠ 0 → Fx i = ba_dg M L b i + 1) (h0 : ∀ i, j < i → i < 9 → Fx i = 0) (hx : Fx j = ba_dg M L b j + 1) : ba_fe M R L Fx (ba_en M R L b) := by
  refine (ba_fe_num hM h8).mpr ⟨b, hb.1, fun i hi h1 h2 => ?_, Nat.le_refl _⟩
  by_cases c : i < j
  · exact (hp i c h2).symm
  · by_cases e : i = j
    · subst e; exact hx.symm
    · exact absurd (h0 i (by omega) (by omega)) h1
theorem ba_fix_miss {M b j m : Nat} {R L Fx : Nat → Nat} (hM : 0 < M) (h8 : L 8 = 0) (hj : j < 8) (hl : L j ≠ 0) (hb : ba_be M R L b) (hp : ∀ i, i < j → L i ≠ 0 → Fx i = ba_dg M L b i + 1) (hx : Fx j = m + 1) (hm : m < ba_dg M L b j) : ¬ ba_fe M R L Fx (ba_en M R L b) := by
  intro h
  obtain ⟨a, ha, h1, h2⟩ := (ba_fe_num hM h8).mp h
  have h3 : a < b := by
    refine ba_lex ha hb.1 hj hl (fun i hi hli => ?_) ?_
    · have h4 := hp i hi hli
      have h5 := h1 i (by omega) (by omega) hli
      omega
    · have h5 := h1 j hj (by omega) hl
      omega
  have := hb.2.2 a h3
  omega
end
section
/-! arrays as pictures of functions into the naturals: as they are, and moved by one (where -1 stands for none) -/
def ba_n (f : Nat → Nat) : Nat → Int32 := fun j => nI (f j)
def ba_m (f : Nat → Nat) : Nat → Int32 := fun j => nI (f j) - 1
theorem ba_upn {f : Nat → Nat} {k x : Nat} : upd (ba_n f) k (nI x) = ba_n (ba_u f k x) := by
  funext j
  unfold upd ba_n ba_u
  split <;> rfl
theorem ba_upm {f : Nat → Nat} {k x : Nat} : upd (ba_m f) k (nI x - 1) = ba_m (ba_u f k x) := by
  funext j
  unfold upd ba_m ba_u
  split <;> rfl
theorem ba_m1 : (-1 : Int32) = nI 0 - 1 := by decide
theorem ba_upm0 {f : Nat → Nat} {k : Nat} : upd (ba_m f) k (-1) = ba_m (ba_u f k 0) := by
  rw [ba_m1]; exact ba_upm
theorem ba_upmS {f : Nat → Nat} {k x : Nat} : upd (ba_m f) k (nI x) = ba_m (ba_u f k (x + 1)) := by
  rw [← nI_pred x]; exact ba_upm
theorem ba_upa {f : Nat → Nat} {k x : Nat} : upd (ba_n f) k (ba_n f k + nI x) = ba_n (ba_a f k x) := by
  show upd (ba_n f) k (nI (f k) + nI x) = _
  rw [nI_add]; exact ba_upn
theorem ba_mp {a : Nat} (h : 1 ≤ a) : nI a - 1 = nI (a - 1) := pk_sub (a := a) (b := 1) h
theorem ba_mneg {a : Nat} (h : a < 2 ^ 30) : nI a - 1 < 0 ↔ a = 0 := by
  constructor
  · intro h1
    by_cases c : a = 0
    · exact c
    · rw [ba_mp (by omega)] at h1
      exact absurd h1 (nI_pos (by omega))
  · intro h1; subst h1; decide
theorem ba_br {A B : Prop} (a : Nat) (f : a = 0 → A) (g : 1 ≤ a → B) (ha : a < 2 ^ 30) : (nI a - 1 < 0 → A) ∧ (¬ nI a - 1 < 0 → B) := by
  rw [ba_mneg ha]
  exact ⟨f, fun z => g (by omega)⟩
theorem ba_br0 {A B : Prop} (a : Nat) (f : 1 ≤ a → A) (g : a = 0 → B) (ha : a < 2 ^ 30) : (0 ≤ nI a - 1 → A) ∧ (¬ 0 ≤ nI a - 1 → B) := by
  have e : (0 ≤ nI a - 1) ↔ 1 ≤ a := by
    rw [← Int32.not_lt, ba_mneg ha]; omega
  rw [e]
  exact ⟨f, fun z => g (by omega)⟩
theorem ba_min {a N : Nat} (h1 : 1 ≤ a) (h2 : a ≤ N) (hN : N < 2 ^ 31) : vp_in (nI a - 1) N := by
  rw [ba_mp h1]; exact vp_in_nI (by omega) hN
theorem ba_mcl {a : Nat} (h1 : 1 ≤ a) (h2 : a < 2 ^ 31) : (nI a - 1).toNatClampNeg = a - 1 := by
  rw [ba_mp h1]; exact nI_clamp (by omega)
theorem ba_mS (a : Nat) : nI a - 1 + 1 = nI a := Int32.sub_add_cancel _ _
theorem ba_madd (a : Nat) : nI a + (-1) = nI a - 1 := (Int32.sub_eq_add_neg _ _).symm
theorem ba_cl {n : Nat} (h : n ≤ 100000) : (nI n).toNatClampNeg = n := nI_clamp (by omega)
theorem ba_lt {p : Nat → Prop} {i : Nat} (h : ∀ a, a < i → p a) (hi : p i) : ∀ a, a < i + 1 → p a := by
  intro a ha
  by_cases e : a = i
  · subst e; exact hi
  · exact h a (by omega)
section
variable {M D fr kn be : Nat} {R L Fx O Lf At E P : Nat → Nat}
theorem ba_freeNumber_l {post : Int32 → Prop} (hL : ∀ j, L j ≤ 60) (h1 : ∀ j, j < 8 → L j = 0 → (∀ i, i < j → L i ≠ 0) → post (nI j)) (h0 : (∀ j, j < 8 → L j ≠ 0) → post (-1)) : ∀ d j, j + d = 8 → (∀ i, i < j → L i ≠ 0) → wX_freeNumber_2 post (nI M) (nI D) (nI fr) (nI kn) (nI be) (ba_n R) (ba_n L) (ba_m Fx) (ba_n O) (ba_n Lf) (ba_m At) (ba_n E) (ba_m P) (d + 1) (nI j) := by
  intro d
  induction d with
  | zero =>
    intro j hj hp
    exact pk_le 8 j (fun _ => h0 (fun i hi => hp i (by omega))) (fun h => absurd h (by omega))
  | succ d ih =>
    intro j hj hp
    refine pk_le 8 j (fun h => absurd h (by omega)) (fun h => And.intro (vp_in_nI (by omega) (by omega)) ?_)
    rw [ba_cl (by omega)]
    exact pk_eq (L j) 0 (fun z => h1 j (by omega) z hp) (fun z => nm_r (nI_1 j) (ih (j + 1) (by omega) (ba_lt hp z))) rfl rfl (by have := hL j; omega) (by decide)
theorem ba_freeNumber {post : Int32 → Prop} (hL : ∀ j, L j ≤ 60) (h1 : ∀ j, j < 8 → L j = 0 → (∀ i, i < j → L i ≠ 0) → post (nI j)) (h0 : (∀ j, j < 8 → L j ≠ 0) → post (-1)) : wpX_freeNumber post (nI M, nI D, nI fr, nI kn, nI be, ba_n R, ba_n L, ba_m Fx, ba_n O, ba_n Lf, ba_m At, ba_n E, ba_m P) :=
  Exists.intro 9 (ba_freeNumber_l hL h1 h0 8 0 rfl (fun i hi => absurd hi (by omega)))
theorem ba_freeAll_l {post : SX → Prop} (h : ∀ Fx : Nat → Nat, (∀ j, j < 9 → Fx j = 0) → post (nI M, nI D, nI fr, nI kn, nI be, ba_n R, ba_n L, ba_m Fx, ba_n O, ba_n Lf, ba_m At, ba_n E, ba_m P)) : ∀ d j (Fx : Nat → Nat), j + d = 9 → (∀ i, i < j → Fx i = 0) → wX_freeAll_2 post (nI M) (nI D) (nI fr) (nI kn) (nI be) (d + 1) (nI j) (ba_n R) (ba_n L) (ba_m Fx) (ba_n O) (ba_n Lf) (ba_m At) (ba_n E) (ba_m P) := by
  intro d
  induction d with
  | zero =>
    intro j Fx hj hp
    exact pk_le 9 j (fun _ => h Fx (fun i hi => hp i (by omega))) (fun h => absurd h (by omega))
  | succ d ih =>
    intro j Fx hj hp
    refine pk_le 9 j (fun h => absurd h (by omega)) (fun h => And.intro (vp_in_nI (by omega) (by omega)) ?_)
    rw [ba_cl (by omega)]
    refine nm_r ba_upm0 (nm_r (nI_1 j) (ih (j + 1) _ (by omega) (ba_lt (fun i hi => ?_) ba_us)))
    rw [ba_un (by omega)]; exact hp i hi
theorem ba_freeAll {post : SX → Prop} (h : ∀ Fx : Nat → Nat, (∀ j, j < 9 → Fx j = 0) → post (nI M, nI D, nI fr, nI kn, nI be, ba_n R, ba_n L, ba_m Fx, ba_n O, ba_n Lf, ba_m At, ba_n E, ba_m P)) : wpX_freeAll post (nI M, nI D, nI fr, nI kn, nI be, ba_n R, ba_n L, ba_m Fx, ba_n O, ba_n Lf, ba_m At, ba_n E, ba_m P) :=
  Exists.intro 10 (ba_freeAll_l h 9 0 Fx rfl (fun i hi => absurd hi (by omega)))
theorem ba_isHeld {post : Int32 → Prop} {p : Int32} (hL : ∀ j, L j ≤ 60) (h1 : ∀ j, j < 8 → p = nI j → L j ≠ 0 → post 1) (h0 : (p < 0 ∨ 7 < p ∨ ∃ j, j < 8 ∧ p = nI j ∧ L j = 0) → post 0) : wpX_isHeld post (nI M, nI D, nI fr, nI kn, nI be, ba_n R, ba_n L, ba_m Fx, ba_n O, ba_n Lf, ba_m At, ba_n E, ba_m P) p := by
  refine br_c (fun h => h0 (Or.inl h)) (fun h => br_c (fun h7 => h0 (Or.inr (Or.inl h7))) (fun h7 => ?_))
  obtain ⟨j, hj, rfl⟩ := nI_of h
  have h8 : j < 8 := by
    by_cases c : j < 8
    · exact c
    · exact absurd (nI_lt (a := 7) (b := j) (by omega) hj) h7
  refine And.intro (vp_in_nI (by omega) (by omega)) ?_
  rw [ba_cl (by omega)]
  exact pk_le (L j) 0 (fun z => h0 (Or.inr (Or.inr ⟨j, h8, rfl, by omega⟩))) (fun z => h1 j h8 rfl (by omega)) rfl rfl (by have := hL j; omega) (by decide)
end
end
section
/-! arrange: ends of the fixed jobs, a list of the free ones, the sums behind each place -/
section
variable {M D fr kn be : Nat} {R L Fx O Lf At E P : Nat → Nat}
theorem ba_ins_sw {O w : Nat → Nat} {i j n : Nat} (h : i + 2 ≤ n) : ba_S (fun t => w (ba_u (ba_u O (i + 1) (O i)) i j t)) n = ba_S (fun t => w (ba_u O (i + 1) j t)) n := by
  refine ba_S_swap (i := i) (fun t h1 h2 => ?_) ?_ n h
  · try dsimp only
    rw [ba_un h1, ba_un h2, ba_un h2]
  · try dsimp only
    rw [ba_us, ba_us, ba_un (by omega : i + 1 ≠ i), ba_us, ba_un (by omega : i ≠ i + 1)]; omega
theorem ba_insert_l {post : SX → Prop} {j : Nat} {S0 : (Nat → Nat) → Nat} (hj : j < 9) (hfr : fr ≤ 8) (hL : ∀ j, L j ≤ 60)
    (h : ∀ O : Nat → Nat, (∀ w : Nat → Nat, ba_S (fun t => w (O t)) (fr + 1) = S0 w) → (∀ k, k < fr + 1 → O k < 9) → post (nI M, nI D, nI (fr + 1), nI kn, nI be, ba_n R, ba_n L, ba_m Fx, ba_n O, ba_n Lf, ba_m At, ba_n E, ba_m P)) :
    ∀ i k (O : Nat → Nat), i ≤ k → k ≤ fr → (∀ w : Nat → Nat, ba_S (fun t => w (ba_u O k j t)) (fr + 1) = S0 w) → (∀ t, t < fr + 1 → ba_u O k j t < 9) → wX_insertInOrder_10 post (nI j) (nI M) (nI D) (nI fr) (nI kn) (nI be) (i + 1) (nI k) (nI i) (ba_n R) (ba_n L) (ba_m Fx) (ba_n O) (ba_n Lf) (ba_m At) (ba_n E) (ba_m P) := by
  intro i
  induction i with
  | zero =>
    intro k O hik hk hw ho
    refine pk_le 0 0 (fun _ => And.intro (vp_in_nI (by omega) (by omega)) ?_) (fun z => absurd z (by omega))
    rw [ba_cl (by omega)]
    exact nm_r ba_upn (nm_r (nI_1 fr) (h _ hw ho))
  | succ i ih =>
    intro k O hik hk hw ho
    refine pk_le (i + 1) 0 (fun z => absurd z (by omega)) (fun _ => pk_eq k (i + 1) (fun e => ?_) (fun e => nm_r (pk_m1 i) (ih k O (by omega) hk hw ho)))
    have hoi : O i < 9 := by
      have := ho i (by omega)
      rw [ba_un (by omega)] at this
      exact this
    have hLj := hL j
    have hLo := hL (O i)
    subst e
    rw [nI_pred, ba_cl (by omega), ba_cl (by omega : j ≤ 100000)]
    refine And.intro (vp_in_nI (by omega) (by omega)) (And.intro (pk_in (O i) 9 hoi) (And.intro (vp_in_nI hj (by omega)) ?_))
    rw [show ba_n O i = nI (O i) from rfl, ba_cl (by omega : O i ≤ 100000)]
    refine pk_le (L j) (L (O i)) (fun _ => nm_r (pk_m1 i) (ih (i + 1) O (by omega) hk hw ho)) (fun _ => ?_)
    refine And.intro (vp_in_nI (by omega) (by omega)) (And.intro (vp_in_nI (by omega) (by omega)) ?_)
    rw [ba_cl (by omega : i + 1 ≤ 100000)]
    refine nm_r ba_upn (nm_e (nm_r (pk_m1 i) (ih i _ (by omega) (by omega) (fun w => ?_) (fun t ht => ?_))))
    · rw [ba_ins_sw (by omega)]; exact hw w
    · by_cases e1 : t = i
      · subst e1; rw [ba_us]; exact hj
      · rw [ba_un e1]
        by_cases e2 : t = i + 1
        · subst e2; rw [ba_us]; exact hoi
        · rw [ba_un e2]
          have := ho t ht
          rw [ba_un e2] at this
          exact this
theorem ba_insert {post : SX → Prop} {j : Nat} (hj : j < 9) (hfr : fr ≤ 8) (hL : ∀ j, L j ≤ 60) (hO : ∀ k, k < fr → O k < 9)
    (h : ∀ O' : Nat → Nat, (∀ w : Nat → Nat, ba_S (fun t => w (O' t)) (fr + 1) = ba_S (fun t => w (O t)) fr + w j) → (∀ k, k < fr + 1 → O' k < 9) → post (nI M, nI D, nI (fr + 1), nI kn, nI be, ba_n R, ba_n L, ba_m Fx, ba_n O', ba_n Lf, ba_m At, ba_n E, ba_m P)) : wpX_insertInOrder post (nI M, nI D, nI fr, nI kn, nI be, ba_n R, ba_n L, ba_m Fx, ba_n O, ba_n Lf, ba_m At, ba_n E, ba_m P) (nI j) := by
  refine Exists.intro (fr + 1) (ba_insert_l (S0 := fun w => ba_S (fun t => w (O t)) fr + w j) hj hfr hL h fr fr O (Nat.le_refl _) (Nat.le_refl _) (fun w => ?_) (fun t ht => ?_))
  · rw [ba_S_s]
    try dsimp only
    rw [ba_us, ba_S_congr (g := fun t => w (O t)) fr (fun t ht => by rw [ba_un (by omega)])]
  · by_cases e : t = fr
    · subst e; rw [ba_us]; exact hj
    · rw [ba_un e]; exact hO t (by omega)
theorem ba_arr119 {post : SX → Prop} (hfr : fr ≤ 9) (hO : ∀ k, k < fr → O k < 9) (hL : ∀ j, L j ≤ 60)
    (h : ∀ Lf : Nat → Nat, (∀ k, k ≤ fr → Lf k = ba_T (fun t => L (O t)) (fr - k) k) → post (nI M, nI D, nI fr, nI kn, nI be, ba_n R, ba_n L, ba_m Fx, ba_n O, ba_n Lf, ba_m At, ba_n E, ba_m P)) :
    ∀ i (Lf : Nat → Nat), i ≤ fr → (∀ k, i ≤ k → k ≤ fr → Lf k = ba_T (fun t => L (O t)) (fr - k) k) → wX_arrange_119 post (nI M) (nI D) (nI fr) (nI kn) (nI be) (i + 1) (nI i - 1) (ba_n R) (ba_n L) (ba_m Fx) (ba_n O) (ba_n Lf) (ba_m At) (ba_n E) (ba_m P) := by
  intro i
  induction i with
  | zero =>
    intro Lf hi hp
    exact ba_br 0 (fun _ => h Lf (fun k hk => hp k (by omega) hk)) (fun z => absurd z (by omega)) (by decide)
  | succ i ih =>
    intro Lf hi hp
    refine ba_br (i + 1) (fun z => absurd z (by omega)) (fun _ => ?_) (by omega)
    have hoi := hO i (by omega)
    rw [nI_pred, nI_1, ba_cl (by omega), ba_cl (by omega : i + 1 ≤ 100000)]
    refine And.intro (vp_in_nI (by omega) (by omega)) (And.intro (vp_in_nI (by omega) (by omega)) (And.intro (pk_in (O i) 9 hoi) (And.intro (vp_in_nI (by omega) (by omega)) ?_)))
    rw [show ba_n O i = nI (O i) from rfl, ba_cl (by omega : O i ≤ 100000), show ba_n Lf (i + 1) + ba_n L (O i) = nI (Lf (i + 1) + L (O i)) from nI_add _ _]
    refine nm_r ba_upn (nm_r (ba_madd i) (ih _ (by omega) (fun k h1 h2 => ?_)))
    by_cases e : k = i
    · subst e
      rw [ba_us, hp (k + 1) (by omega) (by omega), show fr - k = (fr - (k + 1)) + 1 from by omega]
      rfl
    · rw [ba_un e]; exact hp k (by omega) h2
/-- what arrange leaves -/
def ba_AR (M : Nat) (R L Fx : Nat → Nat) (fr : Nat) (O Lf E : Nat → Nat) : Prop := ba_ar M R L Fx 9 fr O E ∧ ∀ k, k ≤ fr → Lf k = ba_T (fun t => L (O t)) (fr - k) k
theorem ba_ar_E {M j fr m : Nat} {R L Fx O E : Nat → Nat} (hR : ∀ m, R m ≤ 60) (hL : ∀ j, L j ≤ 60) (hj : j ≤ 9) (h : ba_ar M R L Fx j fr O E) (hm : m < M) : E m ≤ 600 := by
  have h1 := h.2.2.2 m hm
  have h2 := ba_S_bd (f := ba_fx L Fx m) (c := 60) j (fun i _ => by
    unfold ba_fx
    split
    · exact hL i
    · omega)
  have := hR m
  omega
theorem ba_ar_skip {M j fr : Nat} {R L Fx O E : Nat → Nat} (h : ba_ar M R L Fx j fr O E) (hl : L j = 0) : ba_ar M R L Fx (j + 1) fr O E := by
  refine ⟨by have := h.1; omega, h.2.1, fun w => ?_, fun m hm => ?_⟩
  · rw [ba_S_s, h.2.2.1 w, show ba_fr L Fx w j = 0 from if_neg (fun z => z.1 hl)]; rfl
  · rw [ba_S_s, h.2.2.2 m hm, show ba_fx L Fx m j = 0 from by unfold ba_fx; rw [hl]; split <;> rfl]; rfl
theorem ba_ar_ins {M j fr : Nat} {R L Fx O O' E : Nat → Nat} (h : ba_ar M R L Fx j fr O E) (hl : L j ≠ 0) (hf : Fx j = 0) (hw : ∀ w : Nat → Nat, ba_S (fun t => w (O' t)) (fr + 1) = ba_S (fun t => w (O t)) fr + w j) (ho : ∀ k, k < fr + 1 → O' k < 9) : ba_ar M R L Fx (j + 1) (fr + 1) O' E := by
  refine ⟨by have := h.1; omega, ho, fun w => ?_, fun m hm => ?_⟩
  · rw [hw w, ba_S_s, h.2.2.1 w, show ba_fr L Fx w j = w j from if_pos ⟨hl, hf⟩]
  · rw [ba_S_s, h.2.2.2 m hm, show ba_fx L Fx m j = 0 from if_neg (by omega)]; rfl
theorem ba_ar_fix {M j fr : Nat} {R L Fx O E : Nat → Nat} (h : ba_ar M R L Fx j fr O E) (hf : 1 ≤ Fx j) : ba_ar M R L Fx (j + 1) fr O (ba_a E (Fx j - 1) (L j)) := by
  refine ⟨by have := h.1; omega, h.2.1, fun w => ?_, fun m hm => ?_⟩
  · rw [ba_S_s, h.2.2.1 w, show ba_fr L Fx w j = 0 from if_neg (fun z => by have := z.2; omega)]; rfl
  · rw [ba_S_s, ba_a_eq, h.2.2.2 m hm]
    unfold ba_fx
    by_cases e : Fx j = m + 1
    · rw [if_pos e, if_pos (by omega)]; omega
    · rw [if_neg e, if_neg (by omega)]; rfl
theorem ba_arr35 {post : SX → Prop} (hM : M ≤ 3) (hR : ∀ m, R m ≤ 60) (hL : ∀ j, L j ≤ 60) (hF : ∀ i, i < 9 → Fx i ≤ M)
    (h : ∀ fr (O Lf E : Nat → Nat), ba_AR M R L Fx fr O Lf E → post (nI M, nI D, nI fr, nI kn, nI be, ba_n R, ba_n L, ba_m Fx, ba_n O, ba_n Lf, ba_m At, ba_n E, ba_m P)) :
    ∀ d j fr (O E : Nat → Nat), j + d = 9 → ba_ar M R L Fx j fr O E → wX_arrange_35 post (d + 1) (nI j) (nI M) (nI D) (nI fr) (nI kn) (nI be) (ba_n R) (ba_n L) (ba_m Fx) (ba_n O) (ba_n Lf) (ba_m At) (ba_n E) (ba_m P) := by
  intro d
  induction d with
  | zero =>
    intro j fr O E hj ha
    have hj9 : j = 9 := by omega
    subst hj9
    have hfr := ha.1
    refine pk_le 9 9 (fun _ => And.intro (vp_in_nI (by omega) (by omega)) ?_) (fun z => absurd z (by omega))
    rw [ba_cl (by omega)]
    refine nm_r (ba_upn (x := 0)) (nm_e (Exists.intro (fr + 1) ?_))
    refine ba_arr119 (by omega) ha.2.1 hL (fun Lf hLf => h fr O Lf E ⟨ha, hLf⟩) fr _ (Nat.le_refl _) (fun k h1 h2 => ?_)
    have e : k = fr := by omega
    subst e
    rw [ba_us, Nat.sub_self]; rfl
  | succ d ih =>
    intro j fr O E hj ha
    have hLj := hL j
    have hfr := ha.1
    have hFj := hF j (by omega)
    have h82 : (L j = 0 ∨ Fx j = 0) → wX_arrange_82 post (wX_arrange_35 post (d + 1)) (nI j) (nI M) (nI D) (nI fr) (nI kn) (nI be) (ba_n R) (ba_n L) (ba_m Fx) (ba_n O) (ba_n Lf) (ba_m At) (ba_n E) (ba_m P) := by
      intro hc
      refine And.intro (vp_in_nI (by omega) (by omega)) ?_
      rw [ba_cl (by omega)]
      refine pk_le (L j) 0 (fun z => nm_r (nI_1 j) (ih (j + 1) fr O E (by omega) (ba_ar_skip ha (by omega)))) (fun z => ?_)
      refine ba_insert (by omega) (by omega) hL ha.2.1 (fun O' hw ho => ?_)
      exact nm_r (nI_1 j) (ih (j + 1) (fr + 1) O' E (by omega) (ba_ar_ins ha (by omega) (by omega) hw ho))
    refine pk_le 9 j (fun z => absurd z (by omega)) (fun _ => And.intro (vp_in_nI (by omega) (by omega)) ?_)
    rw [ba_cl (by omega)]
    refine pk_le (L j) 0 (fun z => h82 (Or.inl (by omega))) (fun z => And.intro (vp_in_nI (by omega) (by omega)) ?_)
    refine ba_br (Fx j) (fun z => h82 (Or.inr z)) (fun z => ?_) (by omega)
    rw [show ba_m Fx j = nI (Fx j - 1) from ba_mp z, ba_cl (by omega : Fx j - 1 ≤ 100000)]
    refine And.intro (vp_in_nI (by omega) (by omega)) (And.intro (vp_in_nI (by omega) (by omega)) (And.intro (vp_in_nI (by omega) (by omega)) (And.intro (vp_in_nI (by omega) (by omega)) ?_)))
    exact nm_r ba_upa (nm_r (nI_1 j) (ih (j + 1) fr O _ (by omega) (ba_ar_fix ha z)))
theorem ba_arr2 {post : SX → Prop} (hM : M ≤ 3) (hR : ∀ m, R m ≤ 60) (hL : ∀ j, L j ≤ 60) (hF : ∀ i, i < 9 → Fx i ≤ M)
    (h : ∀ fr (O Lf E : Nat → Nat), ba_AR M R L Fx fr O Lf E → post (nI M, nI D, nI fr, nI kn, nI be, ba_n R, ba_n L, ba_m Fx, ba_n O, ba_n Lf, ba_m At, ba_n E, ba_m P)) :
    ∀ d j (E : Nat → Nat), j + d = M → (∀ m, m < j → E m = R m) → wX_arrange_2 post (nI M) (nI D) (nI fr) (nI kn) (nI be) (d + 1) (nI j) (ba_n R) (ba_n L) (ba_m Fx) (ba_n O) (ba_n Lf) (ba_m At) (ba_n E) (ba_m P) := by
  intro d
  induction d with
  | zero =>
    intro j E hj hp
    refine pk_le M j (fun _ => Exists.intro 10 ?_) (fun z => absurd z (by omega))
    exact ba_arr35 hM hR hL hF h 9 0 0 O E rfl ⟨Nat.le_refl _, fun k hk => absurd hk (by omega), fun w => rfl, fun m hm => hp m (by omega)⟩
  | succ d ih =>
    intro j E hj hp
    refine pk_le M j (fun z => absurd z (by omega)) (fun _ => And.intro (vp_in_nI (by omega) (by omega)) (And.intro (vp_in_nI (by omega) (by omega)) ?_))
    rw [ba_cl (by omega)]
    refine nm_r (ba_upn (x := R j)) (nm_r (nI_1 j) (ih (j + 1) _ (by omega) (ba_lt (fun m hm => ?_) ba_us)))
    rw [ba_un (by omega)]; exact hp m hm
theorem ba_arrange {post : SX → Prop} (hM : M ≤ 3) (hR : ∀ m, R m ≤ 60) (hL : ∀ j, L j ≤ 60) (hF : ∀ i, i < 9 → Fx i ≤ M)
    (h : ∀ fr (O Lf E : Nat → Nat), ba_AR M R L Fx fr O Lf E → post (nI M, nI D, nI fr, nI kn, nI be, ba_n R, ba_n L, ba_m Fx, ba_n O, ba_n Lf, ba_m At, ba_n E, ba_m P)) : wpX_arrange post (nI M, nI D, nI fr, nI kn, nI be, ba_n R, ba_n L, ba_m Fx, ba_n O, ba_n Lf, ba_m At, ba_n E, ba_m P) :=
  Exists.intro (M + 1) (ba_arr2 hM hR hL hF h M 0 E (Nat.zero_add _) (fun m hm => absurd hm (by omega)))
end
end
section
/-! roomFor, firstWithEnd, nextMachine -/
section
variable {M D fr kn be : Nat} {R L Fx O Lf At E P : Nat → Nat}
def ba_rm (M lim : Nat) (E : Nat → Nat) (l : Nat) : Prop := (∀ m, m < M → E m ≤ lim) ∧ l + ba_S E M ≤ M * lim
theorem ba_roomFor_l {post : Int32 → Prop} {k lim : Nat} (hM : M ≤ 3) (hk : k ≤ 9) (hl : Lf k ≤ 1000) (hlim : lim ≤ 1000) (hE : ∀ m, m < M → E m ≤ 2000)
    (h1 : ba_rm M lim E (Lf k) → post 1) (h0 : ¬ ba_rm M lim E (Lf k) → post 0) :
    ∀ d m ρ, m + d = M → (∀ i, i < m → E i ≤ lim) → ρ + ba_S E m = m * lim → ρ ≤ m * 1000 → wX_roomFor_5 post (nI k) (nI lim) (nI M) (nI D) (nI fr) (nI kn) (nI be) (ba_n R) (ba_n L) (ba_m Fx) (ba_n O) (ba_n Lf) (ba_m At) (ba_n E) (ba_m P) (d + 1) (nI ρ) (nI m) := by
  intro d
  induction d with
  | zero =>
    intro m ρ hm hp hs hρ
    have e : m = M := by omega
    subst e
    refine pk_le m m (fun _ => And.intro (vp_in_nI (by omega) (by omega)) ?_) (fun z => absurd z (by omega))
    rw [ba_cl (by omega)]
    refine pk_lt ρ (Lf k) (fun z => h0 (fun c => ?_)) (fun z => h1 ⟨hp, by omega⟩)
    have := c.2
    omega
  | succ d ih =>
    intro m ρ hm hp hs hρ
    have hEm := hE m (by omega)
    refine pk_le M m (fun z => absurd z (by omega)) (fun _ => And.intro (vp_in_nI (by omega) (by omega)) ?_)
    rw [ba_cl (by omega)]
    refine pk_le (E m) lim (fun z => And.intro (vp_in_nI (by omega) (by omega)) ?_) (fun z => h0 (fun c => ?_))
    · rw [show nI lim - ba_n E m = nI (lim - E m) from pk_sub z, nI_add]
      refine nm_e (nm_r (nI_1 m) (ih (m + 1) _ (by omega) (ba_lt hp z) ?_ ?_))
      · rw [ba_S_s, Nat.succ_mul]; omega
      · rw [Nat.succ_mul]; omega
    · have := c.1 m (by omega)
      omega
theorem ba_roomFor {post : Int32 → Prop} {k lim : Nat} (hM : M ≤ 3) (hk : k ≤ 9) (hl : Lf k ≤ 1000) (hlim : lim ≤ 1000) (hE : ∀ m, m < M → E m ≤ 2000)
    (h1 : ba_rm M lim E (Lf k) → post 1) (h0 : ¬ ba_rm M lim E (Lf k) → post 0) : wpX_roomFor post (nI M, nI D, nI fr, nI kn, nI be, ba_n R, ba_n L, ba_m Fx, ba_n O, ba_n Lf, ba_m At, ba_n E, ba_m P) (nI k) (nI lim) :=
  Exists.intro (M + 1) (ba_roomFor_l hM hk hl hlim hE h1 h0 M 0 0 (Nat.zero_add _) (fun m hm => absurd hm (by omega)) (by rw [ba_S_0, Nat.zero_mul]) (Nat.zero_le _))
theorem ba_first_l {post : Int32 → Prop} {m : Nat} (hm : m < 3) (hE : ∀ i, i ≤ m → E i ≤ 2000) (h1 : (∀ o, o < m → E o ≠ E m) → post 1) (h0 : (∃ o, o < m ∧ E o = E m) → post 0) :
    ∀ d o, o + d = m → (∀ i, i < o → E i ≠ E m) → wX_firstWithEnd_2 post (nI m) (nI M) (nI D) (nI fr) (nI kn) (nI be) (ba_n R) (ba_n L) (ba_m Fx) (ba_n O) (ba_n Lf) (ba_m At) (ba_n E) (ba_m P) (d + 1) (nI o) := by
  intro d
  induction d with
  | zero =>
    intro o ho hp
    have e : o = m := by omega
    subst e
    exact pk_le o o (fun _ => h1 hp) (fun z => absurd z (by omega))
  | succ d ih =>
    intro o ho hp
    have a1 := hE o (by omega)
    have a2 := hE m (by omega)
    refine pk_le m o (fun z => absurd z (by omega)) (fun _ => And.intro (vp_in_nI (by omega) (by omega)) (And.intro (vp_in_nI (by omega) (by omega)) ?_))
    rw [ba_cl (by omega), ba_cl (by omega : m ≤ 100000)]
    exact pk_eq (E o) (E m) (fun z => h0 ⟨o, by omega, z⟩) (fun z => nm_r (nI_1 o) (ih (o + 1) (by omega) (ba_lt hp z)))
theorem ba_first {post : Int32 → Prop} {m : Nat} (hm : m < 3) (hE : ∀ i, i ≤ m → E i ≤ 2000) (h1 : (∀ o, o < m → E o ≠ E m) → post 1) (h0 : (∃ o, o < m ∧ E o = E m) → post 0) : wpX_firstWithEnd post (nI M, nI D, nI fr, nI kn, nI be, ba_n R, ba_n L, ba_m Fx, ba_n O, ba_n Lf, ba_m At, ba_n E, ba_m P) (nI m) :=
  Exists.intro (m + 1) (ba_first_l hm hE h1 h0 m 0 (Nat.zero_add _) (fun i hi => absurd hi (by omega)))
def ba_bad (E : Nat → Nat) (s lim i : Nat) : Prop := lim < E i + s ∨ ∃ o, o < i ∧ E o = E i
theorem ba_next_l {post : Int32 → Prop} {a s lim : Nat} (hM : M ≤ 3) (hs : s ≤ 60) (hlim : lim ≤ 1000) (hE : ∀ m, m < M → E m ≤ 2000)
    (h1 : ∀ m, a ≤ m → m < M → E m + s ≤ lim → (∀ i, a ≤ i → i < m → ba_bad E s lim i) → post (nI m)) (h0 : (∀ i, a ≤ i → i < M → ba_bad E s lim i) → post (-1)) :
    ∀ d m, m + d = M → a ≤ m → (∀ i, i < m → a ≤ i → ba_bad E s lim i) → wX_nextMachine_3 post (nI s) (nI lim) (nI M) (nI D) (nI fr) (nI kn) (nI be) (ba_n R) (ba_n L) (ba_m Fx) (ba_n O) (ba_n Lf) (ba_m At) (ba_n E) (ba_m P) (d + 1) (nI m) := by
  intro d
  induction d with
  | zero =>
    intro m hm ha hp
    exact pk_le M m (fun _ => h0 (fun i hi hi2 => hp i (by omega) hi)) (fun z => absurd z (by omega))
  | succ d ih =>
    intro m hm ha hp
    have a1 := hE m (by omega)
    refine pk_le M m (fun z => absurd z (by omega)) (fun _ => And.intro (vp_in_nI (by omega) (by omega)) ?_)
    rw [ba_cl (by omega), show ba_n E m + nI s = nI (E m + s) from nI_add _ _]
    refine pk_lt lim (E m + s) (fun z => nm_r (nI_1 m) (ih (m + 1) (by omega) (by omega) (ba_lt hp (fun _ => Or.inl z)))) (fun z => ?_)
    refine ba_first (by omega) (fun i hi => hE i (by omega)) (fun c => ?_) (fun c => ?_)
    · exact br_f (by decide) (h1 m ha (by omega) z (fun i hi hi2 => hp i hi2 hi))
    · exact br_t rfl (nm_r (nI_1 m) (ih (m + 1) (by omega) (by omega) (ba_lt hp (fun _ => Or.inr c))))
theorem ba_next {post : Int32 → Prop} {a s lim : Nat} (hM : M ≤ 3) (haM : a ≤ M) (hs : s ≤ 60) (hlim : lim ≤ 1000) (hE : ∀ m, m < M → E m ≤ 2000)
    (h1 : ∀ m, a ≤ m → m < M → E m + s ≤ lim → (∀ i, a ≤ i → i < m → ba_bad E s lim i) → post (nI m)) (h0 : (∀ i, a ≤ i → i < M → ba_bad E s lim i) → post (-1)) : wpX_nextMachine post (nI M, nI D, nI fr, nI kn, nI be, ba_n R, ba_n L, ba_m Fx, ba_n O, ba_n Lf, ba_m At, ba_n E, ba_m P) (nI a) (nI s) (nI lim) :=
  Exists.intro (M - a + 1) (ba_next_l hM hs hlim hE h1 h0 (M - a) a (by omega) (Nat.le_refl _) (fun i hi hi2 => absurd hi (by omega)))
end
end
section
/-! the search -/
def ba_c : Nat → Nat
  | 0 => 0
  | r + 1 => 3 * (ba_c r + 1) + 1
theorem ba_c_bd : ∀ r, r ≤ 9 → ba_c r ≤ 39364 := by decide
/-- machines that nextMachine passes over are of no use -/
theorem ba_bad_pf {M lim r d s : Nat} {sz B : Nat → Nat} (hs : s = sz d) {m : Nat} (hm : m < M) (hb : ba_bad B s lim m) (hp : ∀ i, i < m → ¬ ba_pf M lim sz r (d + 1) (ba_a B i s)) : ¬ ba_pf M lim sz r (d + 1) (ba_a B m s) := by
  intro h
  cases hb with
  | inl h1 =>
    have := ba_pf_le _ _ _ h m hm
    rw [ba_as] at this
    omega
  | inr h1 =>
    obtain ⟨o, ho, e⟩ := h1
    exact hp o ho (ba_pf_skip (by omega) hm e h)
theorem ba_bad_all {M lim r d s a : Nat} {sz B : Nat → Nat} (hs : s = sz d) (hp : ∀ i, i < a → ¬ ba_pf M lim sz r (d + 1) (ba_a B i s)) : ∀ m, m ≤ M → (∀ i, a ≤ i → i < m → ba_bad B s lim i) → ∀ i, i < m → ¬ ba_pf M lim sz r (d + 1) (ba_a B i s) := by
  intro m
  induction m with
  | zero => intro _ _ i hi; omega
  | succ m ih =>
    intro hm hb
    have h1 := ih (by omega) (fun i h1 h2 => hb i h1 (by omega))
    refine ba_lt h1 ?_
    by_cases c : m < a
    · exact hp m c
    · exact ba_bad_pf hs (by omega) (hb m (by omega) (by omega)) h1
section
variable {M D fr kn be : Nat} {R L Fx O Lf P : Nat → Nat}
/-- leaving the place d without success -/
def ba_exit (post : Int32 → SX → Prop) (lim M D fr kn be : Nat) (R L Fx O Lf P : Nat → Nat) (d s : Nat) (At E : Nat → Nat) : Prop :=
  (d = 0 → post 0 (nI M, nI D, nI fr, nI kn, nI be, ba_n R, ba_n L, ba_m Fx, ba_n O, ba_n Lf, ba_m At, ba_n E, ba_m P)) ∧ ∀ d' n, d = d' + 1 → n + s = 120001 → wX_fitsBy_26 post (nI lim) (nI M) (nI D) (nI fr) (nI kn) (nI be) n (nI d') (nI s) (ba_n R) (ba_n L) (ba_m Fx) (ba_n O) (ba_n Lf) (ba_m At) (ba_n E) (ba_m P)
def ba_N (post : Int32 → SX → Prop) (lim M D fr kn be : Nat) (R L Fx O Lf P : Nat → Nat) (r : Nat) : Prop :=
  ∀ d s n (At E : Nat → Nat), d + r = fr → s + ba_c r < 120000 → n + s = 120001 → At d = 0 → (∀ m, m < M → E m ≤ lim) →
    (ba_pf M lim (fun k => L (O k)) r d E → ∀ At E : Nat → Nat, post 1 (nI M, nI D, nI fr, nI kn, nI be, ba_n R, ba_n L, ba_m Fx, ba_n O, ba_n Lf, ba_m At, ba_n E, ba_m P)) →
    (¬ ba_pf M lim (fun k => L (O k)) r d E → ∀ s' At', s' ≤ s + ba_c r → (∀ k, k < d → At' k = At k) → ba_exit post lim M D fr kn be R L Fx O Lf P d s' At' E) →
    wX_fitsBy_26 post (nI lim) (nI M) (nI D) (nI fr) (nI kn) (nI be) n (nI d) (nI s) (ba_n R) (ba_n L) (ba_m Fx) (ba_n O) (ba_n Lf) (ba_m At) (ba_n E) (ba_m P)
theorem ba_sub_back {B : Nat → Nat} {k x : Nat} : upd (ba_n (ba_a B k x)) k (ba_n (ba_a B k x) k - nI x) = ba_n B := by
  rw [show ba_n (ba_a B k x) k = nI (B k + x) from congrArg nI ba_as, pk_sub (by omega), Nat.add_sub_cancel, ba_upn]
  congr 1
  funext j
  by_cases e : j = k
  · subst e; rw [ba_us]
  · rw [ba_un e, ba_an e]
theorem ba_tr {post : Int32 → SX → Prop} {lim r : Nat} (hM : M ≤ 3) (hL : ∀ j, L j ≤ 60) (hfr : fr ≤ 9) (hO : ∀ k, k < fr → O k < 9) (hLf : ∀ k, k ≤ fr → Lf k = ba_T (fun t => L (O t)) (fr - k) k) (hlim : lim ≤ 1000)
    (IH : ba_N post lim M D fr kn be R L Fx O Lf P r) :
    ∀ c a d s n (At E B : Nat → Nat), a + c = M → d + (r + 1) = fr → s + (c * (ba_c r + 1) + 1) ≤ 120000 → n + s = 120001 → At d = a →
    (a = 0 → E = B) → (1 ≤ a → E = ba_a B (a - 1) (L (O d))) → (∀ m, m < M → B m ≤ lim) → (∀ i, i < a → ¬ ba_pf M lim (fun k => L (O k)) r (d + 1) (ba_a B i (L (O d)))) →
    (ba_pf M lim (fun k => L (O k)) (r + 1) d B → ∀ At E : Nat → Nat, post 1 (nI M, nI D, nI fr, nI kn, nI be, ba_n R, ba_n L, ba_m Fx, ba_n O, ba_n Lf, ba_m At, ba_n E, ba_m P)) →
    (¬ ba_pf M lim (fun k => L (O k)) (r + 1) d B → ∀ s' At', s' ≤ s + (c * (ba_c r + 1) + 1) → (∀ k, k < d → At' k = At k) → ba_exit post lim M D fr kn be R L Fx O Lf P d s' At' B) →
    wX_fitsBy_26 post (nI lim) (nI M) (nI D) (nI fr) (nI kn) (nI be) n (nI d) (nI s) (ba_n R) (ba_n L) (ba_m Fx) (ba_n O) (ba_n Lf) (ba_m At) (ba_n E) (ba_m P) := by
  intro c
  induction c using Nat.strongRecOn with
  | ind c ih =>
    intro a d s n At E B hac hd hs hn ha hE0 hE1 hB hp hok hno
    obtain ⟨n, rfl⟩ : ∃ k, n = k + 1 := ⟨n - 1, by omega⟩
    have hOd := hO d (by omega)
    have hsz := hL (O d)
    have h80 : wX_fitsBy_80 post (wX_fitsBy_26 post (nI lim) (nI M) (nI D) (nI fr) (nI kn) (nI be) n) (nI lim) (nI d) (nI s) (nI (L (O d))) (nI M) (nI D) (nI fr) (nI kn) (nI be) (ba_n R) (ba_n L) (ba_m Fx) (ba_n O) (ba_n Lf) (ba_m At) (ba_n B) (ba_m P) := by
      refine And.intro (vp_in_nI (by omega) (by omega)) ?_
      rw [ba_cl (by omega), show ba_m At d + 1 = nI a from by rw [← ha]; exact ba_mS _]
      refine ba_next hM (by omega) hsz hlim (fun m hm => by have := hB m hm; omega) (fun m ham hm hml hbad => ?_) (fun hbad => ?_)
      · -- a machine m
        have hfail := ba_bad_all (sz := fun k => L (O k)) (d := d) rfl hp m (by omega) hbad
        have hcm : c = (M - (m + 1)) + 1 + (m - a) := by omega
        have hmul : (M - (m + 1)) * (ba_c r + 1) + (ba_c r + 1) ≤ c * (ba_c r + 1) := by
          rw [← Nat.succ_mul]
          exact Nat.mul_le_mul_right _ (by omega)
        refine And.intro (vp_in_nI (by omega) (by omega)) (nm_r ba_upmS (And.intro (vp_in_nI (by omega) (by omega)) ?_))
        rw [show ba_m (ba_u At d (m + 1)) d = nI m from by unfold ba_m; rw [ba_us]; exact nI_pred m]
        refine pk_le 0 m (fun _ => ?_) (fun z => absurd z (by omega))
        rw [ba_cl (by omega : m ≤ 100000)]
        refine And.intro (vp_in_nI (by omega) (by omega)) (And.intro (vp_in_nI (by omega) (by omega)) (And.intro (vp_in_nI (by omega) (by omega)) (nm_r ba_upa ?_)))
        rw [nI_1 d]
        have hT := ba_T_bd (f := fun t => L (O t)) (c := 60) (fr - (d + 1)) (d + 1) (fun t => hL (O t))
        have hLd := hLf (d + 1) (by omega)
        refine ba_roomFor hM (by omega) (by omega) hlim (fun i hi => ?_) (fun hr => ?_) (fun hr => ?_)
        · have := hB i hi
          rw [ba_a_eq]; split <;> omega
        · -- room: go down
          refine br_f (by decide) (nm_e (And.intro (vp_in_nI (by omega) (by omega)) ?_))
          rw [ba_cl (by omega : d + 1 ≤ 100000)]
          refine nm_r ba_upm0 (nm_r (nI_1 s) ?_)
          refine IH (d + 1) (s + 1) n _ _ (by omega) (by omega) (by omega) ba_us hr.1 (fun h => hok ⟨m, hm, h⟩) (fun h s' At' hs' hk => ?_)
          refine ⟨fun z => absurd z (by omega), fun d' n' e hn' => ?_⟩
          have e2 : d' = d := by omega
          subst e2
          have hAd : At' d' = m + 1 := by
            rw [hk d' (by omega), ba_un (by omega), ba_us]
          refine ih (M - (m + 1)) (by omega) (m + 1) d' s' n' At' _ B (by omega) hd (by omega) hn' hAd (fun z => absurd z (by omega)) (fun _ => rfl) hB (ba_lt hfail h) hok (fun hn s2 A2 hs2 hk2 => hno hn s2 A2 (by omega) (fun k hk' => ?_))
          rw [hk2 k hk', hk k (by omega), ba_un (by omega), ba_un (by omega)]
        · -- no room: the next machine
          refine br_t rfl (nm_r (nI_1 s) ?_)
          have h : ¬ ba_pf M lim (fun k => L (O k)) r (d + 1) (ba_a B m (L (O d))) := by
            intro h
            refine hr ⟨ba_pf_le _ _ _ h, ?_⟩
            rw [hLd, show fr - (d + 1) = r from by omega]
            exact ba_pf_sum _ _ _ h
          refine ih (M - (m + 1)) (by omega) (m + 1) d (s + 1) n _ _ B (by omega) hd (by omega) (by omega) ba_us (fun z => absurd z (by omega)) (fun _ => rfl) hB (ba_lt hfail h) hok (fun hn s2 A2 hs2 hk2 => hno hn s2 A2 (by omega) (fun k hk' => ?_))
          rw [hk2 k hk', ba_un (by omega)]
      · -- none
        have hfail := ba_bad_all (sz := fun k => L (O k)) (d := d) rfl hp M (Nat.le_refl _) hbad
        have hx := hno (fun ⟨m, hm, h⟩ => hfail m hm h) (s + 1) (ba_u At d 0) (by omega) (fun k hk => ba_un (by omega))
        refine And.intro (vp_in_nI (by omega) (by omega)) (nm_r ba_upm0 (And.intro (vp_in_nI (by omega) (by omega)) ?_))
        rw [show ba_m (ba_u At d 0) d = nI 0 - 1 from by unfold ba_m; rw [ba_us]]
        refine ba_br0 0 (fun z => absurd z (by omega)) (fun _ => ?_) (by decide)
        refine pk_eq d 0 (fun z => hx.1 z) (fun z => ?_)
        obtain ⟨d', rfl⟩ : ∃ k, d = k + 1 := ⟨d - 1, by omega⟩
        exact nm_r (pk_m1 d') (nm_r (nI_1 s) (hx.2 d' n rfl (by omega)))
    refine pk_le 120000 s (fun z => absurd z (by omega)) (fun _ => pk_eq d fr (fun z => absurd z (by omega)) (fun _ => ?_))
    rw [ba_cl (by omega), show ba_n O d = nI (O d) from rfl, ba_cl (by omega : O d ≤ 100000)]
    refine And.intro (vp_in_nI (by omega) (by omega)) (And.intro (vp_in_nI (by omega) (by omega)) (nm_e (And.intro (vp_in_nI (by omega) (by omega)) ?_)))
    rw [show ba_m At d = nI a - 1 from by rw [← ha]; rfl]
    refine ba_br a (fun z => ?_) (fun z => ?_) (by omega)
    · rw [hE0 z]; exact h80
    · rw [ba_mp z, ba_cl (by omega : a - 1 ≤ 100000), hE1 z]
      refine And.intro (vp_in_nI (by omega) (by omega)) (And.intro (vp_in_nI (by omega) (by omega)) (And.intro (vp_in_nI (by omega) (by omega)) ?_))
      exact nm_r ba_sub_back h80
theorem ba_NN {post : Int32 → SX → Prop} {lim : Nat} (hM : M ≤ 3) (hL : ∀ j, L j ≤ 60) (hfr : fr ≤ 9) (hO : ∀ k, k < fr → O k < 9) (hLf : ∀ k, k ≤ fr → Lf k = ba_T (fun t => L (O t)) (fr - k) k) (hlim : lim ≤ 1000) :
    ∀ r, ba_N post lim M D fr kn be R L Fx O Lf P r := by
  intro r
  induction r with
  | zero =>
    intro d s n At E hd hs hn ha hE hok hno
    obtain ⟨n, rfl⟩ : ∃ k, n = k + 1 := ⟨n - 1, by omega⟩
    exact pk_le 120000 s (fun z => absurd z (by omega)) (fun _ => pk_eq d fr (fun _ => hok hE At E) (fun z => absurd z (by omega)))
  | succ r ih =>
    intro d s n At E hd hs hn ha hE hok hno
    have hc : ba_c (r + 1) = 3 * (ba_c r + 1) + 1 := rfl
    have hm : M * (ba_c r + 1) ≤ 3 * (ba_c r + 1) := Nat.mul_le_mul_right _ hM
    exact ba_tr hM hL hfr hO hLf hlim ih M 0 d s n At E E (Nat.zero_add _) hd (by omega) hn ha (fun _ => rfl) (fun z => absurd z (by omega)) hE (fun i hi => absurd hi (by omega)) hok (fun h s' At' hs' hk => hno h s' At' (by omega) hk)
end
section
variable {M D fr kn be : Nat} {R L Fx O Lf At E P : Nat → Nat}
/-- whether a plan ends by the limit -/
theorem ba_fitsBy {post : Int32 → SX → Prop} {lim : Nat} (h0M : 0 < M) (hM : M ≤ 3) (hR : ∀ m, R m ≤ 60) (hL : ∀ j, L j ≤ 60) (hF : ∀ i, i < 9 → Fx i ≤ M) (hlim : lim ≤ 1000)
    (h1 : ba_fe M R L Fx lim → ∀ fr (O Lf At E : Nat → Nat), post 1 (nI M, nI D, nI fr, nI kn, nI be, ba_n R, ba_n L, ba_m Fx, ba_n O, ba_n Lf, ba_m At, ba_n E, ba_m P))
    (h0 : ¬ ba_fe M R L Fx lim → ∀ fr (O Lf At E : Nat → Nat), post 0 (nI M, nI D, nI fr, nI kn, nI be, ba_n R, ba_n L, ba_m Fx, ba_n O, ba_n Lf, ba_m At, ba_n E, ba_m P)) : wpX_fitsBy post (nI M, nI D, nI fr, nI kn, nI be, ba_n R, ba_n L, ba_m Fx, ba_n O, ba_n Lf, ba_m At, ba_n E, ba_m P) (nI lim) := by
  refine ba_arrange hM hR hL hF (fun fr O Lf E ha => ?_)
  have hfr := ha.1.1
  have hfe := ba_ar_fe (lim := lim) h0M hF ha.1
  have hT := ba_T_bd (f := fun t => L (O t)) (c := 60) (fr - 0) 0 (fun t => hL (O t))
  have hL0 := ha.2 0 (by omega)
  refine ba_roomFor (k := 0) hM (by omega) (by omega) hlim (fun m hm => ?_) (fun hr => ?_) (fun hr => ?_)
  · have := ba_ar_E hR hL (Nat.le_refl _) ha.1 hm
    omega
  · refine br_f (by decide) (nm_r ba_upm0 (Exists.intro 120001 ?_))
    refine ba_NN hM hL hfr ha.1.2.1 ha.2 hlim fr 0 0 120001 _ _ (Nat.zero_add _) ?_ rfl ba_us hr.1 (fun h => h1 (hfe.mp h) fr O Lf) (fun h s' At' _ _ => ⟨fun _ => h0 (fun z => h (hfe.mpr z)) fr O Lf At' E, fun d' n e => absurd e (by omega)⟩)
    have := ba_c_bd fr hfr
    omega
  · refine br_t rfl (h0 (fun z => hr ?_) fr O Lf At E)
    have h := hfe.mpr z
    refine ⟨ba_pf_le _ _ _ h, ?_⟩
    rw [hL0]
    exact ba_pf_sum _ _ _ h
/-- the same with one more job -/
theorem ba_fitsWith {post : Int32 → SX → Prop} {v : Nat} (h0M : 0 < M) (hM : M ≤ 3) (hD : D ≤ 300) (hR : ∀ m, R m ≤ 60) (hL : ∀ j, L j ≤ 60) (h8 : L 8 = 0) (hv : v ≤ 60)
    (h1 : ba_fy M R L D v → ∀ fr (Fx O Lf At E : Nat → Nat), post 1 (nI M, nI D, nI fr, nI kn, nI be, ba_n R, ba_n L, ba_m Fx, ba_n O, ba_n Lf, ba_m At, ba_n E, ba_m P))
    (h0 : ¬ ba_fy M R L D v → ∀ fr (Fx O Lf At E : Nat → Nat), post 0 (nI M, nI D, nI fr, nI kn, nI be, ba_n R, ba_n L, ba_m Fx, ba_n O, ba_n Lf, ba_m At, ba_n E, ba_m P)) : wpX_fitsWith post (nI M, nI D, nI fr, nI kn, nI be, ba_n R, ba_n L, ba_m Fx, ba_n O, ba_n Lf, ba_m At, ba_n E, ba_m P) (nI v) := by
  refine ba_freeAll (fun Fx hFx => ?_)
  refine nm_r ba_upn ?_
  have hb : upd (ba_n (ba_u L 8 v)) 8 0 = ba_n L := by
    refine Eq.trans (ba_upn (x := 0)) ?_
    congr 1
    funext j
    by_cases e : j = 8
    · subst e; rw [ba_us, h8]
    · rw [ba_un e, ba_un e]
  refine ba_fitsBy h0M hM hR (fun j => ?_) (fun i hi => by rw [hFx i hi]; omega) (by omega) (fun h fr O Lf At E => ?_) (fun h fr O Lf At E => ?_)
  · by_cases e : j = 8
    · subst e; rw [ba_us]; exact hv
    · rw [ba_un e]; exact hL j
  · exact nm_r hb ⟨rfl, h1 ((ba_fe_tr h0M hFx).mp h) fr Fx O Lf At E⟩
  · exact nm_r hb ⟨rfl, h0 (fun z => h ((ba_fe_tr h0M hFx).mpr z)) fr Fx O Lf At E⟩
end
end
section
/-! lowerBound, earliestMachine, longestFirst -/
section
variable {M D fr kn be : Nat} {R L Fx O Lf At E P : Nat → Nat}
def ba_LB (M : Nat) (R L : Nat → Nat) (lim : Nat) : Prop := (∀ m, m < M → R m ≤ lim) ∧ ba_S R M + ba_S L 8 ≤ M * lim ∧ ∀ i, i < 8 → ∃ m, m < M ∧ R m + L i ≤ lim
theorem ba_lb84 {post : Int32 → Prop} {e : Nat} (h0M : 0 < M) (hM : M ≤ 3) (hL : ∀ j, L j ≤ 60) (he : e ≤ 60) (hem : ∀ i, i < M → e ≤ R i)
    (h : ∀ v, (∀ lim, ba_LB M R L lim → v ≤ lim) → post (nI v)) :
    ∀ d j s t, j + d = 8 → s = ba_S R M + ba_S L j → s ≤ 180 + 60 * j → t ≤ 120 → (∀ lim, ba_LB M R L lim → t ≤ lim) → wX_lowerBound_84 post (nI e) (nI M) (nI D) (nI fr) (nI kn) (nI be) (ba_n R) (ba_n L) (ba_m Fx) (ba_n O) (ba_n Lf) (ba_m At) (ba_n E) (ba_m P) (d + 1) (nI s) (nI t) (nI j) := by
  intro d
  induction d with
  | zero =>
    intro j s t hj hs hsb ht hlb
    have e8 : j = 8 := by omega
    subst e8
    refine pk_le 8 8 (fun _ => And.intro (nI_ne0 h0M (by omega)) ?_) (fun z => absurd z (by omega))
    rw [nI_add, show nI (s + M) - 1 = nI (s + M - 1) from ba_mp (by omega), pk_div (by omega) h0M (by omega)]
    have hq : (s + M - 1) / M ≤ s + M - 1 := Nat.div_le_self _ _
    have hlq : ∀ lim, ba_LB M R L lim → (s + M - 1) / M ≤ lim := by
      intro lim hl
      have h2 := hl.2.1
      have h3 : (s + M - 1) / M < lim + 1 := by
        rw [Nat.div_lt_iff_lt_mul h0M, Nat.succ_mul, Nat.mul_comm lim M]
        omega
      omega
    generalize (s + M - 1) / M = q at hq hlq ⊢
    exact nm_e (pk_le q t (fun _ => h t hlb) (fun _ => h q hlq))
  | succ d ih =>
    intro j s t hj hs hsb ht hlb
    have hLj := hL j
    refine pk_le 8 j (fun z => absurd z (by omega)) (fun _ => And.intro (vp_in_nI (by omega) (by omega)) ?_)
    rw [ba_cl (by omega), show nI s + ba_n L j = nI (s + L j) from nI_add _ _]
    refine nm_e (And.intro (vp_in_nI (by omega) (by omega)) ?_)
    have hs2 : s + L j = ba_S R M + ba_S L (j + 1) := by rw [ba_S_s]; omega
    have h124 : ∀ z, z ≤ 120 → (∀ lim, ba_LB M R L lim → z ≤ lim) → wX_lowerBound_124 post (wX_lowerBound_84 post (nI e) (nI M) (nI D) (nI fr) (nI kn) (nI be) (ba_n R) (ba_n L) (ba_m Fx) (ba_n O) (ba_n Lf) (ba_m At) (ba_n E) (ba_m P) (d + 1)) (nI (s + L j)) (nI t) (nI e) (nI j) (nI z) (nI M) (nI D) (nI fr) (nI kn) (nI be) (ba_n R) (ba_n L) (ba_m Fx) (ba_n O) (ba_n Lf) (ba_m At) (ba_n E) (ba_m P) := by
      intro z hz hzl
      exact pk_le z t (fun _ => nm_r (nI_1 j) (ih (j + 1) _ t (by omega) hs2 (by omega) ht hlb)) (fun _ => nm_r (nI_1 j) (ih (j + 1) _ z (by omega) hs2 (by omega) hz hzl))
    refine pk_eq (L j) 0 (fun z => h124 0 (by omega) (fun _ _ => Nat.zero_le _)) (fun z => And.intro (vp_in_nI (by omega) (by omega)) ?_)
    rw [show nI e + ba_n L j = nI (e + L j) from nI_add _ _]
    refine h124 (e + L j) (by omega) (fun lim hl => ?_)
    obtain ⟨m, hm, h3⟩ := hl.2.2 j (by omega)
    have := hem m hm
    omega
theorem ba_lb10 {post : Int32 → Prop} (h0M : 0 < M) (hM : M ≤ 3) (hR : ∀ m, R m ≤ 60) (hL : ∀ j, L j ≤ 60)
    (h : ∀ v, (∀ lim, ba_LB M R L lim → v ≤ lim) → post (nI v)) :
    ∀ d m s t e, m + d = M → s = ba_S R m → s ≤ 60 * m → t ≤ 60 → (∀ lim, ba_LB M R L lim → t ≤ lim) → e ≤ 60 → (∀ i, i < m → e ≤ R i) → wX_lowerBound_10 post (nI M) (nI D) (nI fr) (nI kn) (nI be) (ba_n R) (ba_n L) (ba_m Fx) (ba_n O) (ba_n Lf) (ba_m At) (ba_n E) (ba_m P) (d + 1) (nI s) (nI t) (nI e) (nI m) := by
  intro d
  induction d with
  | zero =>
    intro m s t e hm hs hsb ht hlb he hem
    have eM : m = M := by omega
    subst eM
    refine pk_le m m (fun _ => Exists.intro 9 ?_) (fun z => absurd z (by omega))
    exact ba_lb84 h0M hM hL he hem h 8 0 s t rfl (by rw [hs]; rfl) (by omega) (by omega) hlb
  | succ d ih =>
    intro m s t e hm hs hsb ht hlb he hem
    have hRm := hR m
    refine pk_le M m (fun z => absurd z (by omega)) (fun _ => And.intro (vp_in_nI (by omega) (by omega)) ?_)
    rw [ba_cl (by omega), show nI s + ba_n R m = nI (s + R m) from nI_add _ _]
    refine nm_e (And.intro (vp_in_nI (by omega) (by omega)) ?_)
    have hs2 : s + R m = ba_S R (m + 1) := by rw [ba_S_s]; omega
    have h51 : ∀ z, z ≤ 60 → (∀ lim, ba_LB M R L lim → z ≤ lim) → wX_lowerBound_51 post (wX_lowerBound_10 post (nI M) (nI D) (nI fr) (nI kn) (nI be) (ba_n R) (ba_n L) (ba_m Fx) (ba_n O) (ba_n Lf) (ba_m At) (ba_n E) (ba_m P) (d + 1)) (nI (s + R m)) (nI e) (nI m) (nI z) (nI M) (nI D) (nI fr) (nI kn) (nI be) (ba_n R) (ba_n L) (ba_m Fx) (ba_n O) (ba_n Lf) (ba_m At) (ba_n E) (ba_m P) := by
      intro z hz hzl
      refine And.intro (vp_in_nI (by omega) (by omega)) ?_
      rw [ba_cl (by omega)]
      refine pk_le e (R m) (fun c => nm_r (nI_1 m) (ih (m + 1) _ z e (by omega) hs2 (by omega) hz hzl he (ba_lt hem c))) (fun c => And.intro (vp_in_nI (by omega) (by omega)) ?_)
      refine nm_r (e' := nI (R m)) rfl (nm_r (nI_1 m) (ih (m + 1) _ z (R m) (by omega) hs2 (by omega) hz hzl hRm (ba_lt (fun i hi => ?_) (Nat.le_refl _))))
      have := hem i hi
      omega
    exact pk_le (R m) t (fun _ => h51 t ht hlb) (fun _ => And.intro (vp_in_nI (by omega) (by omega)) (h51 (R m) hRm (fun lim hl => hl.1 m (by omega))))
theorem ba_lowerBound {post : Int32 → Prop} (h0M : 0 < M) (hM : M ≤ 3) (hR : ∀ m, R m ≤ 60) (hL : ∀ j, L j ≤ 60)
    (h : ∀ v, (∀ lim, ba_LB M R L lim → v ≤ lim) → post (nI v)) : wpX_lowerBound post (nI M, nI D, nI fr, nI kn, nI be, ba_n R, ba_n L, ba_m Fx, ba_n O, ba_n Lf, ba_m At, ba_n E, ba_m P) :=
  Exists.intro (M + 1) (ba_lb10 h0M hM hR hL h M 0 0 0 60 (Nat.zero_add _) rfl (Nat.zero_le _) (Nat.zero_le _) (fun _ _ => Nat.zero_le _) (Nat.le_refl _) (fun i hi => absurd hi (by omega)))
theorem ba_early_l {post : Int32 → Prop} (hM : M ≤ 3) (hE : ∀ m, m < M → E m ≤ 2000) (h : ∀ m, m < M → post (nI m)) : ∀ d m b, m + d = M → b < M → wX_earliestMachine_4 post (nI M) (nI D) (nI fr) (nI kn) (nI be) (ba_n R) (ba_n L) (ba_m Fx) (ba_n O) (ba_n Lf) (ba_m At) (ba_n E) (ba_m P) (d + 1) (nI b) (nI m) := by
  intro d
  induction d with
  | zero =>
    intro m b hm hb
    exact pk_le M m (fun _ => h b hb) (fun z => absurd z (by omega))
  | succ d ih =>
    intro m b hm hb
    have a1 := hE m (by omega)
    have a2 := hE b hb
    refine pk_le M m (fun z => absurd z (by omega)) (fun _ => And.intro (vp_in_nI (by omega) (by omega)) (And.intro (vp_in_nI (by omega) (by omega)) ?_))
    rw [ba_cl (by omega), ba_cl (by omega : m ≤ 100000)]
    exact pk_le (E b) (E m) (fun _ => nm_r (nI_1 m) (ih (m + 1) b (by omega) hb)) (fun _ => nm_r (nI_1 m) (ih (m + 1) m (by omega) (by omega)))
theorem ba_early {post : Int32 → Prop} (h0M : 0 < M) (hM : M ≤ 3) (hE : ∀ m, m < M → E m ≤ 2000) (h : ∀ m, m < M → post (nI m)) : wpX_earliestMachine post (nI M, nI D, nI fr, nI kn, nI be, ba_n R, ba_n L, ba_m Fx, ba_n O, ba_n Lf, ba_m At, ba_n E, ba_m P) :=
  Exists.intro (M - 1 + 1) (ba_early_l hM hE h (M - 1) 1 0 (by omega) h0M)
theorem ba_lf49 {post : Int32 → SX → Prop} (hM : M ≤ 3) (hE : ∀ m, m < M → E m ≤ 600) (h : ∀ v, v ≤ 600 → (∀ m, m < M → E m ≤ v) → post (nI v) (nI M, nI D, nI fr, nI kn, nI be, ba_n R, ba_n L, ba_m Fx, ba_n O, ba_n Lf, ba_m At, ba_n E, ba_m P)) :
    ∀ d m v, m + d = M → v ≤ 600 → (∀ i, i < m → E i ≤ v) → wX_longestFirst_49 post (nI M) (nI D) (nI fr) (nI kn) (nI be) (ba_n R) (ba_n L) (ba_m Fx) (ba_n O) (ba_n Lf) (ba_m At) (ba_n E) (ba_m P) (d + 1) (nI v) (nI m) := by
  intro d
  induction d with
  | zero =>
    intro m v hm hv hp
    have eM : m = M := by omega
    subst eM
    exact pk_le m m (fun _ => h v hv hp) (fun z => absurd z (by omega))
  | succ d ih =>
    intro m v hm hv hp
    have a1 := hE m (by omega)
    refine pk_le M m (fun z => absurd z (by omega)) (fun _ => And.intro (vp_in_nI (by omega) (by omega)) ?_)
    rw [ba_cl (by omega)]
    refine pk_le (E m) v (fun c => nm_r (nI_1 m) (ih (m + 1) v (by omega) hv (ba_lt hp c))) (fun c => And.intro (vp_in_nI (by omega) (by omega)) ?_)
    refine nm_r (e' := nI (E m)) rfl (nm_r (nI_1 m) (ih (m + 1) (E m) (by omega) a1 (ba_lt (fun i hi => ?_) (Nat.le_refl _))))
    have := hp i hi
    omega
theorem ba_lf8 {post : Int32 → SX → Prop} (h0M : 0 < M) (hM : M ≤ 3) (hL : ∀ j, L j ≤ 60) (hfr : fr ≤ 9) (hO : ∀ k, k < fr → O k < 9) :
    ∀ r k (E : Nat → Nat), k + r = fr → (∀ m, m < M → E m ≤ 60 + 60 * k) → (∀ v (E' : Nat → Nat), v ≤ 600 → ba_pf M v (fun t => L (O t)) r k E → post (nI v) (nI M, nI D, nI fr, nI kn, nI be, ba_n R, ba_n L, ba_m Fx, ba_n O, ba_n Lf, ba_m At, ba_n E', ba_m P)) → wX_longestFirst_8 post 0 (nI M) (nI D) (nI fr) (nI kn) (nI be) (r + 1) (nI k) (ba_n R) (ba_n L) (ba_m Fx) (ba_n O) (ba_n Lf) (ba_m At) (ba_n E) (ba_m P) := by
  intro r
  induction r with
  | zero =>
    intro k E hk hE h
    refine pk_le fr k (fun _ => Exists.intro (M + 1) ?_) (fun z => absurd z (by omega))
    exact ba_lf49 hM (fun m hm => by have := hE m hm; omega) (fun v hv hp => h v E hv hp) M 0 0 (Nat.zero_add _) (Nat.zero_le _) (fun i hi => absurd hi (by omega))
  | succ r ih =>
    intro k E hk hE h
    have hok := hO k (by omega)
    have hLk := hL (O k)
    refine pk_le fr k (fun z => absurd z (by omega)) (fun _ => ?_)
    refine ba_early h0M hM (fun m hm => by have := hE m hm; omega) (fun m hm => ?_)
    refine And.intro (vp_in_nI (by omega) (by omega)) (And.intro (vp_in_nI (by omega) (by omega)) ?_)
    rw [ba_cl (by omega : k ≤ 100000), ba_cl (by omega : m ≤ 100000), show ba_n O k = nI (O k) from rfl, ba_cl (by omega : O k ≤ 100000)]
    refine And.intro (vp_in_nI (by omega) (by omega)) (And.intro (vp_in_nI (by omega) (by omega)) ?_)
    refine nm_r (ba_upa (x := L (O k))) (nm_r (nI_1 k) (ih (k + 1) _ (by omega) (fun i hi => ?_) (fun v E' hv hp => h v E' hv ⟨m, hm, hp⟩)))
    have := hE i hi
    rw [ba_a_eq]; split <;> omega
theorem ba_longestFirst {post : Int32 → SX → Prop} (h0M : 0 < M) (hM : M ≤ 3) (hR : ∀ m, R m ≤ 60) (hL : ∀ j, L j ≤ 60) (h0 : ∀ i, i < 9 → Fx i = 0)
    (h : ∀ v fr (O Lf E : Nat → Nat), v ≤ 600 → ba_fe M R L Fx v → post (nI v) (nI M, nI D, nI fr, nI kn, nI be, ba_n R, ba_n L, ba_m Fx, ba_n O, ba_n Lf, ba_m At, ba_n E, ba_m P)) : wpX_longestFirst post (nI M, nI D, nI fr, nI kn, nI be, ba_n R, ba_n L, ba_m Fx, ba_n O, ba_n Lf, ba_m At, ba_n E, ba_m P) := by
  have hF : ∀ i, i < 9 → Fx i ≤ M := fun i hi => by rw [h0 i hi]; omega
  refine ba_arrange hM hR hL hF (fun fr O Lf E ha => ?_)
  refine Exists.intro (fr + 1) (ba_lf8 h0M hM hL ha.1.1 ha.1.2.1 fr 0 E (Nat.zero_add _) (fun m hm => ?_) (fun v E' hv hp => h v fr O Lf E' hv ((ba_ar_fe h0M hF ha.1).mp hp)))
  rw [ha.1.2.2.2 m hm, ba_S_0f 9 (fun i hi => by unfold ba_fx; rw [h0 i hi]; exact if_neg (by omega))]
  have := hR m
  omega
end
end
section
/-! findLeastEnd, fixJob, makePlan -/
section
variable {M D fr kn be : Nat} {R L Fx O Lf At E P : Nat → Nat}
theorem ba_fe_mono {M v w : Nat} {R L Fx : Nat → Nat} (h : ba_fe M R L Fx v) (hw : v ≤ w) : ba_fe M R L Fx w := by
  obtain ⟨g, hg, hx, hl⟩ := h
  exact ⟨g, hg, hx, fun m hm => by have := hl m hm; omega⟩
theorem ba_fle12 {post : SX → Prop} (h0M : 0 < M) (hM : M ≤ 3) (hR : ∀ m, R m ≤ 60) (hL : ∀ j, L j ≤ 60) (hF : ∀ i, i < 9 → Fx i ≤ M)
    (h : ∀ v fr (O Lf At E : Nat → Nat), v ≤ 600 → ba_fe M R L Fx v → (∀ w, w < v → ¬ ba_fe M R L Fx w) → post (nI M, nI D, nI fr, nI kn, nI v, ba_n R, ba_n L, ba_m Fx, ba_n O, ba_n Lf, ba_m At, ba_n E, ba_m P)) :
    ∀ d st lo hi fr (O Lf At E : Nat → Nat), st + d = 10 → hi < lo + 2 ^ d → lo ≤ hi → hi ≤ 600 → ba_fe M R L Fx hi → (∀ w, w < lo → ¬ ba_fe M R L Fx w) → wX_findLeastEnd_12 post (d + 1) (nI lo) (nI hi) (nI st) (nI M) (nI D) (nI fr) (nI kn) (nI be) (ba_n R) (ba_n L) (ba_m Fx) (ba_n O) (ba_n Lf) (ba_m At) (ba_n E) (ba_m P) := by
  intro d
  induction d with
  | zero =>
    intro st lo hi fr O Lf At E hst hlt hle hhi hfe hno
    rw [Nat.pow_zero] at hlt
    have e : lo = hi := by omega
    subst e
    exact pk_le 10 st (fun _ => h lo fr O Lf At E hhi hfe hno) (fun z => absurd z (by omega))
  | succ d ih =>
    intro st lo hi fr O Lf At E hst hlt hle hhi hfe hno
    rw [Nat.pow_succ] at hlt
    refine pk_le 10 st (fun z => absurd z (by omega)) (fun _ => pk_le hi lo (fun c => ?_) (fun c => And.intro (by decide) ?_))
    · have e : lo = hi := by omega
      subst e
      exact h lo fr O Lf At E hhi hfe hno
    · rw [nI_add, show nI (lo + hi) / 2 = nI ((lo + hi) / 2) from pk_div (d := 2) (by omega) (by omega) (by omega)]
      refine nm_e ?_
      have h1 : lo ≤ (lo + hi) / 2 := by omega
      have h2 : (lo + hi) / 2 < hi := by omega
      have h3 : (lo + hi) / 2 < lo + 2 ^ d := by omega
      have h4 : hi < (lo + hi) / 2 + 1 + 2 ^ d := by omega
      generalize (lo + hi) / 2 = mid at h1 h2 h3 h4 ⊢
      refine ba_fitsBy h0M hM hR hL hF (by omega) (fun hf fr O Lf At E => ?_) (fun hf fr O Lf At E => ?_)
      · exact br_f (by decide) (nm_r (nI_1 st) (ih (st + 1) lo mid fr O Lf At E (by omega) h3 h1 (by omega) hf hno))
      · refine br_t rfl (nm_r (nI_1 mid) (nm_r (nI_1 st) (ih (st + 1) (mid + 1) hi fr O Lf At E (by omega) h4 (by omega) hhi hfe (fun w hw hz => hf (ba_fe_mono hz (by omega))))))
theorem ba_findLeastEnd {post : SX → Prop} (h0M : 0 < M) (hM : M ≤ 3) (hR : ∀ m, R m ≤ 60) (hL : ∀ j, L j ≤ 60) (h8 : L 8 = 0) (h0 : ∀ i, i < 9 → Fx i = 0)
    (h : ∀ v fr (O Lf At E : Nat → Nat), v ≤ 600 → ba_fe M R L Fx v → (∀ w, w < v → ¬ ba_fe M R L Fx w) → post (nI M, nI D, nI fr, nI kn, nI v, ba_n R, ba_n L, ba_m Fx, ba_n O, ba_n Lf, ba_m At, ba_n E, ba_m P)) : wpX_findLeastEnd post (nI M, nI D, nI fr, nI kn, nI be, ba_n R, ba_n L, ba_m Fx, ba_n O, ba_n Lf, ba_m At, ba_n E, ba_m P) := by
  have hF : ∀ i, i < 9 → Fx i ≤ M := fun i hi => by rw [h0 i hi]; omega
  refine ba_lowerBound h0M hM hR hL (fun lo hlo => ?_)
  refine ba_longestFirst h0M hM hR hL h0 (fun hi fr O Lf E hhi hfe => ?_)
  have hl := hlo hi (ba_fe_lb h8 hfe)
  refine Exists.intro 11 (ba_fle12 h0M hM hR hL hF h 10 0 lo hi fr O Lf At E rfl (by omega) hl hhi hfe (fun w hw hz => ?_))
  have := hlo w (ba_fe_lb h8 hz)
  omega
/-- jobs but j fixed as in plan b below j, free above it -/
def ba_pj (M : Nat) (L Fx : Nat → Nat) (b j : Nat) : Prop := (∀ i, i < j → L i ≠ 0 → Fx i = ba_dg M L b i + 1) ∧ (∀ i, j < i → i < 9 → Fx i = 0) ∧ ∀ i, i < 9 → Fx i ≤ M
theorem ba_pj_u {M b j m : Nat} {L Fx : Nat → Nat} (h : ba_pj M L Fx b j) (hm : m < M) : ba_pj M L (ba_u Fx j (m + 1)) b j := by
  refine ⟨fun i hi hl => ?_, fun i hi h9 => ?_, fun i hi => ?_⟩
  · rw [ba_un (by omega)]; exact h.1 i hi hl
  · rw [ba_un (by omega)]; exact h.2.1 i hi h9
  · by_cases e : i = j
    · subst e; rw [ba_us]; omega
    · rw [ba_un e]; exact h.2.2 i hi
theorem ba_fixJob_l {post : SX → Prop} {b j : Nat} (h0M : 0 < M) (hM : M ≤ 3) (hR : ∀ m, R m ≤ 60) (hL : ∀ j, L j ≤ 60) (h8 : L 8 = 0) (hj : j < 8) (hl : L j ≠ 0) (hb : ba_be M R L b) (hbe : be = ba_en M R L b) (hbb : be ≤ 600)
    (h : ∀ fr (Fx O Lf At E : Nat → Nat), ba_pj M L Fx b j → Fx j = ba_dg M L b j + 1 → post (nI M, nI D, nI fr, nI kn, nI be, ba_n R, ba_n L, ba_m Fx, ba_n O, ba_n Lf, ba_m At, ba_n E, ba_m P)) :
    ∀ c m fr (Fx O Lf At E : Nat → Nat), m + c = ba_dg M L b j → ba_pj M L Fx b j → wX_fixJob_2 post (nI j) (c + 1) (nI m) (nI M) (nI D) (nI fr) (nI kn) (nI be) (ba_n R) (ba_n L) (ba_m Fx) (ba_n O) (ba_n Lf) (ba_m At) (ba_n E) (ba_m P) := by
  have hdM : ba_dg M L b j < M := ba_dg_lt h0M
  intro c
  induction c with
  | zero =>
    intro m fr Fx O Lf At E hm hp
    refine pk_le M m (fun z => absurd z (by omega)) (fun _ => And.intro (vp_in_nI (by omega) (by omega)) ?_)
    rw [ba_cl (by omega)]
    have hp2 := ba_pj_u hp (show m < M from by omega)
    have hx : ba_u Fx j (m + 1) j = ba_dg M L b j + 1 := by rw [ba_us]; omega
    refine nm_r ba_upmS (ba_fitsBy h0M hM hR hL hp2.2.2 (by omega) (fun _ fr O Lf At E => br_f (by decide) (h fr _ O Lf At E hp2 hx)) (fun hn => ?_))
    exact absurd (hbe ▸ ba_fix_hit h0M h8 hb hp2.1 hp2.2.1 hx) hn
  | succ c ih =>
    intro m fr Fx O Lf At E hm hp
    refine pk_le M m (fun z => absurd z (by omega)) (fun _ => And.intro (vp_in_nI (by omega) (by omega)) ?_)
    rw [ba_cl (by omega)]
    have hp2 := ba_pj_u hp (show m < M from by omega)
    refine nm_r ba_upmS (ba_fitsBy h0M hM hR hL hp2.2.2 (by omega) (fun hf => ?_) (fun _ fr O Lf At E => br_t rfl (nm_r (nI_1 m) (ih (m + 1) fr _ O Lf At E (by omega) hp2))))
    exact absurd (hbe ▸ hf) (ba_fix_miss h0M h8 hj hl hb hp2.1 ba_us (by omega))
theorem ba_fixJob {post : SX → Prop} {b j : Nat} (h0M : 0 < M) (hM : M ≤ 3) (hR : ∀ m, R m ≤ 60) (hL : ∀ j, L j ≤ 60) (h8 : L 8 = 0) (hj : j < 8) (hl : L j ≠ 0) (hb : ba_be M R L b) (hbe : be = ba_en M R L b) (hbb : be ≤ 600) (hp : ba_pj M L Fx b j)
    (h : ∀ fr (Fx O Lf At E : Nat → Nat), ba_pj M L Fx b j → Fx j = ba_dg M L b j + 1 → post (nI M, nI D, nI fr, nI kn, nI be, ba_n R, ba_n L, ba_m Fx, ba_n O, ba_n Lf, ba_m At, ba_n E, ba_m P)) : wpX_fixJob post (nI M, nI D, nI fr, nI kn, nI be, ba_n R, ba_n L, ba_m Fx, ba_n O, ba_n Lf, ba_m At, ba_n E, ba_m P) (nI j) :=
  Exists.intro (ba_dg M L b j + 1) (ba_fixJob_l h0M hM hR hL h8 hj hl hb hbe hbb h _ 0 fr Fx O Lf At E (Nat.zero_add _) hp)
/-- the chosen plan is known -/
def ba_ok (M : Nat) (R L : Nat → Nat) (be : Nat) (P : Nat → Nat) : Prop := ∃ b, ba_be M R L b ∧ be = ba_en M R L b ∧ be ≤ 600 ∧ ∀ j, j < 8 → L j ≠ 0 → P j = ba_dg M L b j + 1
theorem ba_mp23 {post : SX → Prop} {b : Nat} (h0M : 0 < M) (hM : M ≤ 3) (hR : ∀ m, R m ≤ 60) (hL : ∀ j, L j ≤ 60) (h8 : L 8 = 0) (hb : ba_be M R L b) (hbe : be = ba_en M R L b) (hbb : be ≤ 600)
    (h : ∀ fr (Fx O Lf At E P : Nat → Nat), (∀ j, j < 8 → L j ≠ 0 → P j = ba_dg M L b j + 1) → post (nI M, nI D, nI fr, nI kn, nI be, ba_n R, ba_n L, ba_m Fx, ba_n O, ba_n Lf, ba_m At, ba_n E, ba_m P)) :
    ∀ d j fr (Fx O Lf At E P : Nat → Nat), j + d = 8 → ba_pre M L Fx b j → (∀ i, i < j → L i ≠ 0 → P i = ba_dg M L b i + 1) → wX_makePlan_23 post (d + 1) (nI j) (nI M) (nI D) (nI fr) (nI kn) (nI be) (ba_n R) (ba_n L) (ba_m Fx) (ba_n O) (ba_n Lf) (ba_m At) (ba_n E) (ba_m P) := by
  intro d
  induction d with
  | zero =>
    intro j fr Fx O Lf At E P hj hp hP
    have e8 : j = 8 := by omega
    subst e8
    exact pk_le 8 8 (fun _ => h fr Fx O Lf At E P hP) (fun z => absurd z (by omega))
  | succ d ih =>
    intro j fr Fx O Lf At E P hj hp hP
    have hLj := hL j
    refine pk_le 8 j (fun z => absurd z (by omega)) (fun _ => And.intro (vp_in_nI (by omega) (by omega)) ?_)
    rw [ba_cl (by omega)]
    refine pk_le (L j) 0 (fun z => ?_) (fun z => ?_)
    · exact nm_r (nI_1 j) (ih (j + 1) fr Fx O Lf At E P (by omega) ⟨ba_lt hp.1 (fun c => absurd c (by omega)), fun i h1 h2 => hp.2.1 i (by omega) h2, hp.2.2⟩ (ba_lt hP (fun c => absurd c (by omega))))
    · refine ba_fixJob h0M hM hR hL h8 (by omega) (by omega) hb hbe hbb ⟨hp.1, fun i h1 h2 => hp.2.1 i (by omega) h2, hp.2.2⟩ (fun fr Fx O Lf At E hq hx => ?_)
      refine And.intro (vp_in_nI (by omega) (by omega)) (And.intro (vp_in_nI (by omega) (by omega)) (nm_r ba_upm (nm_r (nI_1 j) (ih (j + 1) fr Fx O Lf At E _ (by omega) ⟨ba_lt hq.1 (fun _ => hx), fun i h1 h2 => hq.2.1 i (by omega) h2, hq.2.2⟩ (ba_lt (fun i hi hl => ?_) (fun _ => ?_))))))
      · rw [ba_un (by omega)]; exact hP i hi hl
      · rw [ba_us]; exact hx
theorem ba_makePlan {post : SX → Prop} (h0M : 0 < M) (hM : M ≤ 3) (hR : ∀ m, R m ≤ 60) (hL : ∀ j, L j ≤ 60) (h8 : L 8 = 0) (hk : kn ≤ 1) (hok : kn ≠ 0 → ba_ok M R L be P)
    (h : ∀ fr be (Fx O Lf At E P : Nat → Nat), ba_ok M R L be P → post (nI M, nI D, nI fr, nI 1, nI be, ba_n R, ba_n L, ba_m Fx, ba_n O, ba_n Lf, ba_m At, ba_n E, ba_m P)) : wpX_makePlan post (nI M, nI D, nI fr, nI kn, nI be, ba_n R, ba_n L, ba_m Fx, ba_n O, ba_n Lf, ba_m At, ba_n E, ba_m P) := by
  refine pk_eq kn 0 (fun z => ?_) (fun z => ?_)
  · obtain ⟨b, hb⟩ := ba_be_ex R L h0M
    refine ba_freeAll (kn := 1) (fun Fx h0 => ?_)
    refine ba_findLeastEnd (kn := 1) h0M hM hR hL h8 h0 (fun v fr O Lf At E hv hf hn => ?_)
    have hbe := ba_opt h0M h8 h0 hf hn hb
    refine Exists.intro 9 (ba_mp23 (kn := 1) h0M hM hR hL h8 hb hbe hv (fun fr Fx O Lf At E P hP => h fr v Fx O Lf At E P ⟨b, hb, hbe, hv, hP⟩) 8 0 fr Fx O Lf At E P rfl ⟨fun i hi => absurd hi (by omega), fun i _ h9 => h0 i h9, fun i h9 => by rw [h0 i h9]; omega⟩ (fun i hi => absurd hi (by omega)))
  · have e : kn = 1 := by omega
    subst e
    exact h fr be Fx O Lf At E P (hok z)
end
end
section
/-! X: endOf's loop, room, jobs -/
section
variable {M D fr kn be : Nat} {R L Fx O Lf At E P : Nat → Nat}
theorem ba_endOf_l {post : Int32 → SX → Prop} {b m : Nat} (h0M : 0 < M) (hM : M ≤ 3) (hm : m < M) (hL : ∀ j, L j ≤ 60) (hP : ∀ j, j < 8 → L j ≠ 0 → P j = ba_dg M L b j + 1)
    (h : post (nI (ba_ld M R L b m)) (nI M, nI D, nI fr, nI kn, nI be, ba_n R, ba_n L, ba_m Fx, ba_n O, ba_n Lf, ba_m At, ba_n E, ba_m P)) :
    ∀ d j e, j + d = 8 → e = R m + ba_S (fun i => if ba_dg M L b i = m then L i else 0) j → wX_endOf_28 post (nI m) (nI M) (nI D) (nI fr) (nI kn) (nI be) (ba_n R) (ba_n L) (ba_m Fx) (ba_n O) (ba_n Lf) (ba_m At) (ba_n E) (ba_m P) (d + 1) (nI e) (nI j) := by
  intro d
  induction d with
  | zero =>
    intro j e hj he
    have e8 : j = 8 := by omega
    subst e8
    exact pk_le 8 8 (fun _ => by rw [he]; exact h) (fun z => absurd z (by omega))
  | succ d ih =>
    intro j e hj he
    have hLj := hL j
    refine pk_le 8 j (fun z => absurd z (by omega)) (fun _ => And.intro (vp_in_nI (by omega) (by omega)) ?_)
    rw [ba_cl (by omega)]
    refine pk_le (L j) 0 (fun z => ?_) (fun z => And.intro (vp_in_nI (by omega) (by omega)) ?_)
    · refine nm_r (nI_1 j) (ih (j + 1) e (by omega) ?_)
      rw [ba_S_s, show L j = 0 from by omega, ite_self]; exact he
    · have hPj := hP j (by omega) (by omega)
      have hdM : ba_dg M L b j < M := ba_dg_lt h0M
      rw [show ba_m P j = nI (ba_dg M L b j) from by unfold ba_m; rw [hPj]; exact nI_pred _]
      refine pk_eq (ba_dg M L b j) m (fun c => And.intro (vp_in_nI (by omega) (by omega)) ?_) (fun c => ?_)
      · rw [show nI e + ba_n L j = nI (e + L j) from nI_add _ _]
        refine nm_e (nm_r (nI_1 j) (ih (j + 1) (e + L j) (by omega) ?_))
        rw [ba_S_s]
        try dsimp only
        rw [if_pos c]; omega
      · refine nm_r (nI_1 j) (ih (j + 1) e (by omega) ?_)
        rw [ba_S_s]
        try dsimp only
        rw [if_neg c]; exact he
/-- the greatest length for one more job -/
def ba_mo (M : Nat) (R L : Nat → Nat) (D v : Nat) : Prop := v ≤ 60 ∧ (v = 0 ∨ ba_fy M R L D v) ∧ ∀ w, v < w → w ≤ 60 → ¬ ba_fy M R L D w
theorem ba_mo_un {M D v w : Nat} {R L : Nat → Nat} (hv : ba_mo M R L D v) (hw : ba_mo M R L D w) : v = w := by
  by_cases h1 : v < w
  · cases hw.2.1 with
    | inl h => omega
    | inr h => exact absurd h (hv.2.2 w h1 hw.1)
  · by_cases h2 : w < v
    · cases hv.2.1 with
      | inl h => omega
      | inr h => exact absurd h (hw.2.2 v h2 hv.1)
    · omega
theorem ba_mo_fy {M D v w : Nat} {R L : Nat → Nat} (hv : ba_mo M R L D v) (h1 : 1 ≤ w) (h60 : w ≤ 60) : ba_fy M R L D w ↔ w ≤ v := by
  constructor
  · intro h
    by_cases c : w ≤ v
    · exact c
    · exact absurd h (hv.2.2 w (by omega) h60)
  · intro h
    cases hv.2.1 with
    | inl z => omega
    | inr z => exact ba_fy_mono z h
theorem ba_room_l {post : Int32 → SX → Prop} (h0M : 0 < M) (hM : M ≤ 3) (hD : D ≤ 300) (hR : ∀ m, R m ≤ 60) (hL : ∀ j, L j ≤ 60) (h8 : L 8 = 0)
    (h : ∀ v fr (Fx O Lf At E : Nat → Nat), ba_mo M R L D v → post (nI v) (nI M, nI D, nI fr, nI kn, nI be, ba_n R, ba_n L, ba_m Fx, ba_n O, ba_n Lf, ba_m At, ba_n E, ba_m P)) :
    ∀ d st lo hi fr (Fx O Lf At E : Nat → Nat), st + d = 7 → hi < lo + 2 ^ d → lo ≤ hi → hi ≤ 60 → (lo = 0 ∨ ba_fy M R L D lo) → (∀ w, hi < w → w ≤ 60 → ¬ ba_fy M R L D w) → wX_room_7 post (d + 1) (nI lo) (nI hi) (nI st) (nI M) (nI D) (nI fr) (nI kn) (nI be) (ba_n R) (ba_n L) (ba_m Fx) (ba_n O) (ba_n Lf) (ba_m At) (ba_n E) (ba_m P) := by
  intro d
  induction d with
  | zero =>
    intro st lo hi fr Fx O Lf At E hst hlt hle hhi hfe hno
    rw [Nat.pow_zero] at hlt
    have e : lo = hi := by omega
    subst e
    exact pk_le 7 st (fun _ => h lo fr Fx O Lf At E ⟨hhi, hfe, hno⟩) (fun z => absurd z (by omega))
  | succ d ih =>
    intro st lo hi fr Fx O Lf At E hst hlt hle hhi hfe hno
    rw [Nat.pow_succ] at hlt
    refine pk_le 7 st (fun z => absurd z (by omega)) (fun _ => pk_le hi lo (fun c => ?_) (fun c => And.intro (by decide) ?_))
    · have e : lo = hi := by omega
      subst e
      exact h lo fr Fx O Lf At E ⟨hhi, hfe, hno⟩
    · rw [nI_add, nI_1, show nI (lo + hi + 1) / 2 = nI ((lo + hi + 1) / 2) from pk_div (d := 2) (by omega) (by omega) (by omega)]
      refine nm_e ?_
      have h1 : lo < (lo + hi + 1) / 2 := by omega
      have h2 : (lo + hi + 1) / 2 ≤ hi := by omega
      have h3 : (lo + hi + 1) / 2 - 1 < lo + 2 ^ d := by omega
      have h4 : hi < (lo + hi + 1) / 2 + 2 ^ d := by omega
      generalize (lo + hi + 1) / 2 = mid at h1 h2 h3 h4 ⊢
      refine ba_fitsWith h0M hM hD hR hL h8 (by omega) (fun hf fr Fx O Lf At E => ?_) (fun hf fr Fx O Lf At E => ?_)
      · exact br_f (by decide) (nm_r (nI_1 st) (ih (st + 1) mid hi fr Fx O Lf At E (by omega) h4 h2 hhi (Or.inr hf) hno))
      · refine br_t rfl (nm_r (ba_mp (by omega)) (nm_r (nI_1 st) (ih (st + 1) lo (mid - 1) fr Fx O Lf At E (by omega) h3 (by omega) (by omega) hfe (fun w hw _ hz => hf (ba_fy_mono hz (by omega))))))
theorem ba_room {post : Int32 → SX → Prop} (h0M : 0 < M) (hM : M ≤ 3) (hD : D ≤ 300) (hR : ∀ m, R m ≤ 60) (hL : ∀ j, L j ≤ 60) (h8 : L 8 = 0)
    (h : ∀ v fr (Fx O Lf At E : Nat → Nat), ba_mo M R L D v → post (nI v) (nI M, nI D, nI fr, nI kn, nI be, ba_n R, ba_n L, ba_m Fx, ba_n O, ba_n Lf, ba_m At, ba_n E, ba_m P)) : wpX_room post (nI M, nI D, nI fr, nI kn, nI be, ba_n R, ba_n L, ba_m Fx, ba_n O, ba_n Lf, ba_m At, ba_n E, ba_m P) :=
  Exists.intro 8 (ba_room_l h0M hM hD hR hL h8 h 7 0 0 60 fr Fx O Lf At E rfl (by decide) (by omega) (by omega) (Or.inl rfl) (fun w h1 h2 => absurd h1 (by omega)))
theorem ba_jobs_l {post : Int32 → Prop} (hL : ∀ j, L j ≤ 60) (h : post (nI (ba_cn L 8))) : ∀ d j, j + d = 8 → wX_jobs_4 post (nI M) (nI D) (nI fr) (nI kn) (nI be) (ba_n R) (ba_n L) (ba_m Fx) (ba_n O) (ba_n Lf) (ba_m At) (ba_n E) (ba_m P) (d + 1) (nI (ba_cn L j)) (nI j) := by
  intro d
  induction d with
  | zero =>
    intro j hj
    have e8 : j = 8 := by omega
    subst e8
    exact pk_le 8 8 (fun _ => h) (fun z => absurd z (by omega))
  | succ d ih =>
    intro j hj
    have hLj := hL j
    refine pk_le 8 j (fun z => absurd z (by omega)) (fun _ => And.intro (vp_in_nI (by omega) (by omega)) ?_)
    rw [ba_cl (by omega)]
    refine pk_le (L j) 0 (fun z => nm_r (nI_1 j) ?_) (fun z => nm_r (nI_1 _) (nm_r (nI_1 j) ?_))
    · have := ih (j + 1) (by omega)
      rw [ba_cn_0 (by omega)] at this
      exact this
    · have := ih (j + 1) (by omega)
      rw [ba_cn_1 (by omega)] at this
      exact this
theorem ba_jobs {post : Int32 → Prop} (hL : ∀ j, L j ≤ 60) (h : post (nI (ba_cn L 8))) : wpX_jobs post (nI M, nI D, nI fr, nI kn, nI be, ba_n R, ba_n L, ba_m Fx, ba_n O, ba_n Lf, ba_m At, ba_n E, ba_m P) :=
  Exists.intro 9 (ba_jobs_l hL h 8 0 rfl)
end
end
section
/-! Y: jobs, plans, lay, greatest, choose -/
section
variable {M D : Nat} {R L H K G E : Nat → Nat}
/-- Y's held jobs and lengths are X's lengths -/
def ba_hk (L H K : Nat → Nat) : Prop := (∀ j, H j ≤ 1) ∧ (∀ j, j < 8 → (H j = 0 ↔ L j = 0)) ∧ ∀ j, j < 8 → L j ≠ 0 → K j = L j
theorem ba_yjobs_l {post : Int32 → Prop} (hh : ba_hk L H K) (h : post (nI (ba_cn L 8))) : ∀ d j, j + d = 8 → wY_jobs_4 post (nI M) (nI D) (ba_n R) (ba_n H) (ba_n K) (ba_n G) (ba_n E) (d + 1) (nI (ba_cn L j)) (nI j) := by
  intro d
  induction d with
  | zero =>
    intro j hj
    have e8 : j = 8 := by omega
    subst e8
    exact pk_le 8 8 (fun _ => h) (fun z => absurd z (by omega))
  | succ d ih =>
    intro j hj
    have hHj := hh.1 j
    have hHL := hh.2.1 j (by omega)
    refine pk_le 8 j (fun z => absurd z (by omega)) (fun _ => And.intro (vp_in_nI (by omega) (by omega)) ?_)
    rw [ba_cl (by omega)]
    refine pk_eq (H j) 0 (fun z => nm_r (nI_1 j) ?_) (fun z => nm_r (nI_1 _) (nm_r (nI_1 j) ?_))
    · have := ih (j + 1) (by omega)
      rw [ba_cn_0 (hHL.mp z)] at this
      exact this
    · have := ih (j + 1) (by omega)
      rw [ba_cn_1 (fun c => z (hHL.mpr c))] at this
      exact this
theorem ba_yjobs {post : Int32 → Prop} (hh : ba_hk L H K) (h : post (nI (ba_cn L 8))) : wpY_jobs post (nI M, nI D, ba_n R, ba_n H, ba_n K, ba_n G, ba_n E) :=
  Exists.intro 9 (ba_yjobs_l hh h 8 0 rfl)
theorem ba_ypow_l {post : Int32 → Prop} {n : Nat} (hn : n ≤ 8) (h : post (nI (M ^ n))) : ∀ d i, i + d = n → wY_power_4 post (nI M) (nI n) (d + 1) (nI (M ^ i)) (nI i) := by
  intro d
  induction d with
  | zero =>
    intro i hi
    have e : i = n := by omega
    subst e
    exact pk_le i i (fun _ => h) (fun z => absurd z (by omega))
  | succ d ih =>
    intro i hi
    refine pk_le n i (fun z => absurd z (by omega)) (fun _ => ?_)
    rw [pk_mul]
    exact nm_e (nm_r (nI_1 i) (ih (i + 1) (by omega)))
theorem ba_yplans {post : Int32 → Prop} (hh : ba_hk L H K) (h : post (nI (M ^ ba_cn L 8))) : wpY_plans post (nI M, nI D, ba_n R, ba_n H, ba_n K, ba_n G, ba_n E) := by
  refine ba_yjobs hh ?_
  exact Exists.intro (ba_cn L 8 + 1) (ba_ypow_l (ba_cn_bd L 8) h (ba_cn L 8) 0 (Nat.zero_add _))
/-- the plan a is laid down -/
def ba_laid (M : Nat) (R L : Nat → Nat) (a : Nat) (G E : Nat → Nat) : Prop := (∀ i, i < 8 → L i ≠ 0 → G i = ba_dg M L a i) ∧ ∀ m, m < M → E m = ba_ld M R L a m
theorem ba_lay33 {post : SY → Prop} {a : Nat} (h0M : 0 < M) (hM : M ≤ 3) (hh : ba_hk L H K) (ha : a < 100000)
    (h : ∀ G E : Nat → Nat, ba_laid M R L a G E → post (nI M, nI D, ba_n R, ba_n H, ba_n K, ba_n G, ba_n E)) :
    ∀ j (G E : Nat → Nat), j ≤ 8 → (∀ i, j ≤ i → i < 8 → L i ≠ 0 → G i = ba_dg M L a i) → (∀ m, m < M → E m = R m + ba_T (fun i => if ba_dg M L a i = m then L i else 0) (8 - j) j) → wY_lay_33 post (nI M) (nI D) (j + 1) (nI (ba_px M L a j)) (nI j - 1) (ba_n R) (ba_n H) (ba_n K) (ba_n G) (ba_n E) := by
  intro j
  induction j with
  | zero =>
    intro G E hj hG hE
    refine ba_br 0 (fun _ => h G E ⟨fun i hi => hG i (by omega) hi, fun m hm => ?_⟩) (fun z => absurd z (by omega)) (by decide)
    rw [hE m hm]
    have h1 := ba_T_S (fun i => if ba_dg M L a i = m then L i else 0) 8 0
    rw [ba_S_0, Nat.zero_add, Nat.zero_add] at h1
    unfold ba_ld
    rw [← h1]
  | succ j ih =>
    intro G E hj hG hE
    have hHj := hh.1 j
    have hHL := hh.2.1 j (by omega)
    have hpx : ba_px M L a (j + 1) ≤ a := Nat.div_le_self _ _
    refine ba_br (j + 1) (fun z => absurd z (by omega)) (fun _ => ?_) (by omega)
    rw [nI_pred, ba_cl (by omega)]
    refine And.intro (vp_in_nI (by omega) (by omega)) (pk_eq (H j) 0 (fun z => ?_) (fun z => ?_))
    · have hl : L j = 0 := hHL.mp z
      have e : ba_px M L a (j + 1) = ba_px M L a j := by unfold ba_px; rw [ba_cn_0 hl]
      rw [e]
      refine nm_r (ba_madd j) (ih G E (by omega) (fun i h1 h2 h3 => ?_) (fun m hm => ?_))
      · have : i ≠ j := fun c => h3 (by rw [c]; exact hl)
        exact hG i (by omega) h2 h3
      · rw [hE m hm, show 8 - j = (8 - (j + 1)) + 1 from by omega, ba_T_s, hl, ite_self]; rfl
    · have hl : L j ≠ 0 := fun c => z (hHL.mpr c)
      have hKj := hh.2.2 j (by omega) hl
      have hdg : ba_px M L a (j + 1) % M = ba_dg M L a j := rfl
      have hdM : ba_dg M L a j < M := ba_dg_lt h0M
      refine pk_le M 0 (fun c => absurd c (by omega)) (fun _ => And.intro (nI_ne0 h0M (by omega)) (And.intro (vp_in_nI (by omega) (by omega)) ?_))
      rw [pk_rem (by omega) h0M (by omega), hdg, pk_div (by omega) h0M (by omega), ba_px_1 (by omega) hl]
      refine nm_r ba_upn (And.intro (nI_ne0 h0M (by omega)) (nm_e (And.intro (vp_in_nI (by omega) (by omega)) ?_)))
      rw [show ba_n (ba_u G j (ba_dg M L a j)) j = nI (ba_dg M L a j) from congrArg nI ba_us, ba_cl (by omega : ba_dg M L a j ≤ 100000)]
      refine And.intro (vp_in_nI (by omega) (by omega)) (And.intro (vp_in_nI (by omega) (by omega)) (And.intro (vp_in_nI (by omega) (by omega)) ?_))
      refine nm_r (ba_upa (x := K j)) (nm_r (ba_madd j) (ih _ _ (by omega) (fun i h1 h2 h3 => ?_) (fun m hm => ?_)))
      · by_cases e : i = j
        · subst e; rw [ba_us]
        · rw [ba_un e]; exact hG i (by omega) h2 h3
      · rw [ba_a_eq, hE m hm, show 8 - j = (8 - (j + 1)) + 1 from by omega, ba_T_s, hKj]
        try dsimp only
        omega
theorem ba_lay4 {post : SY → Prop} {a : Nat} (h0M : 0 < M) (hM : M ≤ 3) (hh : ba_hk L H K) (ha : a < 100000)
    (h : ∀ G E : Nat → Nat, ba_laid M R L a G E → post (nI M, nI D, ba_n R, ba_n H, ba_n K, ba_n G, ba_n E)) :
    ∀ d m (E : Nat → Nat), m + d = M → (∀ i, i < m → E i = R i) → wY_lay_4 post (nI a) (nI M) (nI D) (d + 1) (nI m) (ba_n R) (ba_n H) (ba_n K) (ba_n G) (ba_n E) := by
  intro d
  induction d with
  | zero =>
    intro m E hm hp
    refine pk_le M m (fun _ => Exists.intro 9 ?_) (fun z => absurd z (by omega))
    have := ba_lay33 (post := post) (D := D) h0M hM hh ha h 8 G E (Nat.le_refl _) (fun i h1 h2 => absurd h1 (by omega)) (fun i hi => by rw [hp i (by omega)]; rfl)
    rw [show ba_px M L a 8 = a from by unfold ba_px; rw [Nat.sub_self, Nat.pow_zero, Nat.div_one]] at this
    exact this
  | succ d ih =>
    intro m E hm hp
    refine pk_le M m (fun z => absurd z (by omega)) (fun _ => And.intro (vp_in_nI (by omega) (by omega)) (And.intro (vp_in_nI (by omega) (by omega)) ?_))
    rw [ba_cl (by omega)]
    refine nm_r (ba_upn (x := R m)) (nm_r (nI_1 m) (ih (m + 1) _ (by omega) (ba_lt (fun i hi => ?_) ba_us)))
    rw [ba_un (by omega)]; exact hp i hi
theorem ba_lay {post : SY → Prop} {a : Nat} (h0M : 0 < M) (hM : M ≤ 3) (hh : ba_hk L H K) (ha : a < 100000)
    (h : ∀ G E : Nat → Nat, ba_laid M R L a G E → post (nI M, nI D, ba_n R, ba_n H, ba_n K, ba_n G, ba_n E)) : wpY_lay post (nI M, nI D, ba_n R, ba_n H, ba_n K, ba_n G, ba_n E) (nI a) :=
  Exists.intro (M + 1) (ba_lay4 h0M hM hh ha h M 0 E (Nat.zero_add _) (fun i hi => absurd hi (by omega)))
theorem ba_mx_bd {f : Nat → Nat} {c n : Nat} (h : ∀ m, m < n → f m ≤ c) : ba_mx f n ≤ c := (ba_mx_le n).mpr h
theorem ba_great_l {post : Int32 → Prop} (hM : M ≤ 3) (hE : ∀ m, m < M → E m ≤ 2000) (h : post (nI (ba_mx E M))) : ∀ d m, m + d = M → wY_greatest_4 post (nI M) (nI D) (ba_n R) (ba_n H) (ba_n K) (ba_n G) (ba_n E) (d + 1) (nI (ba_mx E m)) (nI m) := by
  intro d
  induction d with
  | zero =>
    intro m hm
    have e : m = M := by omega
    subst e
    exact pk_le m m (fun _ => h) (fun z => absurd z (by omega))
  | succ d ih =>
    intro m hm
    have h1 := hE m (by omega)
    have h2 := ba_mx_bd (f := E) (n := m) (c := 2000) (fun i hi => hE i (by omega))
    have h3 := ih (m + 1) (by omega)
    rw [show ba_mx E (m + 1) = if E m ≤ ba_mx E m then ba_mx E m else E m from rfl] at h3
    refine pk_le M m (fun z => absurd z (by omega)) (fun _ => And.intro (vp_in_nI (by omega) (by omega)) ?_)
    rw [ba_cl (by omega)]
    refine pk_le (E m) (ba_mx E m) (fun c => nm_r (nI_1 m) ?_) (fun c => And.intro (vp_in_nI (by omega) (by omega)) (nm_r (e' := nI (E m)) rfl (nm_r (nI_1 m) ?_)))
    · rw [if_pos c] at h3; exact h3
    · rw [if_neg (by omega)] at h3; exact h3
theorem ba_mx_congr {f g : Nat → Nat} : ∀ n, (∀ m, m < n → f m = g m) → ba_mx f n = ba_mx g n := by
  intro n
  induction n with
  | zero => intro _; rfl
  | succ n ih =>
    intro h
    show (if f n ≤ ba_mx f n then ba_mx f n else f n) = (if g n ≤ ba_mx g n then ba_mx g n else g n)
    rw [ih (fun m hm => h m (by omega)), h n (by omega)]
theorem ba_ld_bd {M : Nat} {R L : Nat → Nat} (hR : ∀ m, R m ≤ 60) (hL : ∀ j, L j ≤ 60) (a m : Nat) : ba_ld M R L a m ≤ 540 := by
  have h1 := hR m
  have h2 := ba_S_bd (f := fun i => if ba_dg M L a i = m then L i else 0) (c := 60) 8 (fun i _ => by
    try dsimp only
    split
    · exact hL i
    · omega)
  unfold ba_ld
  omega
theorem ba_great {post : Int32 → Prop} {a : Nat} (hM : M ≤ 3) (hR : ∀ m, R m ≤ 60) (hL : ∀ j, L j ≤ 60) (hl : ba_laid M R L a G E) (h : post (nI (ba_en M R L a))) : wpY_greatest post (nI M, nI D, ba_n R, ba_n H, ba_n K, ba_n G, ba_n E) := by
  refine Exists.intro (M + 1) (ba_great_l hM (fun m hm => ?_) ?_ M 0 (Nat.zero_add _))
  · rw [hl.2 m hm]
    have := ba_ld_bd (M := M) hR hL a m
    omega
  · rw [ba_mx_congr M hl.2]; exact h
theorem ba_pw {M n : Nat} (hM : M ≤ 3) (hn : n ≤ 8) : M ^ n ≤ 6561 :=
  Nat.le_trans (Nat.pow_le_pow_left hM n) (Nat.le_trans (Nat.pow_le_pow_right (by omega) hn) (by decide))
theorem ba_choose_l {post : Int32 → SY → Prop} (h0M : 0 < M) (hM : M ≤ 3) (hR : ∀ m, R m ≤ 60) (hL : ∀ j, L j ≤ 60) (hh : ba_hk L H K)
    (h : ∀ b (G E : Nat → Nat), ba_be M R L b → ba_laid M R L b G E → post (nI (ba_en M R L b)) (nI M, nI D, ba_n R, ba_n H, ba_n K, ba_n G, ba_n E)) :
    ∀ d i b v (G E : Nat → Nat), i + d = M ^ ba_cn L 8 → (i = 0 → b = 0 ∧ v = 100000) → (1 ≤ i → b < i ∧ v = ba_en M R L b ∧ (∀ a, a < i → ba_en M R L b ≤ ba_en M R L a) ∧ ∀ a, a < b → ba_en M R L b < ba_en M R L a) → wY_choose_13 post (nI (M ^ ba_cn L 8)) (d + 1) (nI b) (nI v) (nI i) (nI M) (nI D) (ba_n R) (ba_n H) (ba_n K) (ba_n G) (ba_n E) := by
  have hN := ba_pw hM (ba_cn_bd L 8)
  have hN0 : 0 < M ^ ba_cn L 8 := Nat.pow_pos h0M
  have hen : ∀ a, ba_en M R L a ≤ 540 := fun a => ba_mx_bd (fun m _ => ba_ld_bd hR hL a m)
  generalize hNe : M ^ ba_cn L 8 = N at hN hN0 ⊢
  intro d
  induction d with
  | zero =>
    intro i b v G E hi h0 h1
    obtain ⟨hb, hv, hm, hl⟩ := h1 (by omega)
    have e : i = N := by omega
    subst e
    refine pk_le i i (fun _ => ?_) (fun z => absurd z (by omega))
    refine ba_lay h0M hM hh (by omega) (fun G E hG => ?_)
    rw [hv]
    exact h b G E ⟨by omega, by rw [hNe]; exact hm, hl⟩ hG
  | succ d ih =>
    intro i b v G E hi h0 h1
    refine pk_le N i (fun z => absurd z (by omega)) (fun _ => ?_)
    refine ba_lay h0M hM hh (by omega) (fun G E hG => ?_)
    refine ba_great hM hR hL hG ?_
    have hei := hen i
    have hv : v ≤ 100000 := by
      by_cases c : i = 0
      · have := (h0 c).2; omega
      · have := (h1 (by omega)).2.1
        have := hen b
        omega
    refine pk_le v (ba_en M R L i) (fun c => nm_r (nI_1 i) (ih (i + 1) b v G E (by omega) (fun z => absurd z (by omega)) (fun _ => ?_))) (fun c => nm_r (nI_1 i) (ih (i + 1) i _ G E (by omega) (fun z => absurd z (by omega)) (fun _ => ?_)))
    · have hi1 : 1 ≤ i := by
        by_cases c0 : i = 0
        · have := (h0 c0).2; omega
        · omega
      obtain ⟨hb, hv, hm, hl⟩ := h1 hi1
      exact ⟨by omega, hv, ba_lt hm (by omega), hl⟩
    · refine ⟨by omega, rfl, ?_⟩
      by_cases c0 : i = 0
      · subst c0
        exact ⟨ba_lt (fun a ha => absurd ha (by omega)) (Nat.le_refl _), fun a ha => absurd ha (by omega)⟩
      · obtain ⟨hb, hv, hm, hl⟩ := h1 (by omega)
        exact ⟨ba_lt (fun a ha => by have := hm a ha; omega) (Nat.le_refl _), fun a ha => by have := hm a ha; omega⟩
theorem ba_choose {post : Int32 → SY → Prop} (h0M : 0 < M) (hM : M ≤ 3) (hR : ∀ m, R m ≤ 60) (hL : ∀ j, L j ≤ 60) (hh : ba_hk L H K)
    (h : ∀ b (G E : Nat → Nat), ba_be M R L b → ba_laid M R L b G E → post (nI (ba_en M R L b)) (nI M, nI D, ba_n R, ba_n H, ba_n K, ba_n G, ba_n E)) : wpY_choose post (nI M, nI D, ba_n R, ba_n H, ba_n K, ba_n G, ba_n E) := by
  refine ba_yplans hh ?_
  exact Exists.intro (M ^ ba_cn L 8 + 1) (ba_choose_l h0M hM hR hL hh h _ 0 0 100000 G E (Nat.zero_add _) (fun _ => ⟨rfl, rfl⟩) (fun z => absurd z (by omega)))
end
end
section
/-! Y: left, most, the free number -/
section
variable {M D : Nat} {R L H K G E : Nat → Nat}
theorem ba_left_l {post : Int32 → Prop} {k : Nat} (hM : M ≤ 3) (hD : D ≤ 300) (hk : k < M) (hE : ∀ m, m < M → E m ≤ 2000)
    (h1 : (∀ q, q < M → q ≠ k → E q ≤ D) → post (nI D - nI (E k))) (h0 : (∃ q, q < M ∧ q ≠ k ∧ D < E q) → post (-1)) :
    ∀ d q, q + d = M → (∀ i, i < q → i ≠ k → E i ≤ D) → wY_left_2 post (nI k) (nI M) (nI D) (ba_n R) (ba_n H) (ba_n K) (ba_n G) (ba_n E) (d + 1) (nI q) := by
  intro d
  induction d with
  | zero =>
    intro q hq hp
    have e : q = M := by omega
    subst e
    refine pk_le q q (fun _ => And.intro (vp_in_nI (by omega) (by omega)) ?_) (fun z => absurd z (by omega))
    rw [ba_cl (by omega)]
    exact h1 hp
  | succ d ih =>
    intro q hq hp
    have hEq := hE q (by omega)
    refine pk_le M q (fun z => absurd z (by omega)) (fun _ => pk_eq q k (fun c => nm_r (nI_1 q) (ih (q + 1) (by omega) (ba_lt hp (fun z => absurd c z)))) (fun c => And.intro (vp_in_nI (by omega) (by omega)) ?_))
    rw [ba_cl (by omega)]
    exact pk_le (E q) D (fun z => nm_r (nI_1 q) (ih (q + 1) (by omega) (ba_lt hp (fun _ => z)))) (fun z => h0 ⟨q, by omega, c, z⟩)
theorem ba_left {post : Int32 → Prop} {k : Nat} (hM : M ≤ 3) (hD : D ≤ 300) (hk : k < M) (hE : ∀ m, m < M → E m ≤ 2000)
    (h1 : (∀ q, q < M → q ≠ k → E q ≤ D) → post (nI D - nI (E k))) (h0 : (∃ q, q < M ∧ q ≠ k ∧ D < E q) → post (-1)) : wpY_left post (nI M, nI D, ba_n R, ba_n H, ba_n K, ba_n G, ba_n E) (nI k) :=
  Exists.intro (M + 1) (ba_left_l hM hD hk hE h1 h0 M 0 (Nat.zero_add _) (fun i hi => absurd hi (by omega)))
/-- the greatest that has been seen -/
def ba_tk (Q : Nat → Prop) (v : Nat) : Prop := (v = 0 ∨ Q v) ∧ ∀ w, v < w → ¬ Q w
def ba_lf (M : Nat) (R L : Nat → Nat) (D a k w : Nat) : Prop := ba_ld M R L a k + w ≤ D ∧ ∀ q, q < M → q ≠ k → ba_ld M R L a q ≤ D
/-- of the plans below i, and of plan i on the machines below k -/
def ba_seen (M : Nat) (R L : Nat → Nat) (D i k w : Nat) : Prop := (∃ a, a < i ∧ ∃ k, k < M ∧ ba_lf M R L D a k w) ∨ ∃ q, q < k ∧ ba_lf M R L D i q w
theorem ba_tk_same {M D i k v : Nat} {R L : Nat → Nat} (h : ba_tk (ba_seen M R L D i k) v) (hn : ∀ w, v < w → ¬ ba_lf M R L D i k w) : ba_tk (ba_seen M R L D i (k + 1)) v := by
  refine ⟨?_, fun w hw hs => ?_⟩
  · cases h.1 with
    | inl z => exact Or.inl z
    | inr z =>
      refine Or.inr ?_
      cases z with
      | inl y => exact Or.inl y
      | inr y =>
        obtain ⟨q, hq, y⟩ := y
        exact Or.inr ⟨q, by omega, y⟩
  · cases hs with
    | inl y => exact h.2 w hw (Or.inl y)
    | inr y =>
      obtain ⟨q, hq, y⟩ := y
      by_cases e : q = k
      · subst e; exact hn w hw y
      · exact h.2 w hw (Or.inr ⟨q, by omega, y⟩)
theorem ba_tk_new {M D i k v u : Nat} {R L : Nat → Nat} (h : ba_tk (ba_seen M R L D i k) v) (hu : v < u) (hl : ba_lf M R L D i k u) (hn : ∀ w, u < w → ¬ ba_lf M R L D i k w) : ba_tk (ba_seen M R L D i (k + 1)) u := by
  refine ⟨Or.inr (Or.inr ⟨k, by omega, hl⟩), fun w hw hs => ?_⟩
  cases hs with
  | inl y => exact h.2 w (by omega) (Or.inl y)
  | inr y =>
    obtain ⟨q, hq, y⟩ := y
    by_cases e : q = k
    · subst e; exact hn w hw y
    · exact h.2 w (by omega) (Or.inr ⟨q, by omega, y⟩)
theorem ba_tk_next {M D i v : Nat} {R L : Nat → Nat} (h : ba_tk (ba_seen M R L D i M) v) : ba_tk (ba_seen M R L D (i + 1) 0) v := by
  refine ⟨?_, fun w hw hs => ?_⟩
  · cases h.1 with
    | inl z => exact Or.inl z
    | inr z =>
      refine Or.inr (Or.inl ?_)
      cases z with
      | inl y =>
        obtain ⟨a, ha, y⟩ := y
        exact ⟨a, by omega, y⟩
      | inr y =>
        obtain ⟨q, hq, y⟩ := y
        exact ⟨i, by omega, q, hq, y⟩
  · cases hs with
    | inl y =>
      obtain ⟨a, ha, k, hk, y⟩ := y
      by_cases e : a = i
      · subst e; exact h.2 w hw (Or.inr ⟨k, hk, y⟩)
      · exact h.2 w hw (Or.inl ⟨a, by omega, k, hk, y⟩)
    | inr y =>
      obtain ⟨q, hq, _⟩ := y
      omega
theorem ba_tk_mo {M D v : Nat} {R L : Nat → Nat} (h : ba_tk (ba_seen M R L D (M ^ ba_cn L 8) 0) v) : ba_mo M R L D (if v ≤ 60 then v else 60) := by
  have e : ∀ w, ba_seen M R L D (M ^ ba_cn L 8) 0 w ↔ ba_fy M R L D w := by
    intro w
    constructor
    · intro hs
      cases hs with
      | inl y => exact y
      | inr y =>
        obtain ⟨q, hq, _⟩ := y
        omega
    · intro hs
      exact Or.inl hs
  by_cases c : v ≤ 60
  · rw [if_pos c]
    refine ⟨c, ?_, fun w hw _ hs => h.2 w hw ((e w).mpr hs)⟩
    cases h.1 with
    | inl z => exact Or.inl z
    | inr z => exact Or.inr ((e v).mp z)
  · rw [if_neg c]
    refine ⟨Nat.le_refl _, ?_, fun w h1 h2 => absurd h1 (by omega)⟩
    cases h.1 with
    | inl z => omega
    | inr z => exact Or.inr (ba_fy_mono ((e v).mp z) (by omega))
theorem ba_cmp1 {v : Nat} (hv : v ≤ 300) : (-1 : Int32) ≤ nI v := by
  rw [Int32.le_iff_toInt_le, nI_toInt (by omega), show (-1 : Int32).toInt = -1 from by decide]
  omega
theorem ba_cmp2 {D e v : Nat} (hD : D ≤ 300) (he : e ≤ 2000) (hv : v ≤ 300) : nI D - nI e ≤ nI v ↔ D ≤ v + e := by
  rw [Int32.le_iff_toInt_le, pk_sub_toInt (by omega) (by omega), nI_toInt (by omega)]
  omega
theorem ba_most22 {post : Int32 → SY → Prop} {J : Int32 → Int32 → Int32 → Int32 → (Nat → Int32) → (Nat → Int32) → (Nat → Int32) → (Nat → Int32) → (Nat → Int32) → Prop} {i : Nat} {x2 : Int32} (hM : M ≤ 3) (hD : D ≤ 300) (hR : ∀ m, R m ≤ 60) (hL : ∀ j, L j ≤ 60) (hl : ba_laid M R L i G E)
    (h : ∀ v, v ≤ 300 → ba_tk (ba_seen M R L D (i + 1) 0) v → J (nI v) (nI (i + 1)) (nI M) (nI D) (ba_n R) (ba_n H) (ba_n K) (ba_n G) (ba_n E)) :
    ∀ d k v, k + d = M → v ≤ 300 → ba_tk (ba_seen M R L D i k) v → wY_most_22 post J x2 (nI i) (nI M) (nI D) (ba_n R) (ba_n H) (ba_n K) (ba_n G) (ba_n E) (d + 1) (nI v) (nI k) := by
  have hE : ∀ m, m < M → E m ≤ 2000 := fun m hm => by
    rw [hl.2 m hm]
    have := ba_ld_bd (M := M) hR hL i m
    omega
  intro d
  induction d with
  | zero =>
    intro k v hk hv ht
    have e : k = M := by omega
    subst e
    exact pk_le k k (fun _ => nm_r (nI_1 i) (h v hv (ba_tk_next ht))) (fun z => absurd z (by omega))
  | succ d ih =>
    intro k v hk hv ht
    have hEk := hE k (by omega)
    have hlk := hl.2 k (by omega)
    refine pk_le M k (fun z => absurd z (by omega)) (fun _ => ?_)
    refine ba_left hM hD (by omega) hE (fun hq => ?_) (fun hq => ?_)
    · by_cases c : D ≤ v + E k
      · refine br_t ((ba_cmp2 hD hEk hv).mpr c) (nm_r (nI_1 k) (ih (k + 1) v (by omega) hv (ba_tk_same ht (fun w hw hz => ?_))))
        have := hz.1
        omega
      · refine br_f (fun z => c ((ba_cmp2 hD hEk hv).mp z)) (nm_r (nI_1 k) ?_)
        rw [pk_sub (by omega)]
        refine ih (k + 1) (D - E k) (by omega) (by omega) (ba_tk_new ht (by omega) ⟨by omega, fun q h1 h2 => ?_⟩ (fun w hw hz => ?_))
        · rw [← hl.2 q h1]; exact hq q h1 h2
        · have := hz.1
          omega
    · obtain ⟨q, h1, h2, h3⟩ := hq
      refine br_t (ba_cmp1 hv) (nm_r (nI_1 k) (ih (k + 1) v (by omega) hv (ba_tk_same ht (fun w hw hz => ?_))))
      have h4 := hz.2 q h1 h2
      rw [← hl.2 q h1] at h4
      omega
theorem ba_most9 {post : Int32 → SY → Prop} (h0M : 0 < M) (hM : M ≤ 3) (hD : D ≤ 300) (hR : ∀ m, R m ≤ 60) (hL : ∀ j, L j ≤ 60) (hh : ba_hk L H K)
    (h : ∀ v (G E : Nat → Nat), ba_mo M R L D v → post (nI v) (nI M, nI D, ba_n R, ba_n H, ba_n K, ba_n G, ba_n E)) :
    ∀ d i v (G E : Nat → Nat), i + d = M ^ ba_cn L 8 → v ≤ 300 → ba_tk (ba_seen M R L D i 0) v → wY_most_9 post (nI (M ^ ba_cn L 8)) (d + 1) (nI v) (nI i) (nI M) (nI D) (ba_n R) (ba_n H) (ba_n K) (ba_n G) (ba_n E) := by
  have hN := ba_pw hM (ba_cn_bd L 8)
  generalize hNe : M ^ ba_cn L 8 = N at hN ⊢
  intro d
  induction d with
  | zero =>
    intro i v G E hi hv ht
    have e : i = N := by omega
    subst e
    rw [← hNe] at ht
    have hm := ba_tk_mo ht
    refine pk_le i i (fun _ => pk_le v 60 (fun c => h v G E ?_) (fun c => h 60 G E ?_)) (fun z => absurd z (by omega))
    · rw [if_pos c] at hm; exact hm
    · rw [if_neg (by omega)] at hm; exact hm
  | succ d ih =>
    intro i v G E hi hv ht
    refine pk_le N i (fun z => absurd z (by omega)) (fun _ => ?_)
    refine ba_lay h0M hM hh (by omega) (fun G E hG => ?_)
    exact Exists.intro (M + 1) (ba_most22 hM hD hR hL hG (fun v hv ht => ih (i + 1) v G E (by omega) hv ht) M 0 v (Nat.zero_add _) hv ht)
theorem ba_most {post : Int32 → SY → Prop} (h0M : 0 < M) (hM : M ≤ 3) (hD : D ≤ 300) (hR : ∀ m, R m ≤ 60) (hL : ∀ j, L j ≤ 60) (hh : ba_hk L H K)
    (h : ∀ v (G E : Nat → Nat), ba_mo M R L D v → post (nI v) (nI M, nI D, ba_n R, ba_n H, ba_n K, ba_n G, ba_n E)) : wpY_most post (nI M, nI D, ba_n R, ba_n H, ba_n K, ba_n G, ba_n E) := by
  refine ba_yplans hh ?_
  refine Exists.intro (M ^ ba_cn L 8 + 1) (ba_most9 h0M hM hD hR hL hh h _ 0 0 G E (Nat.zero_add _) (Nat.zero_le _) ⟨Or.inl rfl, fun w hw hs => ?_⟩)
  cases hs with
  | inl y =>
    obtain ⟨a, ha, _⟩ := y
    omega
  | inr y =>
    obtain ⟨q, hq, _⟩ := y
    omega
theorem ba_yoffer38 {post : Int32 → SY → Prop} {x j0 : Nat} (hh : ba_hk L H K) (hj0 : j0 < 8) (hz : L j0 = 0) (hl : ∀ i, i < j0 → L i ≠ 0)
    (h : post (nI j0) (nI M, nI D, ba_n R, ba_n (ba_u H j0 1), ba_n (ba_u K j0 x), ba_n G, ba_n E)) : ∀ d j, j + d = j0 → wY_offer_38 post (nI x) (nI M) (nI D) (ba_n R) (ba_n H) (ba_n K) (ba_n G) (ba_n E) (d + 1) (nI j) := by
  intro d
  induction d with
  | zero =>
    intro j hj
    have e : j = j0 := by omega
    subst e
    refine pk_le 8 j (fun z => absurd z (by omega)) (fun _ => And.intro (vp_in_nI (by omega) (by omega)) ?_)
    rw [ba_cl (by omega)]
    refine br_t (show ba_n H j = 0 from by unfold ba_n; rw [(hh.2.1 j hj0).mpr hz]; rfl) (And.intro (vp_in_nI (by omega) (by omega)) ?_)
    exact nm_r (ba_upn (x := 1)) (And.intro (vp_in_nI (by omega) (by omega)) (nm_r ba_upn h))
  | succ d ih =>
    intro j hj
    have hHj := hh.1 j
    have hHL := hh.2.1 j (by omega)
    refine pk_le 8 j (fun z => absurd z (by omega)) (fun _ => And.intro (vp_in_nI (by omega) (by omega)) ?_)
    rw [ba_cl (by omega)]
    exact pk_eq (H j) 0 (fun z => absurd (hHL.mp z) (hl j (by omega))) (fun _ => nm_r (nI_1 j) (ih (j + 1) (by omega)))
end
end
section
/-! the relation -/
def ba_I (M D kn be : Nat) (R L P H K : Nat → Nat) : Prop :=
  0 < M ∧ M ≤ 3 ∧ D ≤ 300 ∧ (∀ m, R m ≤ 60) ∧ (∀ j, L j ≤ 60) ∧ L 8 = 0 ∧ kn ≤ 1 ∧ (kn ≠ 0 → ba_ok M R L be P) ∧ ba_hk L H K
/-- both objects hold the same numbers; X's scratch is free; a plan that is known is the chosen one -/
def i_Rel (_ : Nat) (u : SX) (v : SY) : Prop :=
  ∃ (M D fr kn be : Nat) (R L Fx O Lf At E P H K G E2 : Nat → Nat), u = (nI M, nI D, nI fr, nI kn, nI be, ba_n R, ba_n L, ba_m Fx, ba_n O, ba_n Lf, ba_m At, ba_n E, ba_m P) ∧ v = (nI M, nI D, ba_n R, ba_n H, ba_n K, ba_n G, ba_n E2) ∧ ba_I M D kn be R L P H K
theorem ba_mk {k M D fr kn be : Nat} {R L Fx O Lf At E P H K G E2 : Nat → Nat} (h : ba_I M D kn be R L P H K) : i_Rel k (nI M, nI D, nI fr, nI kn, nI be, ba_n R, ba_n L, ba_m Fx, ba_n O, ba_n Lf, ba_m At, ba_n E, ba_m P) (nI M, nI D, ba_n R, ba_n H, ba_n K, ba_n G, ba_n E2) :=
  ⟨M, D, fr, kn, be, R, L, Fx, O, Lf, At, E, P, H, K, G, E2, rfl, rfl, h⟩
theorem ba_el {Q : SX → SY → Prop} {k : Nat} {u : SX} {v : SY} (h : ∀ (M D fr kn be : Nat) (R L Fx O Lf At E P H K G E2 : Nat → Nat), ba_I M D kn be R L P H K → Q (nI M, nI D, nI fr, nI kn, nI be, ba_n R, ba_n L, ba_m Fx, ba_n O, ba_n Lf, ba_m At, ba_n E, ba_m P) (nI M, nI D, ba_n R, ba_n H, ba_n K, ba_n G, ba_n E2)) (I : i_Rel k u v) : Q u v := by
  obtain ⟨M, D, fr, kn, be, R, L, Fx, O, Lf, At, E, P, H, K, G, E2, rfl, rfl, hI⟩ := I
  exact h M D fr kn be R L Fx O Lf At E P H K G E2 hI
theorem i_up {k : Nat} {u : SX} {v : SY} (h : i_Rel k u v) : i_Rel (k + 3) u v := h
/-! the constructors -/
theorem ba_z0 : (fun _ => 0 : Nat → Int32) = ba_n (fun _ => 0) := rfl
theorem ba_z1 : (fun _ => 0 : Nat → Int32) = ba_m (fun _ => 1) := funext fun _ => show (0 : Int32) = nI 1 - 1 from by decide
theorem ba_init {M D : Nat} (h0M : 0 < M) (hM : M ≤ 3) (hD : D ≤ 300) : i_Rel 2 (nI M, nI D, 0, 0, 0, (fun _ => 0), (fun _ => 0), (fun _ => 0), (fun _ => 0), (fun _ => 0), (fun _ => 0), (fun _ => 0), (fun _ => 0)) (nI M, nI D, (fun _ => 0), (fun _ => 0), (fun _ => 0), (fun _ => 0), (fun _ => 0)) := by
  refine ⟨M, D, 0, 0, 0, fun _ => 0, fun _ => 0, fun _ => 1, fun _ => 0, fun _ => 0, fun _ => 1, fun _ => 0, fun _ => 1, fun _ => 0, fun _ => 0, fun _ => 0, fun _ => 0, ?_, ?_, ?_⟩
  · rw [← ba_z1, ← ba_z0]; rfl
  · rw [← ba_z0]
  · exact ⟨h0M, hM, hD, fun _ => Nat.zero_le _, fun _ => Nat.zero_le _, rfl, Nat.zero_le _, fun z => absurd rfl z, fun _ => Nat.zero_le _, fun _ _ => ⟨fun _ => rfl, fun _ => rfl⟩, fun _ _ z => absurd rfl z⟩
theorem ba_k0 (k0 : Int32) : ∃ M : Nat, 0 < M ∧ M ≤ 3 ∧ (∀ (post : SX → Prop) (k1 : Int32), wX_init_24 post k1 (nI M) 0 0 0 0 0 → wpX_init post k0 k1) ∧ (∀ (post : SY → Prop) (k1 : Int32), wY_init_62 post k1 (nI M) 0 0 (fun _ => 0) (fun _ => 0) (fun _ => 0) (fun _ => 0) (fun _ => 0) → wpY_init post k0 k1) := by
  by_cases h1 : 1 ≤ k0
  · by_cases h3 : k0 ≤ 3
    · have hn : ¬ k0 < 0 := Int32.not_lt.mpr (Int32.le_trans (by decide) h1)
      obtain ⟨j, hj, rfl⟩ := nI_of2 (n := 3) (M := 3) (by decide) hn h3
      have hj1 : 1 ≤ j := (nI_leI (a := 1) (by omega) (by omega)).mp h1
      exact ⟨j, hj1, hj, fun post k1 h => br_t h1 (br_t h3 h), fun post k1 h => br_t h1 (br_t h3 h)⟩
    · exact ⟨3, by omega, by omega, fun post k1 h => br_t h1 (br_f h3 h), fun post k1 h => br_t h1 (br_f h3 h)⟩
  · exact ⟨1, by omega, by omega, fun post k1 h => br_f h1 h, fun post k1 h => br_f h1 h⟩
theorem ba_k1 (k1 z : Int32) : ∃ D : Nat, D ≤ 300 ∧ (∀ post : SX → Prop, post (z, nI D, 0, 0, 0, (fun _ => 0), (fun _ => 0), (fun _ => 0), (fun _ => 0), (fun _ => 0), (fun _ => 0), (fun _ => 0), (fun _ => 0)) → wX_init_24 post k1 z 0 0 0 0 0) ∧ (∀ post : SY → Prop, post (z, nI D, (fun _ => 0), (fun _ => 0), (fun _ => 0), (fun _ => 0), (fun _ => 0)) → wY_init_62 post k1 z 0 0 (fun _ => 0) (fun _ => 0) (fun _ => 0) (fun _ => 0) (fun _ => 0)) := by
  by_cases h1 : 0 ≤ k1
  · by_cases h3 : k1 ≤ 300
    · obtain ⟨j, hj, rfl⟩ := nI_of2 (n := 300) (M := 300) (by decide) (Int32.not_lt.mpr h1) h3
      exact ⟨j, hj, fun post h => br_t h1 (br_t h3 h), fun post h => br_t h1 (br_t h3 h)⟩
    · exact ⟨300, by omega, fun post h => br_t h1 (br_f h3 h), fun post h => br_t h1 (br_f h3 h)⟩
  · exact ⟨0, by omega, fun post h => br_f h1 h, fun post h => br_f h1 h⟩
theorem i_vc0 (k0 : Int32) (k1 : Int32) : wpX_init (fun u => wpY_init (fun v => i_Rel 2 u v) k0 k1) k0 k1 := by
  obtain ⟨M, h0M, hM, hX, hY⟩ := ba_k0 k0
  obtain ⟨D, hD, hX2, hY2⟩ := ba_k1 k1 (nI M)
  exact hX _ _ (hX2 _ (hY _ _ (hY2 _ (ba_init h0M hM hD))))
/-! jobs that are held, counted -/
theorem ba_cn_full {L : Nat → Nat} (h : ∀ j, j < 8 → L j ≠ 0) : ba_cn L 8 = 8 := by
  unfold ba_cn
  rw [ba_S_congr (g := fun _ => 1) 8 (fun i hi => if_neg (h i hi)), ba_S_c]
theorem ba_cn_less {L : Nat → Nat} {j : Nat} (hj : j < 8) (h : L j = 0) : ba_cn L 8 < 8 := by
  have h1 := ba_S_a (f := fun i => if L i = 0 then 0 else 1) (k := j) (x := 1) 8 hj
  have h2 := ba_S_bd (f := ba_a (fun i => if L i = 0 then 0 else 1) j 1) (c := 1) 8 (fun i _ => by
    by_cases e : i = j
    · subst e; rw [ba_as, if_pos h]; omega
    · rw [ba_an e]; split <;> omega)
  unfold ba_cn
  omega
end
section
/-! the owed statements -/
theorem ba_hk_add {L H K : Nat → Nat} {j x : Nat} (hx : 1 ≤ x) (h : ba_hk L H K) : ba_hk (ba_u L j x) (ba_u H j 1) (ba_u K j x) := by
  refine ⟨fun i => ?_, fun i hi => ?_, fun i hi hl => ?_⟩
  · by_cases e : i = j
    · subst e; rw [ba_us]; exact Nat.le_refl _
    · rw [ba_un e]; exact h.1 i
  · by_cases e : i = j
    · subst e; rw [ba_us, ba_us]; omega
    · rw [ba_un e, ba_un e]; exact h.2.1 i hi
  · by_cases e : i = j
    · subst e; rw [ba_us, ba_us]
    · rw [ba_un e] at hl
      rw [ba_un e, ba_un e]; exact h.2.2 i hi hl
theorem ba_hk_del {L H K : Nat → Nat} {j : Nat} (h : ba_hk L H K) : ba_hk (ba_u L j 0) (ba_u H j 0) K := by
  refine ⟨fun i => ?_, fun i hi => ?_, fun i hi hl => ?_⟩
  · by_cases e : i = j
    · subst e; rw [ba_us]; omega
    · rw [ba_un e]; exact h.1 i
  · by_cases e : i = j
    · subst e; rw [ba_us, ba_us]
    · rw [ba_un e, ba_un e]; exact h.2.1 i hi
  · by_cases e : i = j
    · subst e; rw [ba_us] at hl; exact absurd rfl hl
    · rw [ba_un e] at hl
      rw [ba_un e]; exact h.2.2 i hi hl
theorem ba_u_bd {f : Nat → Nat} {j x c : Nat} (h : ∀ i, f i ≤ c) (hx : x ≤ c) : ∀ i, ba_u f j x i ≤ c := by
  intro i
  by_cases e : i = j
  · subst e; rw [ba_us]; exact hx
  · rw [ba_un e]; exact h i
theorem i_vc_offer {k : Nat} {u : SX} {v : SY} (I : i_Rel k u v) (hk : k + 3 ≤ 1538) (v1 : Int32) : wpX_offer (fun r u' => wpY_offer (fun r' v' => r' = r ∧ i_Rel (k + 3) u' v') v v1) u v1 := by
  refine ba_el (Q := fun u v => wpX_offer (fun r u' => wpY_offer (fun r' v' => r' = r ∧ i_Rel (k + 3) u' v') v v1) u v1) ?_ I
  intro M D fr kn be R L Fx O Lf At E P H K G E2 hI
  obtain ⟨h0M, hM, hD, hR, hL, h8, hkn, hok, hh⟩ := hI
  have hI : ba_I M D kn be R L P H K := ⟨h0M, hM, hD, hR, hL, h8, hkn, hok, hh⟩
  unfold wpX_offer wpY_offer
  try dsimp only
  by_cases c1 : v1 < 1
  · exact br_t c1 (br_t c1 ⟨rfl, ba_mk hI⟩)
  · by_cases c2 : v1 ≤ 60
    · obtain ⟨x, hx, rfl⟩ := nI_of2 (n := 60) (M := 60) (by decide) (fun z => c1 (Int32.lt_trans z (by decide))) c2
      have hx1 : 1 ≤ x := by
        by_cases c : 1 ≤ x
        · exact c
        · exact absurd (nI_lt (a := x) (b := 1) (by omega) (by omega)) c1
      refine br_f c1 (br_t c2 ?_)
      refine ba_freeNumber hL (fun j hj hz hl => ?_) (fun hl => ?_)
      · refine br_t (nI_pos' (by omega)) ?_
        refine ba_fitsWith h0M hM hD hR hL h8 hx (fun hf fr Fx O Lf At E => ?_) (fun hf fr Fx O Lf At E => ?_)
        · refine br_f (by decide) (And.intro (vp_in_nI (by omega) (by omega)) ?_)
          rw [ba_cl (by omega)]
          refine nm_r ba_upn (br_f c1 (br_t c2 ?_))
          refine ba_yjobs hh ?_
          have hc := ba_cn_less hj hz
          refine pk_eq (ba_cn L 8) 8 (fun z => absurd z (by omega)) (fun _ => ?_)
          refine ba_most h0M hM hD hR hL hh (fun v G E2 hv => ?_)
          have hv60 := hv.1
          refine pk_le x v (fun _ => Exists.intro (j + 1) ?_) (fun z => absurd ((ba_mo_fy hv hx1 hx).mp hf) (by omega))
          refine ba_yoffer38 hh hj hz hl ⟨rfl, ba_mk (kn := 0) ⟨h0M, hM, hD, hR, ba_u_bd hL hx, ?_, Nat.zero_le _, fun z => absurd rfl z, ba_hk_add hx1 hh⟩⟩ j 0 (Nat.zero_add _)
          rw [ba_un (by omega)]; exact h8
        · refine br_t rfl (br_f c1 (br_t c2 ?_))
          refine ba_yjobs hh ?_
          have hc := ba_cn_less hj hz
          refine pk_eq (ba_cn L 8) 8 (fun z => absurd z (by omega)) (fun _ => ?_)
          refine ba_most h0M hM hD hR hL hh (fun v G E2 hv => ?_)
          have hv60 := hv.1
          exact pk_le x v (fun z => absurd ((ba_mo_fy hv hx1 hx).mpr z) hf) (fun _ => ⟨rfl, ba_mk hI⟩)
      · refine br_f (by decide) (br_f c1 (br_t c2 ?_))
        refine ba_yjobs hh ?_
        rw [ba_cn_full hl]
        exact br_t rfl ⟨rfl, ba_mk hI⟩
    · exact br_f c1 (br_f c2 (br_f c1 (br_f c2 ⟨rfl, ba_mk hI⟩)))
theorem ba_job (p : Int32) : p < 0 ∨ 7 < p ∨ ∃ j, j < 8 ∧ p = nI j := by
  by_cases h : p < 0
  · exact Or.inl h
  · obtain ⟨j, hj, rfl⟩ := nI_of h
    by_cases c : j < 8
    · exact Or.inr (Or.inr ⟨j, c, rfl⟩)
    · exact Or.inr (Or.inl (nI_lt (a := 7) (b := j) (by omega) hj))
theorem ba_job7 {j : Nat} (h : j < 8) : ¬ (7 : Int32) < nI j := nI_nlt (a := 7) (b := j) (by omega) (by omega)
theorem ba_7 {p : Int32} (h : 7 < p) : ¬ p < 0 := fun z => absurd (Int32.lt_trans h z) (by decide)
theorem i_vc_withdraw {k : Nat} {u : SX} {v : SY} (I : i_Rel k u v) (hk : k + 3 ≤ 1538) (v1 : Int32) : wpX_withdraw (fun r u' => wpY_withdraw (fun r' v' => r' = r ∧ i_Rel (k + 3) u' v') v v1) u v1 := by
  refine ba_el (Q := fun u v => wpX_withdraw (fun r u' => wpY_withdraw (fun r' v' => r' = r ∧ i_Rel (k + 3) u' v') v v1) u v1) ?_ I
  intro M D fr kn be R L Fx O Lf At E P H K G E2 hI
  obtain ⟨h0M, hM, hD, hR, hL, h8, hkn, hok, hh⟩ := hI
  have hI : ba_I M D kn be R L P H K := ⟨h0M, hM, hD, hR, hL, h8, hkn, hok, hh⟩
  unfold wpX_withdraw wpY_withdraw
  try dsimp only
  refine ba_isHeld hL (fun j hj e hl => ?_) (fun hc => ?_)
  · subst e
    have hHj := hh.1 j
    have hHL := hh.2.1 j hj
    refine br_f (by decide) (And.intro (vp_in_nI (by omega) (by omega)) ?_)
    rw [ba_cl (by omega)]
    refine nm_e (And.intro (vp_in_nI (by omega) (by omega)) (nm_r (ba_upn (x := 0)) ?_))
    refine br_f (nI_pos (by omega)) (br_f (ba_job7 hj) (And.intro (vp_in_nI (by omega) (by omega)) (pk_eq (H j) 0 (fun z => absurd (hHL.mp z) hl) (fun _ => And.intro (vp_in_nI (by omega) (by omega)) ?_))))
    refine nm_r (ba_upn (x := 0)) (And.intro (vp_in_nI (by omega) (by omega)) ⟨congrArg nI (hh.2.2 j hj hl), ba_mk (kn := 0) ⟨h0M, hM, hD, hR, ba_u_bd hL (Nat.zero_le _), ?_, Nat.zero_le _, fun z => absurd rfl z, ba_hk_del hh⟩⟩)
    rw [ba_un (by omega)]; exact h8
  · refine br_t rfl ?_
    rcases hc with h | h | ⟨j, hj, rfl, hz⟩
    · exact br_t h ⟨rfl, ba_mk hI⟩
    · exact br_f (ba_7 h) (br_t h ⟨rfl, ba_mk hI⟩)
    · have hHL := hh.2.1 j hj
      refine br_f (nI_pos (by omega)) (br_f (ba_job7 hj) (And.intro (vp_in_nI (by omega) (by omega)) ?_))
      rw [ba_cl (by omega)]
      refine br_t (show ba_n H j = 0 from by unfold ba_n; rw [hHL.mpr hz]; rfl) ⟨rfl, ba_mk hI⟩
theorem i_vc_ready {k : Nat} {u : SX} {v : SY} (I : i_Rel k u v) (hk : k + 3 ≤ 1538) (v1 : Int32) (v2 : Int32) : wpX_ready (fun r u' => wpY_ready (fun r' v' => r' = r ∧ i_Rel (k + 3) u' v') v v1 v2) u v1 v2 := by
  refine ba_el (Q := fun u v => wpX_ready (fun r u' => wpY_ready (fun r' v' => r' = r ∧ i_Rel (k + 3) u' v') v v1 v2) u v1 v2) ?_ I
  intro M D fr kn be R L Fx O Lf At E P H K G E2 hI
  obtain ⟨h0M, hM, hD, hR, hL, h8, hkn, hok, hh⟩ := hI
  have hI : ba_I M D kn be R L P H K := ⟨h0M, hM, hD, hR, hL, h8, hkn, hok, hh⟩
  unfold wpX_ready wpY_ready
  try dsimp only
  by_cases c1 : v1 < 0
  · exact br_t c1 (br_t c1 ⟨rfl, ba_mk hI⟩)
  · obtain ⟨m, hm, rfl⟩ := nI_of c1
    by_cases c2 : nI m < nI M
    · have hmM : m < M := (nI_ltI hm (by omega)).mp c2
      have hin : vp_in (nI m) 3 := vp_in_nI (by omega) (by omega)
      have new : ∀ x, x ≤ 60 → ba_I M D 0 be (ba_u R m x) L P H K := fun x hx => ⟨h0M, hM, hD, ba_u_bd hR hx, hL, h8, Nat.zero_le _, fun z => absurd rfl z, hh⟩
      rw [ba_cl (by omega)]
      refine br_f c1 (br_t c2 (And.intro hin (nm_e ?_)))
      by_cases c3 : 0 ≤ v2
      · by_cases c4 : v2 ≤ 60
        · obtain ⟨x, hx, rfl⟩ := nI_of2 (n := 60) (M := 60) (by decide) (Int32.not_lt.mpr c3) c4
          exact br_t c3 (br_t c4 (And.intro hin (nm_r ba_upn (br_f c1 (br_t c2 (And.intro hin (nm_e (br_t c3 (br_t c4 (And.intro hin (nm_r ba_upn ⟨rfl, ba_mk (new x hx)⟩)))))))))))
        · exact br_t c3 (br_f c4 (And.intro hin (nm_r (ba_upn (x := 60)) (br_f c1 (br_t c2 (And.intro hin (nm_e (br_t c3 (br_f c4 (And.intro hin (nm_r (ba_upn (x := 60)) ⟨rfl, ba_mk (new 60 (by omega))⟩)))))))))))
      · exact br_f c3 (And.intro hin (nm_r (ba_upn (x := 0)) (br_f c1 (br_t c2 (And.intro hin (nm_e (br_f c3 (And.intro hin (nm_r (ba_upn (x := 0)) ⟨rfl, ba_mk (new 0 (by omega))⟩)))))))))
    · exact br_f c1 (br_f c2 (br_f c1 (br_f c2 ⟨rfl, ba_mk hI⟩)))
theorem i_vc_end {k : Nat} {u : SX} {v : SY} (I : i_Rel k u v) (hk : k + 3 ≤ 1538) : wpX_end (fun r u' => wpY_end (fun r' v' => r' = r ∧ i_Rel (k + 3) u' v') v) u := by
  refine ba_el (Q := fun u v => wpX_end (fun r u' => wpY_end (fun r' v' => r' = r ∧ i_Rel (k + 3) u' v') v) u) ?_ I
  intro M D fr kn be R L Fx O Lf At E P H K G E2 hI
  obtain ⟨h0M, hM, hD, hR, hL, h8, hkn, hok, hh⟩ := hI
  unfold wpX_end wpY_end
  try dsimp only
  refine ba_makePlan h0M hM hR hL h8 hkn hok (fun fr be Fx O Lf At E P ho => ?_)
  refine ba_choose h0M hM hR hL hh (fun b G E2 hb hG => ?_)
  have ho2 := ho
  obtain ⟨b', hb', hbe, _, _⟩ := ho2
  refine ⟨?_, ba_mk (kn := 1) ⟨h0M, hM, hD, hR, hL, h8, Nat.le_refl _, fun _ => ho, hh⟩⟩
  rw [hbe, ba_be_un hb hb']
theorem i_vc_machineOf {k : Nat} {u : SX} {v : SY} (I : i_Rel k u v) (hk : k + 3 ≤ 1538) (v1 : Int32) : wpX_machineOf (fun r u' => wpY_machineOf (fun r' v' => r' = r ∧ i_Rel (k + 3) u' v') v v1) u v1 := by
  refine ba_el (Q := fun u v => wpX_machineOf (fun r u' => wpY_machineOf (fun r' v' => r' = r ∧ i_Rel (k + 3) u' v') v v1) u v1) ?_ I
  intro M D fr kn be R L Fx O Lf At E P H K G E2 hI
  obtain ⟨h0M, hM, hD, hR, hL, h8, hkn, hok, hh⟩ := hI
  have hI : ba_I M D kn be R L P H K := ⟨h0M, hM, hD, hR, hL, h8, hkn, hok, hh⟩
  unfold wpX_machineOf wpY_machineOf
  try dsimp only
  refine ba_isHeld hL (fun j hj e hl => ?_) (fun hc => ?_)
  · subst e
    have hHj := hh.1 j
    have hHL := hh.2.1 j hj
    refine br_f (by decide) ?_
    refine ba_makePlan h0M hM hR hL h8 hkn hok (fun fr be Fx O Lf At E P ho => ?_)
    refine And.intro (vp_in_nI (by omega) (by omega)) ?_
    refine br_f (nI_pos (by omega)) (br_f (ba_job7 hj) (And.intro (vp_in_nI (by omega) (by omega)) ?_))
    rw [ba_cl (by omega)]
    refine pk_eq (H j) 0 (fun z => absurd (hHL.mp z) hl) (fun _ => ?_)
    refine ba_choose h0M hM hR hL hh (fun b G E2 hb hG => ?_)
    obtain ⟨b', hb', hbe, hbb, hP⟩ := ho
    refine And.intro (vp_in_nI (by omega) (by omega)) ⟨?_, ba_mk (kn := 1) ⟨h0M, hM, hD, hR, hL, h8, Nat.le_refl _, fun _ => ⟨b', hb', hbe, hbb, hP⟩, hh⟩⟩
    show nI (G j) = nI (P j) - 1
    rw [hG.1 j hj hl, hP j hj hl, ba_be_un hb hb', nI_pred]
  · refine br_t rfl ?_
    rcases hc with h | h | ⟨j, hj, rfl, hz⟩
    · exact br_t h ⟨rfl, ba_mk hI⟩
    · exact br_f (ba_7 h) (br_t h ⟨rfl, ba_mk hI⟩)
    · have hHL := hh.2.1 j hj
      refine br_f (nI_pos (by omega)) (br_f (ba_job7 hj) (And.intro (vp_in_nI (by omega) (by omega)) ?_))
      rw [ba_cl (by omega)]
      refine br_t (show ba_n H j = 0 from by unfold ba_n; rw [hHL.mpr hz]; rfl) ⟨rfl, ba_mk hI⟩
theorem i_vc_endOf {k : Nat} {u : SX} {v : SY} (I : i_Rel k u v) (hk : k + 3 ≤ 1538) (v1 : Int32) : wpX_endOf (fun r u' => wpY_endOf (fun r' v' => r' = r ∧ i_Rel (k + 3) u' v') v v1) u v1 := by
  refine ba_el (Q := fun u v => wpX_endOf (fun r u' => wpY_endOf (fun r' v' => r' = r ∧ i_Rel (k + 3) u' v') v v1) u v1) ?_ I
  intro M D fr kn be R L Fx O Lf At E P H K G E2 hI
  obtain ⟨h0M, hM, hD, hR, hL, h8, hkn, hok, hh⟩ := hI
  have hI : ba_I M D kn be R L P H K := ⟨h0M, hM, hD, hR, hL, h8, hkn, hok, hh⟩
  unfold wpX_endOf wpY_endOf
  try dsimp only
  by_cases c1 : v1 < 0
  · exact br_t c1 (br_t c1 ⟨rfl, ba_mk hI⟩)
  · obtain ⟨m, hm, rfl⟩ := nI_of c1
    by_cases c2 : nI m < nI M
    · have hmM : m < M := (nI_ltI hm (by omega)).mp c2
      refine br_f c1 (br_t c2 ?_)
      refine ba_makePlan h0M hM hR hL h8 hkn hok (fun fr be Fx O Lf At E P ho => ?_)
      obtain ⟨b', hb', hbe, hbb, hP⟩ := ho
      refine And.intro (vp_in_nI (by omega) (by omega)) ?_
      rw [ba_cl (by omega)]
      refine nm_r (e' := nI (R m)) rfl (Exists.intro 9 (ba_endOf_l h0M hM hmM hL hP ?_ 8 0 (R m) rfl rfl))
      refine br_f c1 (br_t c2 ?_)
      refine ba_choose h0M hM hR hL hh (fun b G E2 hb hG => ?_)
      refine And.intro (vp_in_nI (by omega) (by omega)) ⟨?_, ba_mk (kn := 1) ⟨h0M, hM, hD, hR, hL, h8, Nat.le_refl _, fun _ => ⟨b', hb', hbe, hbb, hP⟩, hh⟩⟩
      show nI (E2 m) = _
      rw [hG.2 m hmM, ba_be_un hb hb']
    · exact br_f c1 (br_f c2 (br_f c1 (br_f c2 ⟨rfl, ba_mk hI⟩)))
theorem i_vc_room {k : Nat} {u : SX} {v : SY} (I : i_Rel k u v) (hk : k + 3 ≤ 1538) : wpX_room (fun r u' => wpY_room (fun r' v' => r' = r ∧ i_Rel (k + 3) u' v') v) u := by
  refine ba_el (Q := fun u v => wpX_room (fun r u' => wpY_room (fun r' v' => r' = r ∧ i_Rel (k + 3) u' v') v) u) ?_ I
  intro M D fr kn be R L Fx O Lf At E P H K G E2 hI
  obtain ⟨h0M, hM, hD, hR, hL, h8, hkn, hok, hh⟩ := hI
  have hI : ba_I M D kn be R L P H K := ⟨h0M, hM, hD, hR, hL, h8, hkn, hok, hh⟩
  refine ba_room h0M hM hD hR hL h8 (fun v fr Fx O Lf At E hv => ?_)
  unfold wpY_room
  try dsimp only
  refine ba_most h0M hM hD hR hL hh (fun w G E2 hw => ?_)
  exact ⟨congrArg nI (ba_mo_un hw hv), ba_mk hI⟩
theorem i_vc_jobs {k : Nat} {u : SX} {v : SY} (I : i_Rel k u v) (hk : k + 3 ≤ 1538) : wpX_jobs (fun r => wpY_jobs (fun r' => r' = r ∧ i_Rel (k + 3) u v) v) u := by
  refine ba_el (Q := fun u v => wpX_jobs (fun r => wpY_jobs (fun r' => r' = r ∧ i_Rel (k + 3) u v) v) u) ?_ I
  intro M D fr kn be R L Fx O Lf At E P H K G E2 hI
  obtain ⟨h0M, hM, hD, hR, hL, h8, hkn, hok, hh⟩ := hI
  exact ba_jobs hL (ba_yjobs hh ⟨rfl, ba_mk ⟨h0M, hM, hD, hR, hL, h8, hkn, hok, hh⟩⟩)
end
