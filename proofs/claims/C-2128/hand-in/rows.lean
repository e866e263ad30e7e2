section
theorem pk_us {f : Nat → Int32} {k : Nat} {x : Int32} : upd f k x k = x := if_pos rfl
theorem pk_un {f : Nat → Int32} {k j : Nat} {x : Int32} (h : j ≠ k) : upd f k x j = f j := if_neg h
theorem pk_uLs {f : Nat → Int64} {k : Nat} {x : Int64} : vp_updL f k x k = x := if_pos rfl
theorem pk_uLn {f : Nat → Int64} {k j : Nat} {x : Int64} (h : j ≠ k) : vp_updL f k x j = f j := if_neg h
theorem pk_sub {a b : Nat} (h : b ≤ a) : nI a - nI b = nI (a - b) := by
  obtain ⟨c, rfl⟩ : ∃ c, a = c + b := ⟨a - b, by omega⟩
  rw [← nI_add, Int32.add_sub_cancel, Nat.add_sub_cancel]
theorem pk_m1 (n : Nat) : nI (n + 1) + (-1) = nI n := by
  rw [← nI_1, Int32.add_assoc, show (1 : Int32) + (-1) = 0 from rfl, Int32.add_zero]
theorem pk_mul (a b : Nat) : nI a * nI b = nI (a * b) := (Int32.ofNat_mul a b).symm
theorem pk_div {a d : Nat} (ha : a < 2 ^ 31) (h0 : 0 < d) (hd : d < 2 ^ 31) : nI a / nI d = nI (a / d) := by
  apply Int32.toInt_inj.mp
  rw [lg_idiv_nonneg (by rw [nI_toInt ha]; omega) (by rw [nI_toInt hd]; omega), nI_toInt ha, nI_toInt hd, nI_toInt (Nat.lt_of_le_of_lt (Nat.div_le_self a d) ha)]
  first | rfl | exact (Int.natCast_ediv _ _).symm
theorem pk_rem {a d : Nat} (ha : a < 2 ^ 31) (h0 : 0 < d) (hd : d < 2 ^ 31) : nI a - nI a / nI d * nI d = nI (a % d) := by
  rw [pk_div ha h0 hd, pk_mul, pk_sub (Nat.div_mul_le_self a d)]
  exact congrArg nI (by have := Nat.div_add_mod' a d; omega)
theorem pk_sub_toInt {a b : Nat} (ha : a < 2 ^ 30) (hb : b < 2 ^ 30) : (nI a - nI b).toInt = (a : Int) - b := by
  rw [Int32.toInt_sub, nI_toInt (by omega), nI_toInt (by omega)]
  exact Int.bmod_eq_of_le (by omega) (by omega)
theorem pk_sneg {a b : Nat} (hb : b < 2 ^ 30) (h : a < b) : nI a - nI b < 0 := by
  rw [Int32.lt_iff_toInt_lt, pk_sub_toInt (by omega) hb, show (0 : Int32).toInt = 0 from by decide]
  omega
theorem pk_ix (x : Int32) {n : Nat} (hn : n < 2 ^ 31) : x < 0 ∨ nI n ≤ x ∨ ∃ j : Nat, j < n ∧ x = nI j := by
  by_cases h : x < 0
  · exact Or.inl h
  · obtain ⟨j, hj, rfl⟩ := nI_of h
    by_cases h2 : j < n
    · exact Or.inr (Or.inr ⟨j, h2, rfl⟩)
    · exact Or.inr (Or.inl (nI_le (by omega) hj))
theorem pk_le {x y : Int32} {A B : Prop} (a b : Nat) (f : a ≤ b → A) (g : b < a → B) (hx : x = nI a := by rfl) (hy : y = nI b := by rfl) (ha : a < 2 ^ 31 := by omega) (hb : b < 2 ^ 31 := by omega) : (x ≤ y → A) ∧ (¬ x ≤ y → B) := by
  subst hx hy
  rw [nI_leI ha hb]
  exact ⟨f, fun z => g (by omega)⟩
theorem pk_lt {x y : Int32} {A B : Prop} (a b : Nat) (f : a < b → A) (g : b ≤ a → B) (hx : x = nI a := by rfl) (hy : y = nI b := by rfl) (ha : a < 2 ^ 31 := by omega) (hb : b < 2 ^ 31 := by omega) : (x < y → A) ∧ (¬ x < y → B) := by
  subst hx hy
  rw [nI_ltI ha hb]
  exact ⟨f, fun z => g (by omega)⟩
theorem pk_eq {x y : Int32} {A B : Prop} (a b : Nat) (f : a = b → A) (g : a ≠ b → B) (hx : x = nI a := by rfl) (hy : y = nI b := by rfl) (ha : a < 2 ^ 31 := by omega) (hb : b < 2 ^ 31 := by omega) : (x = y → A) ∧ (¬ x = y → B) := by
  subst hx hy
  rw [nI_eq ha hb]
  exact ⟨f, g⟩
theorem pk_in {x : Int32} (n N : Nat) (h : n < N) (hx : x = nI n := by rfl) (hN : N < 2 ^ 31 := by omega) : vp_in x N := by
  subst hx
  exact vp_in_nI h hN
theorem pk_cl {x : Int32} (n : Nat) (hx : x = nI n := by rfl) (h : n < 2 ^ 31 := by omega) : x.toNatClampNeg = n := by
  subst hx
  exact nI_clamp h
end
section
theorem gl_10 : ¬ (1 : Int32) = 0 := by decide
theorem gl_20 : ¬ (2 : Int32) = 0 := by decide
theorem gl_30 : ¬ (3 : Int32) = 0 := by decide
theorem gl_b0 : vp_nar .boolean 0 = 0 := rfl
theorem gl_b1 : vp_nar .boolean 1 = 1 := rfl
theorem gl_b {x : Int32} (h : x = 0 ∨ x = 1) : vp_nar .boolean x = x := by
  rcases h with h | h
  · rw [h]; rfl
  · rw [h]; rfl
theorem gl_sub1 (n : Nat) : nI (n + 1) - 1 = nI n := nI_pred n

/-- the number of zeros of f below n -/
def gl_z (f : Nat → Int32) : Nat → Nat
  | 0 => 0
  | n + 1 => gl_z f n + (if f n = 0 then 1 else 0)
theorem gl_z_s {f : Nat → Int32} {n : Nat} (h : f n = 0) : gl_z f (n + 1) = gl_z f n + 1 := by
  show gl_z f n + (if f n = 0 then 1 else 0) = gl_z f n + 1
  rw [if_pos h]
theorem gl_z_n {f : Nat → Int32} {n : Nat} (h : ¬ f n = 0) : gl_z f (n + 1) = gl_z f n := by
  show gl_z f n + (if f n = 0 then 1 else 0) = gl_z f n
  rw [if_neg h, Nat.add_zero]
theorem gl_z_le (f : Nat → Int32) (n : Nat) : gl_z f n ≤ n := by
  induction n with
  | zero => exact Nat.le_refl 0
  | succ n ih =>
    by_cases h : f n = 0
    · rw [gl_z_s h]; omega
    · rw [gl_z_n h]; omega
theorem gl_z_c {f g : Nat → Int32} {n : Nat} (h : ∀ j, j < n → (f j = 0 ↔ g j = 0)) : gl_z f n = gl_z g n := by
  induction n with
  | zero => rfl
  | succ n ih =>
    have e := ih (fun j hj => h j (by omega))
    have q := h n (by omega)
    by_cases a : f n = 0
    · rw [gl_z_s a, gl_z_s (q.mp a), e]
    · rw [gl_z_n a, gl_z_n (fun b => a (q.mpr b)), e]
theorem gl_z_eq {f g : Nat → Int32} {n : Nat} (h : ∀ j, j < n → f j = g j) : gl_z f n = gl_z g n :=
  gl_z_c (fun j hj => by rw [h j hj])
/-- a zero is filled -/
theorem gl_z_dn {f : Nat → Int32} {k : Nat} {x : Int32} (h : f k = 0) (hx : ¬ x = 0) : ∀ n, k < n → gl_z (upd f k x) n + 1 = gl_z f n := by
  intro n hn
  induction n with
  | zero => omega
  | succ n ih =>
    by_cases e : k = n
    · subst e
      have a : ¬ upd f k x k = 0 := by rw [pk_us]; exact hx
      have b : gl_z (upd f k x) k = gl_z f k := gl_z_eq (fun j hj => pk_un (by omega))
      rw [gl_z_s h, gl_z_n a, b]
    · have ih := ih (by omega)
      have a : upd f k x n = f n := pk_un (by omega)
      by_cases z : f n = 0
      · rw [gl_z_s z, gl_z_s (a.trans z)]; omega
      · rw [gl_z_n z, gl_z_n (by rw [a]; exact z)]; omega
/-- a zero is made -/
theorem gl_z_up {f : Nat → Int32} {k : Nat} {x : Int32} (h : ¬ f k = 0) (hx : x = 0) : ∀ n, k < n → gl_z (upd f k x) n = gl_z f n + 1 := by
  intro n hn
  induction n with
  | zero => omega
  | succ n ih =>
    by_cases e : k = n
    · subst e
      have a : upd f k x k = 0 := by rw [pk_us]; exact hx
      have b : gl_z (upd f k x) k = gl_z f k := gl_z_eq (fun j hj => pk_un (by omega))
      rw [gl_z_n h, gl_z_s a, b]
    · have ih := ih (by omega)
      have a : upd f k x n = f n := pk_un (by omega)
      by_cases z : f n = 0
      · rw [gl_z_s z, gl_z_s (a.trans z)]; omega
      · rw [gl_z_n z, gl_z_n (by rw [a]; exact z)]; omega
theorem gl_z_pos {f : Nat → Int32} {k n : Nat} (h : f k = 0) (hk : k < n) : 1 ≤ gl_z f n := by
  have := gl_z_dn (x := 1) h gl_10 n hk
  omega
theorem gl_z_all {f : Nat → Int32} {n : Nat} (h : ∀ j, j < n → f j = 0) : gl_z f n = n := by
  induction n with
  | zero => rfl
  | succ n ih => rw [gl_z_s (h n (by omega)), ih (fun j hj => h j (by omega))]
theorem gl_z_full {f : Nat → Int32} {n : Nat} (h : gl_z f n = n) (j : Nat) (hj : j < n) : f j = 0 := by
  by_cases a : f j = 0
  · exact a
  · have h1 := gl_z_up (x := 0) a rfl n hj
    have h2 := gl_z_le (upd f j 0) n
    omega
theorem gl_z_co {f g : Nat → Int32} {n : Nat} (h : ∀ j, j < n → (f j = 0 ↔ ¬ g j = 0)) : gl_z f n + gl_z g n = n := by
  induction n with
  | zero => rfl
  | succ n ih =>
    have e := ih (fun j hj => h j (by omega))
    have q := h n (by omega)
    by_cases a : f n = 0
    · rw [gl_z_s a, gl_z_n (q.mp a)]; omega
    · have b : g n = 0 := by
        by_cases b : g n = 0
        · exact b
        · exact absurd (q.mpr b) a
      rw [gl_z_n a, gl_z_s b]; omega

/-- a standing grant: fields in range -/
def gl_El (t : Nat) (T G K P O : Nat → Int32) (g : Nat) : Prop :=
  ∃ m a b p : Nat, m < t ∧ a ≤ 7 ∧ 1 ≤ b ∧ b ≤ 7 ∧ p ≤ 2 ∧ a ≠ b ∧ T g = nI m ∧ G g = nI a ∧ K g = nI b ∧ P g = nI p ∧ (O g = 0 ∨ O g = 1)
/-- grant e gives the giver of grant g the right -/
def gl_Fd (G K P O : Nat → Int32) (e g : Nat) : Prop := ¬ O e = 0 ∧ K e = G g ∧ P e = P g
/-- the table of grants -/
def gl_V (t c : Nat) (T G K P O : Nat → Int32) : Prop :=
  c ≤ 48 ∧ (∀ g, g < c → gl_El t T G K P O g) ∧ (∀ i j, i < j → j < c → T i < T j) ∧ (∀ g, g < c → G g = 0 ∨ ∃ e, e < g ∧ gl_Fd G K P O e g)

def i_Rel (k : Nat) (u : SX) (v : SY) : Prop :=
  ∃ (t c : Nat) (T G K P O F Q D E : Nat → Int32), u = (nI t, nI c, 0, T, G, K, P, O, F, Q, D) ∧ v = (nI c, nI t, T, G, K, P, O, E) ∧ t ≤ k ∧ gl_V t c T G K P O ∧ (∀ g, g < c → F g = 0) ∧ (∀ j, j < 24 → D j = 0)
theorem gl_el {k : Nat} {R : SX → SY → Prop} (h : ∀ (t c : Nat) (T G K P O F Q D E : Nat → Int32), t ≤ k → gl_V t c T G K P O → (∀ g, g < c → F g = 0) → (∀ j, j < 24 → D j = 0) → R (nI t, nI c, 0, T, G, K, P, O, F, Q, D) (nI c, nI t, T, G, K, P, O, E)) {u : SX} {v : SY} (I : i_Rel k u v) : R u v := by
  obtain ⟨t, c, T, G, K, P, O, F, Q, D, E, rfl, rfl, h1, h2, h3, h4⟩ := I
  exact h t c T G K P O F Q D E h1 h2 h3 h4
theorem gl_rel {k t c : Nat} {T G K P O F Q D E : Nat → Int32} (h1 : t ≤ k) (h2 : gl_V t c T G K P O) (h3 : ∀ g, g < c → F g = 0) (h4 : ∀ j, j < 24 → D j = 0) : i_Rel k (nI t, nI c, 0, T, G, K, P, O, F, Q, D) (nI c, nI t, T, G, K, P, O, E) :=
  ⟨t, c, T, G, K, P, O, F, Q, D, E, rfl, rfl, h1, h2, h3, h4⟩

theorem gl_user (x : Int32) : (∃ a : Nat, a ≤ 7 ∧ x = nI a ∧ (∀ post : Int32 → Prop, post 1 → wpX_isUser post x) ∧ (∀ post : Int32 → Prop, post 0 → wpY_bad post x)) ∨ ((∀ post : Int32 → Prop, post 0 → wpX_isUser post x) ∧ (∀ post : Int32 → Prop, post 1 → wpY_bad post x)) := by
  unfold wpX_isUser wpY_bad
  by_cases h0 : x < 0
  · exact Or.inr ⟨fun _ h => br_t h0 h, fun _ h => br_t h0 h⟩
  · by_cases h7 : 7 < x
    · exact Or.inr ⟨fun _ h => br_f h0 (br_t h7 h), fun _ h => br_f h0 (br_f (Int32.not_le.mpr h7) h)⟩
    · have h8 : x ≤ 7 := Int32.not_lt.mp h7
      obtain ⟨a, ha, e⟩ := nI_of2 (M := 7) (n := 7) (by decide) h0 h8
      exact Or.inl ⟨a, ha, e, fun _ h => br_f h0 (br_f h7 h), fun _ h => br_f h0 (br_t h8 h)⟩
theorem gl_priv (x : Int32) : (∃ a : Nat, a ≤ 2 ∧ x = nI a ∧ (∀ post : Int32 → Prop, post 1 → wpX_isPrivilege post x) ∧ (∀ post : Int32 → Prop, post 0 → wpY_badPrivilege post x)) ∨ ((∀ post : Int32 → Prop, post 0 → wpX_isPrivilege post x) ∧ (∀ post : Int32 → Prop, post 1 → wpY_badPrivilege post x)) := by
  unfold wpX_isPrivilege wpY_badPrivilege
  by_cases h0 : x < 0
  · exact Or.inr ⟨fun _ h => br_t h0 h, fun _ h => br_t h0 h⟩
  · by_cases h7 : 2 < x
    · exact Or.inr ⟨fun _ h => br_f h0 (br_t h7 h), fun _ h => br_f h0 (br_f (Int32.not_le.mpr h7) h)⟩
    · have h8 : x ≤ 2 := Int32.not_lt.mp h7
      obtain ⟨a, ha, e⟩ := nI_of2 (M := 2) (n := 2) (by decide) h0 h8
      exact Or.inl ⟨a, ha, e, fun _ h => br_f h0 (br_f h7 h), fun _ h => br_f h0 (br_t h8 h)⟩

theorem gl_le_refl (x : Int32) : x ≤ x := by rw [Int32.le_iff_toInt_le]; omega
theorem gl_lt_irr {x : Int32} (h : x < x) : False := by rw [Int32.lt_iff_toInt_lt] at h; omega
theorem gl_lt_le {x y : Int32} (h : x < y) : x ≤ y := by rw [Int32.lt_iff_toInt_lt] at h; rw [Int32.le_iff_toInt_le]; omega
theorem gl_le_nlt {x y : Int32} (h : x ≤ y) : ¬ y < x := by rw [Int32.le_iff_toInt_le] at h; rw [Int32.lt_iff_toInt_lt]; omega
theorem gl_le_lt {x y z : Int32} (h : x ≤ y) (h2 : y < z) : x < z := by rw [Int32.le_iff_toInt_le] at h; rw [Int32.lt_iff_toInt_lt] at h2 ⊢; omega
theorem gl_lt_le_t {x y z : Int32} (h : x < y) (h2 : y ≤ z) : x < z := by rw [Int32.le_iff_toInt_le] at h2; rw [Int32.lt_iff_toInt_lt] at h ⊢; omega
theorem gl_nle_lt {x y : Int32} (h : ¬ x ≤ y) : y < x := by rw [Int32.le_iff_toInt_le] at h; rw [Int32.lt_iff_toInt_lt]; omega
/-- times: a monotone row -/
theorem gl_mono {c : Nat} {T : Nat → Int32} (h : ∀ i j, i < j → j < c → T i < T j) {i j : Nat} (hij : i ≤ j) (hj : j < c) : T i ≤ T j := by
  by_cases e : i = j
  · subst e; exact gl_le_refl _
  · exact gl_lt_le (h i j (by omega) hj)
theorem gl_mono' {c : Nat} {T : Nat → Int32} (h : ∀ i j, i < j → j < c → T i < T j) {i j : Nat} (hi : i < c) (hle : T i ≤ T j) : i ≤ j := by
  by_cases e : i ≤ j
  · exact e
  · exact absurd (h j i (by omega) hi) (gl_le_nlt hle)
end
section
section
variable {ft fw : Int32} {T G K P O F Q D E : Nat → Int32} {c : Nat}

theorem gl_received (hc : c ≤ 48) (x1 x2 : Int32) : ∀ d i : Nat, i + d = c → ∀ x3 : Int32, ∃ r : Int32, (∀ post : Int32 → Prop, post r → wX_received_21 post x1 x2 ft (nI c) fw T G K P O F Q D (d + 1) x3 (nI i)) ∧ (∀ post : Int32 → Prop, post r → wY_received_21 post x1 x2 (nI c) ft T G K P O E (d + 1) x3 (nI i)) := by
  intro d
  induction d with
  | zero =>
    intro i hi x3
    have h : nI c ≤ nI i := nI_le (by omega) (by omega)
    exact ⟨x3, fun _ hp => br_t h hp, fun _ hp => br_t h hp⟩
  | succ d ih =>
    intro i hi x3
    have h : ¬ nI c ≤ nI i := nI_ge (by omega) (by omega)
    have hv : vp_in (nI i) 48 := vp_in_nI (by omega) (by omega)
    by_cases z : K (nI i).toNatClampNeg = x1
    · by_cases y : P (nI i).toNatClampNeg = x2
      · obtain ⟨r, hX, hY⟩ := ih (i + 1) (by omega) (x3 + 1)
        exact ⟨r, fun post hp => br_f h ⟨hv, br_t z ⟨hv, br_t y (nm_e (nm_r (nI_1 i) (hX post hp)))⟩⟩, fun post hp => br_f h ⟨hv, br_t z ⟨hv, br_t y (nm_e (nm_r (nI_1 i) (hY post hp)))⟩⟩⟩
      · obtain ⟨r, hX, hY⟩ := ih (i + 1) (by omega) x3
        exact ⟨r, fun post hp => br_f h ⟨hv, br_t z ⟨hv, br_f y (nm_r (Int32.add_zero x3) (nm_r (nI_1 i) (hX post hp)))⟩⟩, fun post hp => br_f h ⟨hv, br_t z ⟨hv, br_f y (nm_r (nI_1 i) (hY post hp))⟩⟩⟩
    · obtain ⟨r, hX, hY⟩ := ih (i + 1) (by omega) x3
      exact ⟨r, fun post hp => br_f h ⟨hv, br_f z (nm_r (Int32.add_zero x3) (nm_r (nI_1 i) (hX post hp)))⟩, fun post hp => br_f h ⟨hv, br_f z (nm_r (nI_1 i) (hY post hp))⟩⟩

theorem gl_given (hc : c ≤ 48) (x1 x2 : Int32) : ∀ d i : Nat, i + d = c → ∀ x3 : Int32, ∃ r : Int32, (∀ post : Int32 → Prop, post r → wX_given_21 post x1 x2 ft (nI c) fw T G K P O F Q D (d + 1) x3 (nI i)) ∧ (∀ post : Int32 → Prop, post r → wY_given_21 post x1 x2 (nI c) ft T G K P O E (d + 1) x3 (nI i)) := by
  intro d
  induction d with
  | zero =>
    intro i hi x3
    have h : nI c ≤ nI i := nI_le (by omega) (by omega)
    exact ⟨x3, fun _ hp => br_t h hp, fun _ hp => br_t h hp⟩
  | succ d ih =>
    intro i hi x3
    have h : ¬ nI c ≤ nI i := nI_ge (by omega) (by omega)
    have hv : vp_in (nI i) 48 := vp_in_nI (by omega) (by omega)
    by_cases z : G (nI i).toNatClampNeg = x1
    · by_cases y : P (nI i).toNatClampNeg = x2
      · obtain ⟨r, hX, hY⟩ := ih (i + 1) (by omega) (x3 + 1)
        exact ⟨r, fun post hp => br_f h ⟨hv, br_t z ⟨hv, br_t y (nm_e (nm_r (nI_1 i) (hX post hp)))⟩⟩, fun post hp => br_f h ⟨hv, br_t z ⟨hv, br_t y (nm_e (nm_r (nI_1 i) (hY post hp)))⟩⟩⟩
      · obtain ⟨r, hX, hY⟩ := ih (i + 1) (by omega) x3
        exact ⟨r, fun post hp => br_f h ⟨hv, br_t z ⟨hv, br_f y (nm_r (Int32.add_zero x3) (nm_r (nI_1 i) (hX post hp)))⟩⟩, fun post hp => br_f h ⟨hv, br_t z ⟨hv, br_f y (nm_r (nI_1 i) (hY post hp))⟩⟩⟩
    · obtain ⟨r, hX, hY⟩ := ih (i + 1) (by omega) x3
      exact ⟨r, fun post hp => br_f h ⟨hv, br_f z (nm_r (Int32.add_zero x3) (nm_r (nI_1 i) (hX post hp)))⟩, fun post hp => br_f h ⟨hv, br_f z (nm_r (nI_1 i) (hY post hp))⟩⟩

/-- grant g gives user u the right on p, with option, and isn't falling -/
def gl_H (K P O F : Nat → Int32) (u p : Int32) (g : Nat) : Prop := K g = u ∧ P g = p ∧ ¬ O g = 0 ∧ F g = 0
theorem gl_early2 (hc : c ≤ 48) (u p : Int32) : ∀ d i : Nat, i + d = c → (∀ g, g < i → ¬ gl_H K P O F u p g) → ∃ r : Int32, ((r = -1 ∧ ∀ g, g < c → ¬ gl_H K P O F u p g) ∨ (∃ e, e < c ∧ gl_H K P O F u p e ∧ r = T e ∧ ∀ g, g < e → ¬ gl_H K P O F u p g)) ∧ ∀ post : Int32 → Prop, post r → wX_earliest_2 post u p ft (nI c) fw T G K P O F Q D (d + 1) (nI i) := by
  intro d
  induction d with
  | zero =>
    intro i hi hlt
    have h : nI c ≤ nI i := nI_le (by omega) (by omega)
    have e : i = c := by omega
    subst e
    exact ⟨-1, Or.inl ⟨rfl, hlt⟩, fun _ hp => br_t h hp⟩
  | succ d ih =>
    intro i hi hlt
    have h : ¬ nI c ≤ nI i := nI_ge (by omega) (by omega)
    have hv : vp_in (nI i) 48 := vp_in_nI (by omega) (by omega)
    have hcl : (nI i).toNatClampNeg = i := nI_clamp (by omega)
    by_cases z1 : K (nI i).toNatClampNeg = u
    · by_cases z2 : P (nI i).toNatClampNeg = p
      · by_cases z3 : O (nI i).toNatClampNeg = 0
        · have z := z3
          rw [hcl] at z
          obtain ⟨r, hr, hw⟩ := ih (i + 1) (by omega) (lt_s hlt (fun H => H.2.2.1 z))
          exact ⟨r, hr, fun post hp => br_f h ⟨hv, br_t z1 ⟨hv, br_t z2 ⟨hv, br_t z3 (nm_r (nI_1 i) (hw post hp))⟩⟩⟩⟩
        · by_cases z4 : F (nI i).toNatClampNeg = 0
          · have w1 := z1
            have w2 := z2
            have w3 := z3
            have w4 := z4
            rw [hcl] at w1 w2 w3 w4
            exact ⟨T i, Or.inr ⟨i, by omega, ⟨w1, w2, w3, w4⟩, rfl, hlt⟩, fun post hp => br_f h ⟨hv, br_t z1 ⟨hv, br_t z2 ⟨hv, br_f z3 ⟨hv, br_t z4 ⟨hv, by rw [hcl]; exact hp⟩⟩⟩⟩⟩⟩
          · have z := z4
            rw [hcl] at z
            obtain ⟨r, hr, hw⟩ := ih (i + 1) (by omega) (lt_s hlt (fun H => z H.2.2.2))
            exact ⟨r, hr, fun post hp => br_f h ⟨hv, br_t z1 ⟨hv, br_t z2 ⟨hv, br_f z3 ⟨hv, br_f z4 (nm_r (nI_1 i) (hw post hp))⟩⟩⟩⟩⟩
      · have z := z2
        rw [hcl] at z
        obtain ⟨r, hr, hw⟩ := ih (i + 1) (by omega) (lt_s hlt (fun H => z H.2.1))
        exact ⟨r, hr, fun post hp => br_f h ⟨hv, br_t z1 ⟨hv, br_f z2 (nm_r (nI_1 i) (hw post hp))⟩⟩⟩
    · have z := z1
      rw [hcl] at z
      obtain ⟨r, hr, hw⟩ := ih (i + 1) (by omega) (lt_s hlt (fun H => z H.1))
      exact ⟨r, hr, fun post hp => br_f h ⟨hv, br_f z1 (nm_r (nI_1 i) (hw post hp))⟩⟩
theorem gl_early (hc : c ≤ 48) (u p : Int32) : ∃ r : Int32, ((r = -1 ∧ ∀ g, g < c → ¬ gl_H K P O F u p g) ∨ (∃ e, e < c ∧ gl_H K P O F u p e ∧ r = T e ∧ ∀ g, g < e → ¬ gl_H K P O F u p g)) ∧ ∀ post : Int32 → Prop, post r → wpX_earliest post (ft, nI c, fw, T, G, K, P, O, F, Q, D) u p := by
  obtain ⟨r, hr, hw⟩ := gl_early2 (ft := ft) (fw := fw) (T := T) (G := G) (K := K) (P := P) (O := O) (F := F) (Q := Q) (D := D) hc u p c 0 (by omega) lt_0
  exact ⟨r, hr, fun post hp => ⟨c + 1, hw post hp⟩⟩

theorem gl_may2 (hc : c ≤ 48) (u p : Int32) : ∀ d i : Nat, i + d = c → (∀ g, g < i → ¬ (K g = u ∧ P g = p ∧ ¬ O g = 0)) → ∃ r : Int32, ((r = 1 ∧ ((∃ e, e < c ∧ K e = u ∧ P e = p ∧ ¬ O e = 0) ∨ u = 0)) ∨ (r = 0 ∧ ¬ u = 0 ∧ ∀ g, g < c → ¬ (K g = u ∧ P g = p ∧ ¬ O g = 0))) ∧ ∀ post : Int32 → Prop, post r → wY_may_18 post u p (nI c) ft T G K P O E (d + 1) (nI i) := by
  intro d
  induction d with
  | zero =>
    intro i hi hlt
    have h : nI c ≤ nI i := nI_le (by omega) (by omega)
    have e : i = c := by omega
    subst e
    by_cases z : u = 0
    · exact ⟨1, Or.inl ⟨rfl, Or.inr z⟩, fun _ hp => br_t h (br_t z hp)⟩
    · exact ⟨0, Or.inr ⟨rfl, z, hlt⟩, fun _ hp => br_t h (br_f z hp)⟩
  | succ d ih =>
    intro i hi hlt
    have h : ¬ nI c ≤ nI i := nI_ge (by omega) (by omega)
    have hv : vp_in (nI i) 48 := vp_in_nI (by omega) (by omega)
    have hcl : (nI i).toNatClampNeg = i := nI_clamp (by omega)
    by_cases z1 : K (nI i).toNatClampNeg = u
    · by_cases z2 : P (nI i).toNatClampNeg = p
      · by_cases z3 : O (nI i).toNatClampNeg = 0
        · have z := z3
          rw [hcl] at z
          obtain ⟨r, hr, hw⟩ := ih (i + 1) (by omega) (lt_s hlt (fun H => H.2.2 z))
          exact ⟨r, hr, fun post hp => br_f h ⟨hv, br_t z1 ⟨hv, br_t z2 ⟨hv, br_t z3 (nm_r (nI_1 i) (hw post hp))⟩⟩⟩⟩
        · have w1 := z1
          have w2 := z2
          have w3 := z3
          rw [hcl] at w1 w2 w3
          exact ⟨1, Or.inl ⟨rfl, Or.inl ⟨i, by omega, w1, w2, w3⟩⟩, fun post hp => br_f h ⟨hv, br_t z1 ⟨hv, br_t z2 ⟨hv, br_f z3 hp⟩⟩⟩⟩
      · have z := z2
        rw [hcl] at z
        obtain ⟨r, hr, hw⟩ := ih (i + 1) (by omega) (lt_s hlt (fun H => z H.2.1))
        exact ⟨r, hr, fun post hp => br_f h ⟨hv, br_t z1 ⟨hv, br_f z2 (nm_r (nI_1 i) (hw post hp))⟩⟩⟩
    · have z := z1
      rw [hcl] at z
      obtain ⟨r, hr, hw⟩ := ih (i + 1) (by omega) (lt_s hlt (fun H => z H.1))
      exact ⟨r, hr, fun post hp => br_f h ⟨hv, br_f z1 (nm_r (nI_1 i) (hw post hp))⟩⟩

theorem gl_ystands (hc : c ≤ 48) (x : Int32) : ∀ d i : Nat, i + d = c → (∀ g, g < i → ¬ T g = x) → ∃ r : Int32, ((r = 1 ∧ ∃ g, g < c ∧ T g = x) ∨ (r = 0 ∧ ∀ g, g < c → ¬ T g = x)) ∧ ∀ post : Int32 → Prop, post r → wY_stands_2 post x (nI c) ft T G K P O E (d + 1) (nI i) := by
  intro d
  induction d with
  | zero =>
    intro i hi hlt
    have h : nI c ≤ nI i := nI_le (by omega) (by omega)
    have e : i = c := by omega
    subst e
    exact ⟨0, Or.inr ⟨rfl, hlt⟩, fun _ hp => br_t h hp⟩
  | succ d ih =>
    intro i hi hlt
    have h : ¬ nI c ≤ nI i := nI_ge (by omega) (by omega)
    have hv : vp_in (nI i) 48 := vp_in_nI (by omega) (by omega)
    have hcl : (nI i).toNatClampNeg = i := nI_clamp (by omega)
    by_cases z1 : T (nI i).toNatClampNeg = x
    · have z := z1
      rw [hcl] at z
      exact ⟨1, Or.inl ⟨rfl, i, by omega, z⟩, fun post hp => br_f h ⟨hv, br_t z1 hp⟩⟩
    · have z := z1
      rw [hcl] at z
      obtain ⟨r, hr, hw⟩ := ih (i + 1) (by omega) (lt_s hlt z)
      exact ⟨r, hr, fun post hp => br_f h ⟨hv, br_f z1 (nm_r (nI_1 i) (hw post hp))⟩⟩

theorem gl_mid {lo hi : Nat} (h1 : lo ≤ 48) (h2 : hi ≤ 48) : (nI lo + nI hi) / 2 = nI ((lo + hi) / 2) := by
  rw [nI_add]
  exact pk_div (d := 2) (by omega) (by omega) (by omega)
theorem gl_half {lo hi N : Nat} (h : hi - lo < 2 * N) (hl : lo < hi) : (lo + hi) / 2 - lo < N ∧ hi - ((lo + hi) / 2 + 1) < N ∧ (lo + hi) / 2 < hi ∧ lo ≤ (lo + hi) / 2 := by
  omega
theorem gl_bin (hc : c ≤ 48) (hT : ∀ i j, i < j → j < c → T i < T j) (x : Int32) : ∀ d lo hi s : Nat, s + d = 7 → lo ≤ hi → hi ≤ c → hi - lo < 2 ^ d → (∀ g, g < lo → T g < x) → (∀ g, hi ≤ g → g < c → x ≤ T g) → ∃ l, l ≤ c ∧ (∀ g, g < l → T g < x) ∧ (∀ g, l ≤ g → g < c → x ≤ T g) ∧ ∀ post : Int32 → Prop, wX_stands_57 post x (nI l) ft (nI c) fw T G K P O F Q D → wX_stands_10 post x ft (nI c) fw T G K P O F Q D (d + 1) (nI lo) (nI hi) (nI s) := by
  intro d
  induction d with
  | zero =>
    intro lo hi s hs hlh hhc hw h1 h2
    have e : hi = lo := by simp at hw; omega
    subst e
    have es : s = 7 := by omega
    subst es
    exact ⟨hi, hhc, h1, h2, fun post hp => br_t (by decide) hp⟩
  | succ d ih =>
    intro lo hi s hs hlh hhc hw h1 h2
    have h7 : ¬ (7 : Int32) ≤ nI s := nI_ge (a := s) (b := 7) (by omega) (by decide)
    by_cases e : hi = lo
    · subst e
      exact ⟨hi, hhc, h1, h2, fun post hp => br_f h7 (br_t (gl_le_refl _) hp)⟩
    · have hlt : lo < hi := by omega
      have hn : ¬ nI hi ≤ nI lo := nI_ge hlt (by omega)
      rw [Nat.pow_succ, Nat.mul_comm] at hw
      obtain ⟨q1, q2, q3, q4⟩ := gl_half hw hlt
      have hm := gl_mid (lo := lo) (hi := hi) (by omega) (by omega)
      generalize (lo + hi) / 2 = mid at q1 q2 q3 q4 hm
      have hv : vp_in (nI mid) 48 := vp_in_nI (by omega) (by omega)
      have hcl : (nI mid).toNatClampNeg = mid := nI_clamp (by omega)
      by_cases y : x ≤ T (nI mid).toNatClampNeg
      · have y' := y
        rw [hcl] at y'
        obtain ⟨l, a1, a2, a3, a4⟩ := ih lo mid (s + 1) (by omega) q4 (by omega) q1 h1 (fun g hg hgc => by
          rw [Int32.le_iff_toInt_le] at *
          have := gl_mono hT hg hgc
          rw [Int32.le_iff_toInt_le] at this
          omega)
        exact ⟨l, a1, a2, a3, fun post hp => br_f h7 (br_f hn ⟨gl_20, nm_r hm ⟨hv, br_t y (nm_r (nI_1 s) (a4 post hp))⟩⟩)⟩
      · have y' := y
        rw [hcl] at y'
        obtain ⟨l, a1, a2, a3, a4⟩ := ih (mid + 1) hi (s + 1) (by omega) (by omega) (by omega) q2 (fun g hg => gl_le_lt (gl_mono hT (show g ≤ mid by omega) (by omega)) (gl_nle_lt y')) h2
        exact ⟨l, a1, a2, a3, fun post hp => br_f h7 (br_f hn ⟨gl_20, nm_r hm ⟨hv, br_f y (nm_r (nI_1 mid) (nm_r (nI_1 s) (a4 post hp)))⟩⟩)⟩
theorem gl_xstands (hc : c ≤ 48) (hT : ∀ i j, i < j → j < c → T i < T j) (x : Int32) : ∃ r : Int32, ((r = 1 ∧ ∃ g, g < c ∧ T g = x) ∨ (r = 0 ∧ ∀ g, g < c → ¬ T g = x)) ∧ ∀ post : Int32 → Prop, post r → wpX_stands post (ft, nI c, fw, T, G, K, P, O, F, Q, D) x := by
  obtain ⟨l, a1, a2, a3, a4⟩ := gl_bin (ft := ft) (fw := fw) (G := G) (K := K) (P := P) (O := O) (F := F) (Q := Q) (D := D) hc hT x 7 0 c 0 (by omega) (by omega) (by omega) (by omega) lt_0 (fun g h1 h2 => by omega)
  by_cases e : l = c
  · subst e
    refine ⟨0, Or.inr ⟨rfl, fun g hg hx => ?_⟩, fun post hp => ⟨8, a4 post (br_t (gl_le_refl _) hp)⟩⟩
    have := a2 g hg
    rw [hx] at this
    exact gl_lt_irr this
  · have hlc : l < c := by omega
    have hn : ¬ nI c ≤ nI l := nI_ge hlc (by omega)
    have hv : vp_in (nI l) 48 := vp_in_nI (by omega) (by omega)
    have hcl : (nI l).toNatClampNeg = l := nI_clamp (by omega)
    by_cases y : T (nI l).toNatClampNeg = x
    · have y' := y
      rw [hcl] at y'
      exact ⟨1, Or.inl ⟨rfl, l, hlc, y'⟩, fun post hp => ⟨8, a4 post (br_f hn ⟨hv, br_t y hp⟩)⟩⟩
    · have y' := y
      rw [hcl] at y'
      refine ⟨0, Or.inr ⟨rfl, fun g hg hx => ?_⟩, fun post hp => ⟨8, a4 post (br_f hn ⟨hv, br_f y hp⟩)⟩⟩
      have hgl : l ≤ g := by
        by_cases z : l ≤ g
        · exact z
        · have := a2 g (by omega)
          rw [hx] at this
          exact absurd this gl_lt_irr
      have m1 := gl_mono hT hgl hg
      have m2 := a3 l (by omega) hlc
      rw [hx] at m1
      rw [Int32.le_iff_toInt_le] at m1 m2
      exact y' (Int32.toInt_inj.mp (by omega))
end
end
section
section
variable {ft fc fw : Int32} {T G K P O Q D : Nat → Int32} {c t : Nat} {S : Nat → Prop}

theorem gl_clear2 (hc : c ≤ 48) : ∀ (d i : Nat) (F : Nat → Int32), i + d = c → (∀ g, g < i → F g = 0) → ∃ F' : Nat → Int32, (∀ g, g < c → F' g = 0) ∧ ∀ post : SX → Prop, post (ft, nI c, fw, T, G, K, P, O, F', Q, D) → wX_clearMarks_2 post ft (nI c) fw (d + 1) (nI i) T G K P O F Q D := by
  intro d
  induction d with
  | zero =>
    intro i F hi hlt
    have h : nI c ≤ nI i := nI_le (by omega) (by omega)
    have e : i = c := by omega
    subst e
    exact ⟨F, hlt, fun _ hp => br_t h hp⟩
  | succ d ih =>
    intro i F hi hlt
    have h : ¬ nI c ≤ nI i := nI_ge (by omega) (by omega)
    have hv : vp_in (nI i) 48 := vp_in_nI (by omega) (by omega)
    have hcl : (nI i).toNatClampNeg = i := nI_clamp (by omega)
    obtain ⟨F', hF, hw⟩ := ih (i + 1) (upd F i 0) (by omega) (fun g hg => by
      by_cases e : g = i
      · subst e; exact pk_us
      · rw [pk_un e]; exact hlt g (by omega))
    exact ⟨F', hF, fun post hp => br_f h ⟨hv, nm_r (e' := upd F i 0) (by rw [hcl]; rfl) (nm_r (nI_1 i) (hw post hp))⟩⟩
theorem gl_clear (hc : c ≤ 48) (F : Nat → Int32) : ∃ F' : Nat → Int32, (∀ g, g < c → F' g = 0) ∧ ∀ post : SX → Prop, post (ft, nI c, fw, T, G, K, P, O, F', Q, D) → wpX_clearMarks post (ft, nI c, fw, T, G, K, P, O, F, Q, D) := by
  obtain ⟨F', hF, hw⟩ := gl_clear2 (ft := ft) (fw := fw) (T := T) (G := G) (K := K) (P := P) (O := O) (Q := Q) (D := D) hc c 0 F (by omega) lt_0
  exact ⟨F', hF, fun post hp => ⟨c + 1, hw post hp⟩⟩

/-- the place of the pair (user, privilege) of grant g -/
def gl_ab (A P : Nat → Int32) (g : Nat) : Nat := (3 * A g + P g).toNatClampNeg
/-- the queue, and: what S keeps isn't falling -/
def gl_Q (c : Nat) (S : Nat → Prop) (w : Nat) (F Q D : Nat → Int32) : Prop :=
  w + gl_z D 24 = 24 ∧ (∀ i, i < w → ∃ q, 3 ≤ q ∧ q < 24 ∧ Q i = nI q ∧ ¬ D q = 0) ∧ (∀ i j, i < j → j < w → ¬ Q i = Q j) ∧ (∀ g, g < c → S g → F g = 0)
/-- what isn't falling is founded, or its giver is queued, or X -/
def gl_W (c : Nat) (G K P O : Nat → Int32) (X : Nat → Prop) (F D : Nat → Int32) : Prop :=
  ∀ g, g < c → F g = 0 → G g = 0 ∨ ¬ D (gl_ab G P g) = 0 ∨ (∃ e, e < g ∧ F e = 0 ∧ gl_Fd G K P O e g) ∨ X g

theorem gl_3 {b p : Nat} {x y : Int32} (hx : x = nI b) (hy : y = nI p) : 3 * x + y = nI (3 * b + p) := by
  subst hx hy
  rw [← nI_add, ← pk_mul]
  rfl
theorem gl_abN {A P : Nat → Int32} {g b p : Nat} (h1 : A g = nI b) (h2 : P g = nI p) (hb : b ≤ 7) (hp : p ≤ 2) : gl_ab A P g = 3 * b + p := by
  unfold gl_ab
  rw [gl_3 h1 h2]
  exact nI_clamp (by omega)

theorem gl_W_let {X : Nat → Prop} {F D' : Nat → Int32} {g : Nat} (hW : gl_W c G K P O X F D) (hD : ∀ j, ¬ D j = 0 → ¬ D' j = 0) (hO : ¬ O g = 0 → ¬ D' (gl_ab K P g) = 0) : gl_W c G K P O X (upd F g 1) D' := by
  intro x hx fx
  have ne : x ≠ g := by
    intro e
    subst e
    rw [pk_us] at fx
    exact gl_10 fx
  rw [pk_un ne] at fx
  rcases hW x hx fx with h | h | ⟨e, he, fe, fd⟩ | h
  · exact Or.inl h
  · exact Or.inr (Or.inl (hD _ h))
  · by_cases eg : e = g
    · subst eg
      refine Or.inr (Or.inl ?_)
      have h := hO fd.1
      unfold gl_ab at h ⊢
      rw [fd.2.1, fd.2.2] at h
      exact h
    · exact Or.inr (Or.inr (Or.inl ⟨e, he, by rw [pk_un eg]; exact fe, fd⟩))
  · exact Or.inr (Or.inr (Or.inr h))

theorem gl_S_let {F : Nat → Int32} {g : Nat} (h : ∀ g, g < c → S g → F g = 0) (hS : ¬ S g) : ∀ x, x < c → S x → upd F g 1 x = 0 := by
  intro x hx sx
  have ne : x ≠ g := by
    intro e
    subst e
    exact hS sx
  rw [pk_un ne]
  exact h x hx sx

theorem gl_push {w : Nat} {F F' : Nat → Int32} {q : Nat} (hQ : gl_Q c S w F Q D) (hq3 : 3 ≤ q) (hq : q < 24) (hD : D q = 0) (hS : ∀ g, g < c → S g → F' g = 0) : w < 24 ∧ gl_Q c S (w + 1) F' (upd Q w (nI q)) (upd D q 1) := by
  obtain ⟨h1, h2, h3, h4⟩ := hQ
  have hd := gl_z_dn (x := 1) hD gl_10 24 hq
  have hp := gl_z_pos hD hq
  have hne : ∀ i, i < w → ¬ Q i = nI q := by
    intro i hi e
    obtain ⟨q', a1, a2, a3, a4⟩ := h2 i hi
    rw [a3, nI_eq (by omega) (by omega)] at e
    subst e
    exact a4 hD
  refine ⟨by omega, by omega, ?_, ?_, hS⟩
  · intro i hi
    by_cases e : i = w
    · subst e
      exact ⟨q, hq3, hq, pk_us, by rw [pk_us]; exact gl_10⟩
    · obtain ⟨q', a1, a2, a3, a4⟩ := h2 i (by omega)
      refine ⟨q', a1, a2, by rw [pk_un e]; exact a3, ?_⟩
      by_cases eq : q' = q
      · subst eq
        rw [pk_us]
        exact gl_10
      · rw [pk_un eq]
        exact a4
  · intro i j hij hj
    have ei : i ≠ w := by omega
    rw [pk_un ei]
    by_cases e : j = w
    · subst e
      rw [pk_us]
      exact hne i hij
    · rw [pk_un e]
      exact h3 i j hij (by omega)

/-- letFall on a grant that isn't falling and that S doesn't keep -/
theorem gl_let (hV : gl_V t c T G K P O) {X : Nat → Prop} {w g : Nat} {F : Nat → Int32} (hQ : gl_Q c S w F Q D) (hW : gl_W c G K P O X F D) (hg : g < c) (hF : F g = 0) (hS : ¬ S g) : ∃ (w' : Nat) (Q' D' : Nat → Int32), gl_Q c S w' (upd F g 1) Q' D' ∧ gl_W c G K P O X (upd F g 1) D' ∧ (∀ j, ¬ D j = 0 → ¬ D' j = 0) ∧ w' + gl_z (upd F g 1) c ≤ w + gl_z F c ∧ (¬ O g = 0 → ¬ D' (gl_ab K P g) = 0) ∧ ∀ post : SX → Prop, post (ft, fc, nI w', T, G, K, P, O, upd F g 1, Q', D') → wpX_letFall post (ft, fc, nI w, T, G, K, P, O, F, Q, D) (nI g) := by
  obtain ⟨hc, hE, hT, hFd⟩ := hV
  obtain ⟨m, a, b, p, hm, ha, hb1, hb, hp, hab, eT, eG, eK, eP, eO⟩ := hE g hg
  have hv : vp_in (nI g) 48 := vp_in_nI (by omega) (by omega)
  have hcl : (nI g).toNatClampNeg = g := nI_clamp (by omega)
  have hz := gl_z_dn (x := 1) hF gl_10 c hg
  have hS' := gl_S_let (F := F) hQ.2.2.2 hS
  have hq : gl_ab K P g = 3 * b + p := gl_abN eK eP hb hp
  have hx : 3 * K (nI g).toNatClampNeg + P (nI g).toNatClampNeg = nI (3 * b + p) := by rw [hcl]; exact gl_3 eK eP
  have hf : upd F (nI g).toNatClampNeg (vp_nar .boolean 1) = upd F g 1 := by rw [hcl]; rfl
  have hqv : vp_in (nI (3 * b + p)) 24 := vp_in_nI (by omega) (by omega)
  have hqc : (nI (3 * b + p)).toNatClampNeg = 3 * b + p := nI_clamp (by omega)
  by_cases zO : O (nI g).toNatClampNeg = 0
  · have zO' := zO
    rw [hcl] at zO'
    exact ⟨w, Q, D, ⟨hQ.1, hQ.2.1, hQ.2.2.1, hS'⟩, gl_W_let hW (fun _ h => h) (fun h => absurd zO' h), fun _ h => h, by omega, fun h => absurd zO' h, fun post hpost => ⟨hv, nm_r hf ⟨hv, hv, nm_r hx ⟨hv, br_t zO hpost⟩⟩⟩⟩
  · by_cases zD : D (nI (3 * b + p)).toNatClampNeg = 0
    · have zD' := zD
      rw [hqc] at zD'
      obtain ⟨hw, hQ'⟩ := gl_push hQ (q := 3 * b + p) (by omega) (by omega) zD' hS'
      have hwv : vp_in (nI w) 24 := vp_in_nI hw (by omega)
      have hwc : (nI w).toNatClampNeg = w := nI_clamp (by omega)
      have hmo : ∀ j, ¬ D j = 0 → ¬ upd D (3 * b + p) 1 j = 0 := by
        intro j hj
        by_cases e : j = 3 * b + p
        · subst e
          rw [pk_us]
          exact gl_10
        · rw [pk_un e]
          exact hj
      have hn : ¬ upd D (3 * b + p) 1 (gl_ab K P g) = 0 := by
        rw [hq, pk_us]
        exact gl_10
      exact ⟨w + 1, upd Q w (nI (3 * b + p)), upd D (3 * b + p) 1, hQ', gl_W_let hW hmo (fun _ => hn), hmo, by omega, fun _ => hn, fun post hpost => ⟨hv, nm_r hf ⟨hv, hv, nm_r hx ⟨hv, br_f zO ⟨hqv, br_t zD ⟨hqv, nm_r (e' := upd D (3 * b + p) 1) (by rw [hqc]; rfl) ⟨hwv, nm_r (e' := upd Q w (nI (3 * b + p))) (by rw [hwc]) (nm_r (nI_1 w) hpost)⟩⟩⟩⟩⟩⟩⟩
    · have zD' := zD
      rw [hqc] at zD'
      have hn : ¬ D (gl_ab K P g) = 0 := by
        rw [hq]
        exact zD'
      exact ⟨w, Q, D, ⟨hQ.1, hQ.2.1, hQ.2.2.1, hS'⟩, gl_W_let hW (fun _ h => h) (fun _ => hn), fun _ h => h, by omega, fun _ => hn, fun post hpost => ⟨hv, nm_r hf ⟨hv, hv, nm_r hx ⟨hv, br_f zO ⟨hqv, br_f zD hpost⟩⟩⟩⟩⟩
end
end
section
section
variable {ft : Int32} {T G K P O : Nat → Int32} {c t : Nat} {S : Nat → Prop}

/-- S keeps only what it founds -/
def gl_K (c : Nat) (G K P O : Nat → Int32) (S : Nat → Prop) : Prop := ∀ g, g < c → S g → G g = 0 ∨ ∃ e, e < g ∧ S e ∧ gl_Fd G K P O e g
/-- what is behind 'since' -/
def gl_R2 (c : Nat) (T K P O F D : Nat → Int32) (u p r : Int32) : Prop := ¬ r < 0 → ∃ e, e < c ∧ r = T e ∧ K e = u ∧ P e = p ∧ ¬ O e = 0 ∧ (F e = 0 ∨ ¬ D (gl_ab K P e) = 0)

theorem gl_R2_let {F D D' : Nat → Int32} {u p r : Int32} {g : Nat} (h : gl_R2 c T K P O F D u p r) (hD : ∀ j, ¬ D j = 0 → ¬ D' j = 0) (hO : ¬ O g = 0 → ¬ D' (gl_ab K P g) = 0) : gl_R2 c T K P O (upd F g 1) D' u p r := by
  intro hr
  obtain ⟨e, h1, h2, h3, h4, h5, h6⟩ := h hr
  refine ⟨e, h1, h2, h3, h4, h5, ?_⟩
  by_cases eg : e = g
  · subst eg
    exact Or.inr (hO h5)
  · rcases h6 with h6 | h6
    · exact Or.inl (by rw [pk_un eg]; exact h6)
    · exact Or.inr (hD _ h6)

theorem gl_grow {F : Nat → Int32} {g : Nat} : ∀ x, ¬ F x = 0 → ¬ upd F g 1 x = 0 := by
  intro x hx
  by_cases e : x = g
  · subst e
    rw [pk_us]
    exact gl_10
  · rw [pk_un e]
    exact hx

/-- one grant less to look at -/
theorem gl_W_next {F D : Nat → Int32} {u p : Int32} {i : Nat} (h : gl_W c G K P O (fun g => i ≤ g ∧ G g = u ∧ P g = p) F D) (hi : F i = 0 → G i = u → P i = p → ¬ D (gl_ab G P i) = 0 ∨ (∃ e, e < i ∧ F e = 0 ∧ gl_Fd G K P O e i)) : gl_W c G K P O (fun g => i + 1 ≤ g ∧ G g = u ∧ P g = p) F D := by
  intro g hg fg
  rcases h g hg fg with a | a | a | ⟨a1, a2, a3⟩
  · exact Or.inl a
  · exact Or.inr (Or.inl a)
  · exact Or.inr (Or.inr (Or.inl a))
  · by_cases e : g = i
    · subst e
      rcases hi fg a2 a3 with b | b
      · exact Or.inr (Or.inl b)
      · exact Or.inr (Or.inr (Or.inl b))
    · exact Or.inr (Or.inr (Or.inr ⟨by omega, a2, a3⟩))

theorem gl_rev2 (hV : gl_V t c T G K P O) (hK : gl_K c G K P O S) {u p r : Int32} (hu : ¬ u = 0) (R1 : ∀ e, e < c → S e → K e = u → P e = p → ¬ O e = 0 → ¬ r < 0 ∧ r ≤ T e) : ∀ (d i w : Nat) (F Q D : Nat → Int32), i + d = c → gl_Q c S w F Q D → gl_W c G K P O (fun g => i ≤ g ∧ G g = u ∧ P g = p) F D → gl_R2 c T K P O F D u p r → ∃ (w' : Nat) (F' Q' D' : Nat → Int32), gl_Q c S w' F' Q' D' ∧ gl_W c G K P O (fun _ => False) F' D' ∧ (∀ g, ¬ F g = 0 → ¬ F' g = 0) ∧ w' + gl_z F' c ≤ w + gl_z F c ∧ ∀ post : SX → Prop, post (ft, nI c, nI w', T, G, K, P, O, F', Q', D') → wX_review_10 post u p r (d + 1) (nI i) ft (nI c) (nI w) T G K P O F Q D := by
  obtain ⟨hc, hE, hT, hFd⟩ := hV
  intro d
  induction d with
  | zero =>
    intro i w F Q D hi hQ hW _
    have h : nI c ≤ nI i := nI_le (by omega) (by omega)
    refine ⟨w, F, Q, D, hQ, ?_, fun _ h => h, Nat.le_refl _, fun _ hp => br_t h hp⟩
    intro g hg fg
    rcases hW g hg fg with a | a | a | ⟨a, _⟩
    · exact Or.inl a
    · exact Or.inr (Or.inl a)
    · exact Or.inr (Or.inr (Or.inl a))
    · exact absurd a (by omega)
  | succ d ih =>
    intro i w F Q D hi hQ hW hR
    have h : ¬ nI c ≤ nI i := nI_ge (by omega) (by omega)
    have hv : vp_in (nI i) 48 := vp_in_nI (by omega) (by omega)
    have hcl : (nI i).toNatClampNeg = i := nI_clamp (by omega)
    have hic : i < c := by omega
    -- letFall here
    have hlet : F i = 0 → ¬ S i → ∃ (w' : Nat) (F' Q' D' : Nat → Int32), gl_Q c S w' F' Q' D' ∧ gl_W c G K P O (fun _ => False) F' D' ∧ (∀ g, ¬ F g = 0 → ¬ F' g = 0) ∧ w' + gl_z F' c ≤ w + gl_z F c ∧ ∀ post : SX → Prop, post (ft, nI c, nI w', T, G, K, P, O, F', Q', D') → wX_review_78 post (wX_review_10 post u p r (d + 1)) u p r (nI i) ft (nI c) (nI w) T G K P O F Q D := by
      intro hF hS
      obtain ⟨w1, Q1, D1, b1, b2, b3, b4, b5, b6⟩ := gl_let (ft := ft) (fc := nI c) ⟨hc, hE, hT, hFd⟩ hQ hW hic hF hS
      obtain ⟨w', F', Q', D', c1, c2, c3, c4, c5⟩ := ih (i + 1) w1 (upd F i 1) Q1 D1 (by omega) b1 (gl_W_next b2 (fun z _ _ => absurd (pk_us.symm.trans z) gl_10)) (gl_R2_let hR b3 b5)
      exact ⟨w', F', Q', D', c1, c2, fun g hg => c3 g (gl_grow g hg), by omega, fun post hp => b6 _ (nm_r (nI_1 i) (c5 post hp))⟩
    -- no own grant here
    have hskip : ¬ (F i = 0 ∧ G i = u ∧ P i = p) → ∃ (w' : Nat) (F' Q' D' : Nat → Int32), gl_Q c S w' F' Q' D' ∧ gl_W c G K P O (fun _ => False) F' D' ∧ (∀ g, ¬ F g = 0 → ¬ F' g = 0) ∧ w' + gl_z F' c ≤ w + gl_z F c ∧ ∀ post : SX → Prop, post (ft, nI c, nI w', T, G, K, P, O, F', Q', D') → wX_review_55 post (wX_review_10 post u p r (d + 1)) u p r (nI i) ft (nI c) (nI w) T G K P O F Q D := by
      intro hno
      obtain ⟨w', F', Q', D', c1, c2, c3, c4, c5⟩ := ih (i + 1) w F Q D (by omega) hQ (gl_W_next hW (fun z1 z2 z3 => absurd ⟨z1, z2, z3⟩ hno)) hR
      exact ⟨w', F', Q', D', c1, c2, c3, c4, fun post hp => br_t rfl (nm_r (nI_1 i) (c5 post hp))⟩
    by_cases z1 : G (nI i).toNatClampNeg = u
    · by_cases z2 : P (nI i).toNatClampNeg = p
      · by_cases z3 : F (nI i).toNatClampNeg = 0
        · have w1 := z1
          have w2 := z2
          have w3 := z3
          rw [hcl] at w1 w2 w3
          by_cases r0 : r < 0
          · have nS : ¬ S i := by
              intro s
              rcases hK i hic s with a | ⟨e, he, se, fd⟩
              · exact hu (w1.symm.trans a)
              · exact (R1 e (by omega) se (fd.2.1.trans w1) (fd.2.2.trans w2) fd.1).1 r0
            obtain ⟨w', F', Q', D', c1, c2, c3, c4, c5⟩ := hlet w3 nS
            exact ⟨w', F', Q', D', c1, c2, c3, c4, fun post hp => br_f h ⟨hv, br_t z1 ⟨hv, br_t z2 ⟨hv, br_t z3 (br_f gl_10 (br_t r0 (c5 post hp)))⟩⟩⟩⟩
          · by_cases z4 : r ≤ T (nI i).toNatClampNeg
            · have w4 := z4
              rw [hcl] at w4
              obtain ⟨w', F', Q', D', c1, c2, c3, c4, c5⟩ := ih (i + 1) w F Q D (by omega) hQ (gl_W_next hW (fun _ _ _ => by
                obtain ⟨e, h1, h2, h3, h4, h5, h6⟩ := hR r0
                rw [h2] at w4
                have hei := gl_mono' hT h1 w4
                obtain ⟨m, a, b, p', hm, ha, hb1, hb, hp, hab, eT, eG, eK, eP, eO⟩ := hE i hic
                have ne : e ≠ i := by
                  intro z
                  subst z
                  rw [← w1, eG, eK, nI_eq (by omega) (by omega)] at h3
                  exact hab h3.symm
                rcases h6 with h6 | h6
                · exact Or.inr ⟨e, by omega, h6, h5, h3.trans w1.symm, h4.trans w2.symm⟩
                · refine Or.inl ?_
                  unfold gl_ab at h6 ⊢
                  rw [h3, h4] at h6
                  rw [w1, w2]
                  exact h6)) hR
              exact ⟨w', F', Q', D', c1, c2, c3, c4, fun post hp => br_f h ⟨hv, br_t z1 ⟨hv, br_t z2 ⟨hv, br_t z3 (br_f gl_10 (br_f r0 ⟨hv, br_t z4 (nm_r (nI_1 i) (c5 post hp))⟩))⟩⟩⟩⟩
            · have w4 := z4
              rw [hcl] at w4
              have nS : ¬ S i := by
                intro s
                rcases hK i hic s with a | ⟨e, he, se, fd⟩
                · exact hu (w1.symm.trans a)
                · have q := (R1 e (by omega) se (fd.2.1.trans w1) (fd.2.2.trans w2) fd.1).2
                  exact w4 (gl_lt_le (gl_le_lt q (hT e i he hic)))
              obtain ⟨w', F', Q', D', c1, c2, c3, c4, c5⟩ := hlet w3 nS
              exact ⟨w', F', Q', D', c1, c2, c3, c4, fun post hp => br_f h ⟨hv, br_t z1 ⟨hv, br_t z2 ⟨hv, br_t z3 (br_f gl_10 (br_f r0 ⟨hv, br_f z4 (c5 post hp)⟩))⟩⟩⟩⟩
        · have w3 := z3
          rw [hcl] at w3
          obtain ⟨w', F', Q', D', c1, c2, c3, c4, c5⟩ := hskip (fun z => w3 z.1)
          exact ⟨w', F', Q', D', c1, c2, c3, c4, fun post hp => br_f h ⟨hv, br_t z1 ⟨hv, br_t z2 ⟨hv, br_f z3 (c5 post hp)⟩⟩⟩⟩
      · have w2 := z2
        rw [hcl] at w2
        obtain ⟨w', F', Q', D', c1, c2, c3, c4, c5⟩ := hskip (fun z => w2 z.2.2)
        exact ⟨w', F', Q', D', c1, c2, c3, c4, fun post hp => br_f h ⟨hv, br_t z1 ⟨hv, br_f z2 (c5 post hp)⟩⟩⟩
    · have w1 := z1
      rw [hcl] at w1
      obtain ⟨w', F', Q', D', c1, c2, c3, c4, c5⟩ := hskip (fun z => w1 z.2.1)
      exact ⟨w', F', Q', D', c1, c2, c3, c4, fun post hp => br_f h ⟨hv, br_f z1 (c5 post hp)⟩⟩

theorem gl_rev (ht : t ≤ 2560) (hV : gl_V t c T G K P O) (hK : gl_K c G K P O S) {u p : Int32} (hu : ¬ u = 0) {w : Nat} {F Q D : Nat → Int32} (hQ : gl_Q c S w F Q D) (hW : gl_W c G K P O (fun g => 0 ≤ g ∧ G g = u ∧ P g = p) F D) : ∃ (w' : Nat) (F' Q' D' : Nat → Int32), gl_Q c S w' F' Q' D' ∧ gl_W c G K P O (fun _ => False) F' D' ∧ (∀ g, ¬ F g = 0 → ¬ F' g = 0) ∧ w' + gl_z F' c ≤ w + gl_z F c ∧ ∀ post : SX → Prop, post (ft, nI c, nI w', T, G, K, P, O, F', Q', D') → wpX_review post (ft, nI c, nI w, T, G, K, P, O, F, Q, D) u p := by
  obtain ⟨r, hr, hw⟩ := gl_early (ft := ft) (fw := nI w) (T := T) (G := G) (K := K) (P := P) (O := O) (F := F) (Q := Q) (D := D) hV.1 u p
  have R1 : ∀ e, e < c → S e → K e = u → P e = p → ¬ O e = 0 → ¬ r < 0 ∧ r ≤ T e := by
    intro e he se h1 h2 h3
    have hH : gl_H K P O F u p e := ⟨h1, h2, h3, hQ.2.2.2 e he se⟩
    rcases hr with ⟨_, hno⟩ | ⟨e0, b1, b2, b3, b4⟩
    · exact absurd hH (hno e he)
    · obtain ⟨m, a, b, p', hm, ha, hb1, hb, hp, hab, eT, eG, eK, eP, eO⟩ := hV.2.1 e0 b1
      refine ⟨by rw [b3, eT]; exact nI_pos (by omega), ?_⟩
      rw [b3]
      refine gl_mono hV.2.2.1 ?_ he
      by_cases z : e0 ≤ e
      · exact z
      · exact absurd hH (b4 e (by omega))
  have R2 : gl_R2 c T K P O F D u p r := by
    intro r0
    rcases hr with ⟨e, _⟩ | ⟨e0, b1, b2, b3, b4⟩
    · exact absurd (by rw [e]; decide) r0
    · exact ⟨e0, b1, b3, b2.1, b2.2.1, b2.2.2.1, Or.inl b2.2.2.2⟩
  obtain ⟨w', F', Q', D', c1, c2, c3, c4, c5⟩ := gl_rev2 (ft := ft) hV hK hu R1 c 0 w F Q D (by omega) hQ hW R2
  exact ⟨w', F', Q', D', c1, c2, c3, c4, fun post hp => hw _ ⟨c + 1, c5 post hp⟩⟩

theorem gl_pop (hV : gl_V t c T G K P O) {w : Nat} {F Q D : Nat → Int32} (hQ : gl_Q c S (w + 1) F Q D) (hW : gl_W c G K P O (fun _ => False) F D) : ∃ q, 3 ≤ q ∧ q < 24 ∧ Q w = nI q ∧ w < 24 ∧ gl_Q c S w F Q (upd D q 0) ∧ gl_W c G K P O (fun g => 0 ≤ g ∧ G g = nI (q / 3) ∧ P g = nI (q % 3)) F (upd D q 0) := by
  obtain ⟨h1, h2, h3, h4⟩ := hQ
  obtain ⟨q, a1, a2, a3, a4⟩ := h2 w (by omega)
  have hz := gl_z_up (x := 0) a4 rfl 24 a2
  refine ⟨q, a1, a2, a3, by omega, ⟨by omega, ?_, fun i j hij hj => h3 i j hij (by omega), h4⟩, ?_⟩
  · intro i hi
    obtain ⟨q', b1, b2, b3, b4⟩ := h2 i (by omega)
    have ne : q' ≠ q := by
      intro e
      subst e
      exact h3 i w hi (by omega) (b3.trans a3.symm)
    exact ⟨q', b1, b2, b3, by rw [pk_un ne]; exact b4⟩
  · intro g hg fg
    rcases hW g hg fg with a | a | a | a
    · exact Or.inl a
    · by_cases e : gl_ab G P g = q
      · obtain ⟨m, a', b, p, hm, ha, hb1, hb, hp, hab, eT, eG, eK, eP, eO⟩ := hV.2.1 g hg
        rw [gl_abN eG eP ha hp] at e
        have e1 : q / 3 = a' := by omega
        have e2 : q % 3 = p := by omega
        rw [e1, e2]
        exact Or.inr (Or.inr (Or.inr ⟨Nat.zero_le _, eG, eP⟩))
      · exact Or.inr (Or.inl (by rw [pk_un e]; exact a))
    · exact Or.inr (Or.inr (Or.inl a))
    · exact a.elim

theorem gl_spr2 (ht : t ≤ 2560) (hV : gl_V t c T G K P O) (hK : gl_K c G K P O S) : ∀ (n s w : Nat) (F Q D : Nat → Int32), s + (w + gl_z F c) ≤ 99 → w + gl_z F c < n → gl_Q c S w F Q D → gl_W c G K P O (fun _ => False) F D → ∃ (F' Q' D' : Nat → Int32), gl_Q c S 0 F' Q' D' ∧ gl_W c G K P O (fun _ => False) F' D' ∧ (∀ g, ¬ F g = 0 → ¬ F' g = 0) ∧ ∀ post : SX → Prop, post (ft, nI c, 0, T, G, K, P, O, F', Q', D') → wX_spread_2 post n (nI s) ft (nI c) (nI w) T G K P O F Q D := by
  intro n
  induction n with
  | zero =>
    intro s w F Q D h1 h2
    omega
  | succ n ih =>
    intro s w F Q D h1 h2 hQ hW
    have hs : ¬ (100 : Int32) ≤ nI s := nI_ge (a := s) (b := 100) (by omega) (by decide)
    cases w with
    | zero => exact ⟨F, Q, D, hQ, hW, fun _ h => h, fun post hp => br_f hs (br_t (by decide) hp)⟩
    | succ w =>
      have hw0 : ¬ nI (w + 1) ≤ 0 := nI_nle (by omega) (by omega)
      obtain ⟨q, a1, a2, a3, a4, a5, a6⟩ := gl_pop hV hQ hW
      have hu : ¬ nI (q / 3) = 0 := nI_ne0 (by omega) (by omega)
      obtain ⟨w', F', Q', D', c1, c2, c3, c4, c5⟩ := gl_rev (ft := ft) ht hV hK hu a5 a6
      obtain ⟨F2, Q2, D2, d1, d2, d3, d4⟩ := ih (s + 1) w' F' Q' D' (by omega) (by omega) c1 c2
      have hwv : vp_in (nI w) 24 := vp_in_nI a4 (by omega)
      have hwc : (nI w).toNatClampNeg = w := nI_clamp (by omega)
      have hqv : vp_in (nI q) 24 := vp_in_nI a2 (by omega)
      have hqc : (nI q).toNatClampNeg = q := nI_clamp (by omega)
      have e1 : nI q / 3 = nI (q / 3) := pk_div (d := 3) (by omega) (by omega) (by omega)
      have e2 : nI q - nI q / 3 * 3 = nI (q % 3) := pk_rem (d := 3) (by omega) (by omega) (by omega)
      refine ⟨F2, Q2, D2, d1, d2, fun g hg => d3 g (c3 g hg), fun post hp => br_f hs (br_f hw0 (nm_r (nI_pred w) ⟨hwv, nm_r (e' := nI q) (by rw [hwc]; exact a3) ⟨hqv, nm_r (e' := upd D q 0) (by rw [hqc]; rfl) ⟨gl_30, gl_30, ?_⟩⟩⟩))⟩
      rw [e2, e1]
      exact c5 _ (nm_r (nI_1 s) (d4 post hp))

theorem gl_D0 {w : Nat} {F Q D : Nat → Int32} (hQ : gl_Q c S 0 F Q D) (h : w = 0) : ∀ j, j < 24 → D j = 0 := by
  have := hQ.1
  exact gl_z_full (by omega)
theorem gl_spr (ht : t ≤ 2560) (hV : gl_V t c T G K P O) (hK : gl_K c G K P O S) {w : Nat} {F Q D : Nat → Int32} (h1 : w + gl_z F c ≤ 48) (hQ : gl_Q c S w F Q D) (hW : gl_W c G K P O (fun _ => False) F D) : ∃ (F' Q' D' : Nat → Int32), (∀ g, g < c → S g → F' g = 0) ∧ (∀ j, j < 24 → D' j = 0) ∧ (∀ g, g < c → F' g = 0 → G g = 0 ∨ ∃ e, e < g ∧ F' e = 0 ∧ gl_Fd G K P O e g) ∧ (∀ g, ¬ F g = 0 → ¬ F' g = 0) ∧ ∀ post : SX → Prop, post (ft, nI c, 0, T, G, K, P, O, F', Q', D') → wpX_spread post (ft, nI c, nI w, T, G, K, P, O, F, Q, D) := by
  obtain ⟨F', Q', D', c1, c2, c3, c4⟩ := gl_spr2 (ft := ft) ht hV hK 49 0 w F Q D (by omega) (by omega) hQ hW
  have hD := gl_D0 (w := 0) c1 rfl
  refine ⟨F', Q', D', c1.2.2.2, hD, ?_, c3, fun post hp => ⟨49, c4 post hp⟩⟩
  intro g hg fg
  rcases c2 g hg fg with a | a | a | a
  · exact Or.inl a
  · obtain ⟨m, a', b, p, hm, ha, hb1, hb, hp, hab, eT, eG, eK, eP, eO⟩ := hV.2.1 g hg
    rw [gl_abN eG eP ha hp] at a
    exact absurd (hD _ (by omega)) a
  · exact Or.inr a
  · exact a.elim
end
end
section
section
variable {ft : Int32} {T G K P O : Nat → Int32} {c t : Nat} {S : Nat → Prop}

def gl_M3 (G K P : Nat → Int32) (x1 x2 x3 : Int32) (g : Nat) : Prop := G g = x1 ∧ K g = x2 ∧ P g = x3
def gl_M1 (G K : Nat → Int32) (x1 : Int32) (g : Nat) : Prop := G g = x1 ∨ K g = x1

/-- the marked ones below i are falling, none from i on is -/
def gl_Mk (c : Nat) (M : Nat → Prop) (i : Nat) (F : Nat → Int32) : Prop := (∀ g, i ≤ g → g < c → F g = 0) ∧ (∀ g, g < i → M g → ¬ F g = 0)
theorem gl_Mk_let {M : Nat → Prop} {i : Nat} {F : Nat → Int32} (h : gl_Mk c M i F) : gl_Mk c M (i + 1) (upd F i 1) := by
  refine ⟨fun g hg hc => ?_, fun g hg hM => ?_⟩
  · rw [pk_un (by omega)]
    exact h.1 g (by omega) hc
  · by_cases e : g = i
    · subst e
      rw [pk_us]
      exact gl_10
    · rw [pk_un e]
      exact h.2 g (by omega) hM
theorem gl_Mk_skip {M : Nat → Prop} {i : Nat} {F : Nat → Int32} (h : gl_Mk c M i F) (hi : ¬ M i) : gl_Mk c M (i + 1) F := by
  refine ⟨fun g hg hc => h.1 g (by omega) hc, fun g hg hM => ?_⟩
  by_cases e : g = i
  · subst e
    exact absurd hM hi
  · exact h.2 g (by omega) hM

theorem gl_mark2 (hV : gl_V t c T G K P O) {x1 x2 x3 : Int32} (hM : ∀ g, g < c → gl_M3 G K P x1 x2 x3 g → ¬ S g) : ∀ (d i w : Nat) (F Q D : Nat → Int32), i + d = c → gl_Q c S w F Q D → gl_W c G K P O (fun _ => False) F D → gl_Mk c (gl_M3 G K P x1 x2 x3) i F → w + gl_z F c ≤ 48 → ∃ (w' : Nat) (F' Q' D' : Nat → Int32), gl_Q c S w' F' Q' D' ∧ gl_W c G K P O (fun _ => False) F' D' ∧ gl_Mk c (gl_M3 G K P x1 x2 x3) c F' ∧ w' + gl_z F' c ≤ 48 ∧ ∀ post : SX → Prop, post (ft, nI c, nI w', T, G, K, P, O, F', Q', D') → wX_mark_7 post x1 x2 x3 (d + 1) (nI i) ft (nI c) (nI w) T G K P O F Q D := by
  have hc := hV.1
  intro d
  induction d with
  | zero =>
    intro i w F Q D hi hQ hW hk hz
    have h : nI c ≤ nI i := nI_le (by omega) (by omega)
    have e : i = c := by omega
    subst e
    exact ⟨w, F, Q, D, hQ, hW, hk, hz, fun _ hp => br_t h hp⟩
  | succ d ih =>
    intro i w F Q D hi hQ hW hk hz
    have h : ¬ nI c ≤ nI i := nI_ge (by omega) (by omega)
    have hv : vp_in (nI i) 48 := vp_in_nI (by omega) (by omega)
    have hcl : (nI i).toNatClampNeg = i := nI_clamp (by omega)
    have hic : i < c := by omega
    by_cases z1 : G (nI i).toNatClampNeg = x1
    · by_cases z2 : K (nI i).toNatClampNeg = x2
      · by_cases z3 : P (nI i).toNatClampNeg = x3
        · have w1 := z1
          have w2 := z2
          have w3 := z3
          rw [hcl] at w1 w2 w3
          obtain ⟨w1', Q1, D1, b1, b2, b3, b4, b5, b6⟩ := gl_let (ft := ft) (fc := nI c) hV hQ hW hic (hk.1 i (by omega) hic) (hM i hic ⟨w1, w2, w3⟩)
          obtain ⟨w', F', Q', D', c1, c2, c3, c4, c5⟩ := ih (i + 1) w1' (upd F i 1) Q1 D1 (by omega) b1 b2 (gl_Mk_let hk) (by omega)
          exact ⟨w', F', Q', D', c1, c2, c3, c4, fun post hp => br_f h ⟨hv, br_t z1 ⟨hv, br_t z2 ⟨hv, br_t z3 (b6 _ (nm_r (nI_1 i) (c5 post hp)))⟩⟩⟩⟩
        · have z := z3
          rw [hcl] at z
          obtain ⟨w', F', Q', D', c1, c2, c3, c4, c5⟩ := ih (i + 1) w F Q D (by omega) hQ hW (gl_Mk_skip hk (fun H => z H.2.2)) hz
          exact ⟨w', F', Q', D', c1, c2, c3, c4, fun post hp => br_f h ⟨hv, br_t z1 ⟨hv, br_t z2 ⟨hv, br_f z3 (nm_r (nI_1 i) (c5 post hp))⟩⟩⟩⟩
      · have z := z2
        rw [hcl] at z
        obtain ⟨w', F', Q', D', c1, c2, c3, c4, c5⟩ := ih (i + 1) w F Q D (by omega) hQ hW (gl_Mk_skip hk (fun H => z H.2.1)) hz
        exact ⟨w', F', Q', D', c1, c2, c3, c4, fun post hp => br_f h ⟨hv, br_t z1 ⟨hv, br_f z2 (nm_r (nI_1 i) (c5 post hp))⟩⟩⟩
    · have z := z1
      rw [hcl] at z
      obtain ⟨w', F', Q', D', c1, c2, c3, c4, c5⟩ := ih (i + 1) w F Q D (by omega) hQ hW (gl_Mk_skip hk (fun H => z H.1)) hz
      exact ⟨w', F', Q', D', c1, c2, c3, c4, fun post hp => br_f h ⟨hv, br_f z1 (nm_r (nI_1 i) (c5 post hp))⟩⟩

theorem gl_expel2 (hV : gl_V t c T G K P O) {x1 : Int32} (hM : ∀ g, g < c → gl_M1 G K x1 g → ¬ S g) : ∀ (d i w : Nat) (F Q D : Nat → Int32), i + d = c → gl_Q c S w F Q D → gl_W c G K P O (fun _ => False) F D → gl_Mk c (gl_M1 G K x1) i F → w + gl_z F c ≤ 48 → ∃ (w' : Nat) (F' Q' D' : Nat → Int32), gl_Q c S w' F' Q' D' ∧ gl_W c G K P O (fun _ => False) F' D' ∧ gl_Mk c (gl_M1 G K x1) c F' ∧ w' + gl_z F' c ≤ 48 ∧ ∀ post : Int32 → SX → Prop, wX_expel_19 post x1 1 (nI c) ft (nI c) (nI w') T G K P O F' Q' D' → wX_expel_19 post x1 (d + 1) (nI i) ft (nI c) (nI w) T G K P O F Q D := by
  have hc := hV.1
  intro d
  induction d with
  | zero =>
    intro i w F Q D hi hQ hW hk hz
    have e : i = c := by omega
    subst e
    exact ⟨w, F, Q, D, hQ, hW, hk, hz, fun _ hp => hp⟩
  | succ d ih =>
    intro i w F Q D hi hQ hW hk hz
    have h : ¬ nI c ≤ nI i := nI_ge (by omega) (by omega)
    have hv : vp_in (nI i) 48 := vp_in_nI (by omega) (by omega)
    have hcl : (nI i).toNatClampNeg = i := nI_clamp (by omega)
    have hic : i < c := by omega
    have hlet : gl_M1 G K x1 i → ∃ (w' : Nat) (F' Q' D' : Nat → Int32), gl_Q c S w' F' Q' D' ∧ gl_W c G K P O (fun _ => False) F' D' ∧ gl_Mk c (gl_M1 G K x1) c F' ∧ w' + gl_z F' c ≤ 48 ∧ ∀ post : Int32 → SX → Prop, wX_expel_19 post x1 1 (nI c) ft (nI c) (nI w') T G K P O F' Q' D' → wX_expel_47 post (wX_expel_19 post x1 (d + 1)) x1 (nI i) ft (nI c) (nI w) T G K P O F Q D := by
      intro m
      obtain ⟨w1', Q1, D1, b1, b2, b3, b4, b5, b6⟩ := gl_let (ft := ft) (fc := nI c) hV hQ hW hic (hk.1 i (by omega) hic) (hM i hic m)
      obtain ⟨w', F', Q', D', c1, c2, c3, c4, c5⟩ := ih (i + 1) w1' (upd F i 1) Q1 D1 (by omega) b1 b2 (gl_Mk_let hk) (by omega)
      exact ⟨w', F', Q', D', c1, c2, c3, c4, fun post hp => b6 _ (nm_r (nI_1 i) (c5 post hp))⟩
    by_cases z1 : G (nI i).toNatClampNeg = x1
    · have z := z1
      rw [hcl] at z
      obtain ⟨w', F', Q', D', c1, c2, c3, c4, c5⟩ := hlet (Or.inl z)
      exact ⟨w', F', Q', D', c1, c2, c3, c4, fun post hp => br_f h ⟨hv, br_t z1 (c5 post hp)⟩⟩
    · by_cases z2 : K (nI i).toNatClampNeg = x1
      · have z := z2
        rw [hcl] at z
        obtain ⟨w', F', Q', D', c1, c2, c3, c4, c5⟩ := hlet (Or.inr z)
        exact ⟨w', F', Q', D', c1, c2, c3, c4, fun post hp => br_f h ⟨hv, br_f z1 ⟨hv, br_t z2 (c5 post hp)⟩⟩⟩
      · have w1 := z1
        have w2 := z2
        rw [hcl] at w1 w2
        obtain ⟨w', F', Q', D', c1, c2, c3, c4, c5⟩ := ih (i + 1) w F Q D (by omega) hQ hW (gl_Mk_skip hk (fun H => H.elim w1 w2)) hz
        exact ⟨w', F', Q', D', c1, c2, c3, c4, fun post hp => br_f h ⟨hv, br_f z1 ⟨hv, br_f z2 (nm_r (nI_1 i) (c5 post hp))⟩⟩⟩

/-- where both loops begin -/
theorem gl_begin (hV : gl_V t c T G K P O) {F Q D : Nat → Int32} (hF : ∀ g, g < c → F g = 0) (hD : ∀ j, j < 24 → D j = 0) (M : Nat → Prop) : gl_Q c S 0 F Q D ∧ gl_W c G K P O (fun _ => False) F D ∧ gl_Mk c M 0 F ∧ 0 + gl_z F c ≤ 48 := by
  have hc := hV.1
  have hz := gl_z_le F c
  refine ⟨⟨by rw [gl_z_all hD], fun i hi => by omega, fun i j _ hj => by omega, fun g hg _ => hF g hg⟩, ?_, ⟨fun g _ hg => hF g hg, fun g hg => by omega⟩, by omega⟩
  intro g hg _
  rcases hV.2.2.2 g hg with a | ⟨e, he, fd⟩
  · exact Or.inl a
  · exact Or.inr (Or.inr (Or.inl ⟨e, he, hF e (by omega), fd⟩))

/-- mark, then spread -/
theorem gl_xreach (ht : t ≤ 2560) (hV : gl_V t c T G K P O) (hK : gl_K c G K P O S) {x1 x2 x3 : Int32} (hM : ∀ g, g < c → gl_M3 G K P x1 x2 x3 g → ¬ S g) {F Q D : Nat → Int32} (hD : ∀ j, j < 24 → D j = 0) : ∃ (w : Nat) (F1 Q1 D1 F' Q' D' : Nat → Int32), (∀ g, g < c → S g → F' g = 0) ∧ (∀ j, j < 24 → D' j = 0) ∧ (∀ g, g < c → F' g = 0 → G g = 0 ∨ ∃ e, e < g ∧ F' e = 0 ∧ gl_Fd G K P O e g) ∧ (∀ g, g < c → gl_M3 G K P x1 x2 x3 g → ¬ F' g = 0) ∧ (∀ post : SX → Prop, post (ft, nI c, nI w, T, G, K, P, O, F1, Q1, D1) → wpX_mark post (ft, nI c, 0, T, G, K, P, O, F, Q, D) x1 x2 x3) ∧ (∀ post : SX → Prop, post (ft, nI c, 0, T, G, K, P, O, F', Q', D') → wpX_spread post (ft, nI c, nI w, T, G, K, P, O, F1, Q1, D1)) := by
  obtain ⟨F0, hF0, hclr⟩ := gl_clear (ft := ft) (fw := 0) (T := T) (G := G) (K := K) (P := P) (O := O) (Q := Q) (D := D) hV.1 F
  obtain ⟨b1, b2, b3, b4⟩ := gl_begin (S := S) (Q := Q) hV hF0 hD (gl_M3 G K P x1 x2 x3)
  obtain ⟨w, F1, Q1, D1, c1, c2, c3, c4, c5⟩ := gl_mark2 (ft := ft) hV hM c 0 0 F0 Q D (by omega) b1 b2 b3 b4
  obtain ⟨F', Q', D', d1, d2, d3, d4, d5⟩ := gl_spr (ft := ft) ht hV hK c4 c1 c2
  refine ⟨w, F1, Q1, D1, F', Q', D', d1, d2, d3, fun g hg hm => d4 g (c3.2 g hg hm), ?_, d5⟩
  intro post hp
  unfold wpX_mark
  exact hclr _ ⟨c + 1, c5 post hp⟩

theorem gl_xexpel (ht : t ≤ 2560) (hV : gl_V t c T G K P O) (hK : gl_K c G K P O S) {x1 : Int32} (hM : ∀ g, g < c → gl_M1 G K x1 g → ¬ S g) {F Q D : Nat → Int32} (hD : ∀ j, j < 24 → D j = 0) : ∃ (F0 : Nat → Int32) (w : Nat) (F1 Q1 D1 F' Q' D' : Nat → Int32), (∀ g, g < c → S g → F' g = 0) ∧ (∀ j, j < 24 → D' j = 0) ∧ (∀ g, g < c → F' g = 0 → G g = 0 ∨ ∃ e, e < g ∧ F' e = 0 ∧ gl_Fd G K P O e g) ∧ (∀ g, g < c → gl_M1 G K x1 g → ¬ F' g = 0) ∧ (∀ post : SX → Prop, post (ft, nI c, 0, T, G, K, P, O, F0, Q, D) → wpX_clearMarks post (ft, nI c, 0, T, G, K, P, O, F, Q, D)) ∧ (∀ post : Int32 → SX → Prop, wX_expel_19 post x1 1 (nI c) ft (nI c) (nI w) T G K P O F1 Q1 D1 → wX_expel_19 post x1 (c + 1) 0 ft (nI c) 0 T G K P O F0 Q D) ∧ (∀ post : SX → Prop, post (ft, nI c, 0, T, G, K, P, O, F', Q', D') → wpX_spread post (ft, nI c, nI w, T, G, K, P, O, F1, Q1, D1)) := by
  obtain ⟨F0, hF0, hclr⟩ := gl_clear (ft := ft) (fw := 0) (T := T) (G := G) (K := K) (P := P) (O := O) (Q := Q) (D := D) hV.1 F
  obtain ⟨b1, b2, b3, b4⟩ := gl_begin (S := S) (Q := Q) hV hF0 hD (gl_M1 G K x1)
  obtain ⟨w, F1, Q1, D1, c1, c2, c3, c4, c5⟩ := gl_expel2 (ft := ft) hV hM c 0 0 F0 Q D (by omega) b1 b2 b3 b4
  obtain ⟨F', Q', D', d1, d2, d3, d4, d5⟩ := gl_spr (ft := ft) ht hV hK c4 c1 c2
  exact ⟨F0, w, F1, Q1, D1, F', Q', D', d1, d2, d3, fun g hg hm => d4 g (c3.2 g hg hm), hclr, c5, d5⟩
end
end
section
section
variable {ft fc : Int32} {T G K P O : Nat → Int32} {c t : Nat}

/-- the giver of grant g is the owner or has the right from an earlier grant that E keeps -/
def gl_FD (G K P O E : Nat → Int32) (g : Nat) : Prop := G g = 0 ∨ ∃ e, e < g ∧ ¬ E e = 0 ∧ gl_Fd G K P O e g
theorem gl_FD_c {E E' : Nat → Int32} {g : Nat} (h : ∀ e, e < g → E e = E' e) (H : gl_FD G K P O E g) : gl_FD G K P O E' g := by
  rcases H with a | ⟨e, he, ke, fd⟩
  · exact Or.inl a
  · exact Or.inr ⟨e, he, by rw [← h e he]; exact ke, fd⟩

theorem gl_fnd2 {E : Nat → Int32} {g : Nat} (hg : g < 48) : ∀ d i : Nat, i + d = g → (∀ e, e < i → ¬ (¬ E e = 0 ∧ gl_Fd G K P O e g)) → ∃ r : Int32, ((r = 1 ∧ ∃ e, e < g ∧ ¬ E e = 0 ∧ gl_Fd G K P O e g) ∨ (r = 0 ∧ ∀ e, e < g → ¬ (¬ E e = 0 ∧ gl_Fd G K P O e g))) ∧ ∀ post : Int32 → Prop, post r → wY_founded_13 post (nI g) fc ft T G K P O E (d + 1) (nI i) := by
  have hgv : vp_in (nI g) 48 := vp_in_nI hg (by omega)
  have hgc : (nI g).toNatClampNeg = g := nI_clamp (by omega)
  intro d
  induction d with
  | zero =>
    intro i hi hlt
    have h : nI g ≤ nI i := nI_le (by omega) (by omega)
    have e : i = g := by omega
    subst e
    exact ⟨0, Or.inr ⟨rfl, hlt⟩, fun _ hp => br_t h hp⟩
  | succ d ih =>
    intro i hi hlt
    have h : ¬ nI g ≤ nI i := nI_ge (by omega) (by omega)
    have hv : vp_in (nI i) 48 := vp_in_nI (by omega) (by omega)
    have hcl : (nI i).toNatClampNeg = i := nI_clamp (by omega)
    by_cases z1 : E (nI i).toNatClampNeg = 0
    · have z := z1
      rw [hcl] at z
      obtain ⟨r, hr, hw⟩ := ih (i + 1) (by omega) (lt_s hlt (fun H => H.1 z))
      exact ⟨r, hr, fun post hp => br_f h ⟨hv, br_t z1 (nm_r (nI_1 i) (hw post hp))⟩⟩
    · by_cases z2 : O (nI i).toNatClampNeg = 0
      · have z := z2
        rw [hcl] at z
        obtain ⟨r, hr, hw⟩ := ih (i + 1) (by omega) (lt_s hlt (fun H => H.2.1 z))
        exact ⟨r, hr, fun post hp => br_f h ⟨hv, br_f z1 ⟨hv, br_t z2 (nm_r (nI_1 i) (hw post hp))⟩⟩⟩
      · by_cases z3 : K (nI i).toNatClampNeg = G (nI g).toNatClampNeg
        · by_cases z4 : P (nI i).toNatClampNeg = P (nI g).toNatClampNeg
          · have w1 := z1
            have w2 := z2
            have w3 := z3
            have w4 := z4
            rw [hcl] at w1 w2
            rw [hcl, hgc] at w3 w4
            exact ⟨1, Or.inl ⟨rfl, i, by omega, w1, w2, w3, w4⟩, fun post hp => br_f h ⟨hv, br_f z1 ⟨hv, br_f z2 ⟨hv, hgv, br_t z3 ⟨hv, hgv, br_t z4 hp⟩⟩⟩⟩⟩
          · have z := z4
            rw [hcl, hgc] at z
            obtain ⟨r, hr, hw⟩ := ih (i + 1) (by omega) (lt_s hlt (fun H => z H.2.2.2))
            exact ⟨r, hr, fun post hp => br_f h ⟨hv, br_f z1 ⟨hv, br_f z2 ⟨hv, hgv, br_t z3 ⟨hv, hgv, br_f z4 (nm_r (nI_1 i) (hw post hp))⟩⟩⟩⟩⟩
        · have z := z3
          rw [hcl, hgc] at z
          obtain ⟨r, hr, hw⟩ := ih (i + 1) (by omega) (lt_s hlt (fun H => z H.2.2.1))
          exact ⟨r, hr, fun post hp => br_f h ⟨hv, br_f z1 ⟨hv, br_f z2 ⟨hv, hgv, br_f z3 (nm_r (nI_1 i) (hw post hp))⟩⟩⟩⟩
theorem gl_fnd {E : Nat → Int32} {g : Nat} (hg : g < 48) : ∃ r : Int32, ((r = 1 ∧ gl_FD G K P O E g) ∨ (r = 0 ∧ ¬ gl_FD G K P O E g)) ∧ ∀ post : Int32 → Prop, post r → wpY_founded post (fc, ft, T, G, K, P, O, E) (nI g) := by
  have hgv : vp_in (nI g) 48 := vp_in_nI hg (by omega)
  have hgc : (nI g).toNatClampNeg = g := nI_clamp (by omega)
  by_cases z : G (nI g).toNatClampNeg = 0
  · have z' := z
    rw [hgc] at z'
    exact ⟨1, Or.inl ⟨rfl, Or.inl z'⟩, fun post hp => ⟨hgv, br_t z hp⟩⟩
  · have z' := z
    rw [hgc] at z'
    obtain ⟨r, hr, hw⟩ := gl_fnd2 (ft := ft) (fc := fc) (T := T) (G := G) (K := K) (P := P) (O := O) (E := E) hg g 0 (by omega) lt_0
    refine ⟨r, ?_, fun post hp => ⟨hgv, br_f z ⟨g + 1, hw post hp⟩⟩⟩
    rcases hr with ⟨a, b⟩ | ⟨a, b⟩
    · exact Or.inl ⟨a, Or.inr b⟩
    · exact Or.inr ⟨a, fun H => H.elim z' (fun ⟨e, he, h⟩ => b e he h)⟩

/-- what settle makes of E0, below i -/
def gl_St (G K P O E0 E : Nat → Int32) (i : Nat) : Prop := ∀ g, g < i → (¬ E g = 0 ↔ ¬ E0 g = 0 ∧ gl_FD G K P O E g)
theorem gl_St_s {E0 E : Nat → Int32} {i : Nat} {b : Int32} (h : gl_St G K P O E0 E i) (hb : ¬ b = 0 ↔ ¬ E0 i = 0 ∧ gl_FD G K P O E i) : gl_St G K P O E0 (upd E i b) (i + 1) := by
  have hlo : ∀ e, e < i → E e = upd E i b e := fun e he => (pk_un (by omega)).symm
  have hlo' : ∀ e, e < i → upd E i b e = E e := fun e he => pk_un (by omega)
  intro g hg
  by_cases e : g = i
  · subst e
    rw [pk_us]
    exact ⟨fun z => ⟨(hb.mp z).1, gl_FD_c hlo (hb.mp z).2⟩, fun z => hb.mpr ⟨z.1, gl_FD_c hlo' z.2⟩⟩
  · rw [pk_un e]
    have q := h g (by omega)
    exact ⟨fun z => ⟨(q.mp z).1, gl_FD_c (fun e he => hlo e (by omega)) (q.mp z).2⟩, fun z => q.mpr ⟨z.1, gl_FD_c (fun e he => hlo' e (by omega)) z.2⟩⟩

theorem gl_set2 (hc : c ≤ 48) (E0 : Nat → Int32) : ∀ (d i : Nat) (E : Nat → Int32), i + d = c → (∀ g, i ≤ g → E g = E0 g) → gl_St G K P O E0 E i → ∃ E' : Nat → Int32, gl_St G K P O E0 E' c ∧ ∀ post : Int32 → SY → Prop, post (nI (gl_z E' c)) (nI c, ft, T, G, K, P, O, E') → wY_settle_4 post (nI c) ft (d + 1) (nI (gl_z E i)) (nI i) T G K P O E := by
  intro d
  induction d with
  | zero =>
    intro i E hi hge hst
    have h : nI c ≤ nI i := nI_le (by omega) (by omega)
    have e : i = c := by omega
    subst e
    exact ⟨E, hst, fun _ hp => br_t h hp⟩
  | succ d ih =>
    intro i E hi hge hst
    have h : ¬ nI c ≤ nI i := nI_ge (by omega) (by omega)
    have hv : vp_in (nI i) 48 := vp_in_nI (by omega) (by omega)
    have hcl : (nI i).toNatClampNeg = i := nI_clamp (by omega)
    have hup : ∀ b : Int32, ∀ g, i + 1 ≤ g → upd E i b g = E0 g := fun b g hg => by
      rw [pk_un (by omega)]
      exact hge g (by omega)
    have hzi : ∀ b : Int32, gl_z (upd E i b) i = gl_z E i := fun b => gl_z_eq (fun j hj => pk_un (by omega))
    have h0 : ¬ (¬ E0 i = 0 ∧ gl_FD G K P O E i) → ∃ E' : Nat → Int32, gl_St G K P O E0 E' c ∧ ∀ post : Int32 → SY → Prop, post (nI (gl_z E' c)) (nI c, ft, T, G, K, P, O, E') → wY_settle_38 post (wY_settle_4 post (nI c) ft (d + 1)) (nI (gl_z E i)) (nI i) (nI i) (nI c) ft T G K P O E := by
      intro hno
      obtain ⟨E', e1, e2⟩ := ih (i + 1) (upd E i 0) (by omega) (hup 0) (gl_St_s hst ⟨fun z => absurd rfl z, fun z => absurd z hno⟩)
      have hz : gl_z (upd E i 0) (i + 1) = gl_z E i + 1 := by
        rw [gl_z_s pk_us, hzi]
      rw [hz] at e2
      have hcond : upd E i 0 (nI i).toNatClampNeg = 0 := by rw [hcl]; exact pk_us
      exact ⟨E', e1, fun post hp => ⟨hv, nm_r (e' := upd E i 0) (by rw [hcl]; rfl) ⟨hv, br_t hcond (nm_r (nI_1 _) (nm_r (nI_1 i) (e2 post hp)))⟩⟩⟩
    have h1 : (¬ E0 i = 0 ∧ gl_FD G K P O E i) → ∃ E' : Nat → Int32, gl_St G K P O E0 E' c ∧ ∀ post : Int32 → SY → Prop, post (nI (gl_z E' c)) (nI c, ft, T, G, K, P, O, E') → wY_settle_39 post (wY_settle_4 post (nI c) ft (d + 1)) (nI (gl_z E i)) (nI i) 1 (nI i) (nI c) ft T G K P O E := by
      intro hyes
      obtain ⟨E', e1, e2⟩ := ih (i + 1) (upd E i 1) (by omega) (hup 1) (gl_St_s hst ⟨fun _ => hyes, fun _ => gl_10⟩)
      have hne : ¬ upd E i 1 i = 0 := by rw [pk_us]; exact gl_10
      have hz : gl_z (upd E i 1) (i + 1) = gl_z E i := by
        rw [gl_z_n hne, hzi]
      rw [hz] at e2
      have hcond : ¬ upd E i 1 (nI i).toNatClampNeg = 0 := by rw [hcl]; exact hne
      exact ⟨E', e1, fun post hp => ⟨hv, nm_r (e' := upd E i 1) (by rw [hcl]; rfl) ⟨hv, br_f hcond (nm_r (nI_1 i) (e2 post hp))⟩⟩⟩
    by_cases z1 : E (nI i).toNatClampNeg = 0
    · have z := z1
      rw [hcl, hge i (by omega)] at z
      obtain ⟨E', e1, e2⟩ := h0 (fun H => H.1 z)
      exact ⟨E', e1, fun post hp => br_f h ⟨hv, br_t z1 (e2 post hp)⟩⟩
    · have z := z1
      rw [hcl, hge i (by omega)] at z
      obtain ⟨r, hr, hw⟩ := gl_fnd (ft := ft) (fc := nI c) (T := T) (G := G) (K := K) (P := P) (O := O) (E := E) (g := i) (by omega)
      rcases hr with ⟨a, b⟩ | ⟨a, b⟩
      · obtain ⟨E', e1, e2⟩ := h1 ⟨z, b⟩
        have hr0 : ¬ r = 0 := by rw [a]; exact gl_10
        exact ⟨E', e1, fun post hp => br_f h ⟨hv, br_f z1 (hw _ (br_f hr0 (e2 post hp)))⟩⟩
      · obtain ⟨E', e1, e2⟩ := h0 (fun H => b H.2)
        exact ⟨E', e1, fun post hp => br_f h ⟨hv, br_f z1 (hw _ (br_t a (e2 post hp)))⟩⟩
theorem gl_set (hc : c ≤ 48) (E : Nat → Int32) : ∃ E' : Nat → Int32, gl_St G K P O E E' c ∧ ∀ post : Int32 → SY → Prop, post (nI (gl_z E' c)) (nI c, ft, T, G, K, P, O, E') → wpY_settle post (nI c, ft, T, G, K, P, O, E) := by
  obtain ⟨E', e1, e2⟩ := gl_set2 (ft := ft) (T := T) (G := G) (K := K) (P := P) (O := O) hc E c 0 E (by omega) (fun _ _ => rfl) lt_0
  exact ⟨E', e1, fun post hp => ⟨c + 1, e2 post hp⟩⟩

/-- E is 1 where M isn't, below i -/
def gl_EM (M : Nat → Prop) (E : Nat → Int32) (i : Nat) : Prop := ∀ g, g < i → (¬ E g = 0 ↔ ¬ M g)
theorem gl_EM_s {M : Nat → Prop} {E : Nat → Int32} {i : Nat} {b : Int32} (h : gl_EM M E i) (hb : ¬ b = 0 ↔ ¬ M i) : gl_EM M (upd E i b) (i + 1) := by
  intro g hg
  by_cases e : g = i
  · subst e
    rw [pk_us]
    exact hb
  · rw [pk_un e]
    exact h g (by omega)
theorem gl_EM_0 {M : Nat → Prop} {E : Nat → Int32} {i : Nat} (h : gl_EM M E i) (hM : M i) : gl_EM M (upd E i 0) (i + 1) := gl_EM_s h ⟨fun z => absurd rfl z, fun z => absurd hM z⟩
theorem gl_EM_1 {M : Nat → Prop} {E : Nat → Int32} {i : Nat} (h : gl_EM M E i) (hM : ¬ M i) : gl_EM M (upd E i 1) (i + 1) := gl_EM_s h ⟨fun _ => hM, fun _ => gl_10⟩

theorem gl_ymark2 (hc : c ≤ 48) (x1 x2 x3 : Int32) : ∀ (d i : Nat) (E : Nat → Int32), i + d = c → gl_EM (gl_M3 G K P x1 x2 x3) E i → ∃ E' : Nat → Int32, gl_EM (gl_M3 G K P x1 x2 x3) E' c ∧ ∀ post : Int32 → SY → Prop, wY_reach_26 post x1 x2 x3 (nI c) ft 1 (nI c) T G K P O E' → wY_reach_26 post x1 x2 x3 (nI c) ft (d + 1) (nI i) T G K P O E := by
  intro d
  induction d with
  | zero =>
    intro i E hi hE
    have e : i = c := by omega
    subst e
    exact ⟨E, hE, fun _ hp => hp⟩
  | succ d ih =>
    intro i E hi hE
    have h : ¬ nI c ≤ nI i := nI_ge (by omega) (by omega)
    have hv : vp_in (nI i) 48 := vp_in_nI (by omega) (by omega)
    have hcl : (nI i).toNatClampNeg = i := nI_clamp (by omega)
    have u0 : upd E (nI i).toNatClampNeg (vp_nar .boolean 0) = upd E i 0 := by rw [hcl]; rfl
    have u1 : upd E (nI i).toNatClampNeg (vp_nar .boolean 1) = upd E i 1 := by rw [hcl]; rfl
    by_cases z1 : G (nI i).toNatClampNeg = x1
    · by_cases z2 : K (nI i).toNatClampNeg = x2
      · by_cases z3 : P (nI i).toNatClampNeg = x3
        · have w1 := z1
          have w2 := z2
          have w3 := z3
          rw [hcl] at w1 w2 w3
          obtain ⟨E', e1, e2⟩ := ih (i + 1) (upd E i 0) (by omega) (gl_EM_0 hE ⟨w1, w2, w3⟩)
          exact ⟨E', e1, fun post hp => br_f h ⟨hv, br_t z1 ⟨hv, br_t z2 ⟨hv, br_t z3 ⟨hv, nm_r u0 (nm_r (nI_1 i) (e2 post hp))⟩⟩⟩⟩⟩
        · have z := z3
          rw [hcl] at z
          obtain ⟨E', e1, e2⟩ := ih (i + 1) (upd E i 1) (by omega) (gl_EM_1 hE (fun H => z H.2.2))
          exact ⟨E', e1, fun post hp => br_f h ⟨hv, br_t z1 ⟨hv, br_t z2 ⟨hv, br_f z3 ⟨hv, nm_r u1 (nm_r (nI_1 i) (e2 post hp))⟩⟩⟩⟩⟩
      · have z := z2
        rw [hcl] at z
        obtain ⟨E', e1, e2⟩ := ih (i + 1) (upd E i 1) (by omega) (gl_EM_1 hE (fun H => z H.2.1))
        exact ⟨E', e1, fun post hp => br_f h ⟨hv, br_t z1 ⟨hv, br_f z2 ⟨hv, nm_r u1 (nm_r (nI_1 i) (e2 post hp))⟩⟩⟩⟩
    · have z := z1
      rw [hcl] at z
      obtain ⟨E', e1, e2⟩ := ih (i + 1) (upd E i 1) (by omega) (gl_EM_1 hE (fun H => z H.1))
      exact ⟨E', e1, fun post hp => br_f h ⟨hv, br_f z1 ⟨hv, nm_r u1 (nm_r (nI_1 i) (e2 post hp))⟩⟩⟩
theorem gl_yexpel2 (hc : c ≤ 48) (x1 : Int32) : ∀ (d i : Nat) (E : Nat → Int32), i + d = c → gl_EM (gl_M1 G K x1) E i → ∃ E' : Nat → Int32, gl_EM (gl_M1 G K x1) E' c ∧ ∀ post : Int32 → SY → Prop, wY_expel_15 post x1 (nI c) ft 1 (nI c) T G K P O E' → wY_expel_15 post x1 (nI c) ft (d + 1) (nI i) T G K P O E := by
  intro d
  induction d with
  | zero =>
    intro i E hi hE
    have e : i = c := by omega
    subst e
    exact ⟨E, hE, fun _ hp => hp⟩
  | succ d ih =>
    intro i E hi hE
    have h : ¬ nI c ≤ nI i := nI_ge (by omega) (by omega)
    have hv : vp_in (nI i) 48 := vp_in_nI (by omega) (by omega)
    have hcl : (nI i).toNatClampNeg = i := nI_clamp (by omega)
    have u0 : upd E (nI i).toNatClampNeg (vp_nar .boolean 0) = upd E i 0 := by rw [hcl]; rfl
    have u1 : upd E (nI i).toNatClampNeg (vp_nar .boolean 1) = upd E i 1 := by rw [hcl]; rfl
    by_cases z1 : G (nI i).toNatClampNeg = x1
    · have z := z1
      rw [hcl] at z
      obtain ⟨E', e1, e2⟩ := ih (i + 1) (upd E i 0) (by omega) (gl_EM_0 hE (Or.inl z))
      exact ⟨E', e1, fun post hp => br_f h ⟨hv, br_t z1 ⟨hv, nm_r u0 (nm_r (nI_1 i) (e2 post hp))⟩⟩⟩
    · by_cases z2 : K (nI i).toNatClampNeg = x1
      · have z := z2
        rw [hcl] at z
        obtain ⟨E', e1, e2⟩ := ih (i + 1) (upd E i 0) (by omega) (gl_EM_0 hE (Or.inr z))
        exact ⟨E', e1, fun post hp => br_f h ⟨hv, br_f z1 ⟨hv, br_t z2 ⟨hv, nm_r u0 (nm_r (nI_1 i) (e2 post hp))⟩⟩⟩⟩
      · have w1 := z1
        have w2 := z2
        rw [hcl] at w1 w2
        obtain ⟨E', e1, e2⟩ := ih (i + 1) (upd E i 1) (by omega) (gl_EM_1 hE (fun H => H.elim w1 w2))
        exact ⟨E', e1, fun post hp => br_f h ⟨hv, br_f z1 ⟨hv, br_f z2 ⟨hv, nm_r u1 (nm_r (nI_1 i) (e2 post hp))⟩⟩⟩⟩

/-- what Y keeps in the end -/
def gl_Y (c : Nat) (G K P O : Nat → Int32) (M : Nat → Prop) (E : Nat → Int32) : Prop := ∀ g, g < c → (¬ E g = 0 ↔ ¬ M g ∧ gl_FD G K P O E g)
theorem gl_Y_of {M : Nat → Prop} {E0 E : Nat → Int32} (h1 : gl_EM M E0 c) (h2 : gl_St G K P O E0 E c) : gl_Y c G K P O M E := by
  intro g hg
  exact ⟨fun z => ⟨(h1 g hg).mp ((h2 g hg).mp z).1, ((h2 g hg).mp z).2⟩, fun z => (h2 g hg).mpr ⟨(h1 g hg).mpr z.1, z.2⟩⟩
theorem gl_yreach (hc : c ≤ 48) (x1 x2 x3 : Int32) (E : Nat → Int32) : ∃ E' : Nat → Int32, gl_Y c G K P O (gl_M3 G K P x1 x2 x3) E' ∧ ∀ post : Int32 → SY → Prop, post (nI (gl_z E' c)) (nI c, ft, T, G, K, P, O, E') → ∃ n : Nat, wY_reach_26 post x1 x2 x3 (nI c) ft n 0 T G K P O E := by
  obtain ⟨E1, a1, a2⟩ := gl_ymark2 (ft := ft) (T := T) (G := G) (K := K) (P := P) (O := O) hc x1 x2 x3 c 0 E (by omega) lt_0
  obtain ⟨E', b1, b2⟩ := gl_set (ft := ft) (T := T) (G := G) (K := K) (P := P) (O := O) hc E1
  exact ⟨E', gl_Y_of a1 b1, fun post hp => ⟨c + 1, a2 post (br_t (gl_le_refl _) (b2 _ hp))⟩⟩
theorem gl_yexpel (hc : c ≤ 48) (x1 : Int32) (E : Nat → Int32) : ∃ E' : Nat → Int32, gl_Y c G K P O (gl_M1 G K x1) E' ∧ ∀ post : Int32 → SY → Prop, wpY_drop (fun u => post (nI (gl_z E' c)) u) (nI c, ft, T, G, K, P, O, E') → ∃ n : Nat, wY_expel_15 post x1 (nI c) ft n 0 T G K P O E := by
  obtain ⟨E1, a1, a2⟩ := gl_yexpel2 (ft := ft) (T := T) (G := G) (K := K) (P := P) (O := O) hc x1 c 0 E (by omega) lt_0
  obtain ⟨E', b1, b2⟩ := gl_set (ft := ft) (T := T) (G := G) (K := K) (P := P) (O := O) hc E1
  exact ⟨E', gl_Y_of a1 b1, fun post hp => ⟨c + 1, a2 post (br_t (gl_le_refl _) (b2 _ hp))⟩⟩

/-- X and Y keep the same -/
theorem gl_Y_K {M : Nat → Prop} {E : Nat → Int32} (h : gl_Y c G K P O M E) : gl_K c G K P O (fun g => ¬ E g = 0) := fun g hg s => ((h g hg).mp s).2
theorem gl_Y_M {M : Nat → Prop} {E : Nat → Int32} (h : gl_Y c G K P O M E) : ∀ g, g < c → M g → ¬ (fun g => ¬ E g = 0) g := fun g hg m s => ((h g hg).mp s).1 m
theorem gl_same {M : Nat → Prop} {E F : Nat → Int32} (h : gl_Y c G K P O M E) (h1 : ∀ g, g < c → ¬ E g = 0 → F g = 0) (h2 : ∀ g, g < c → F g = 0 → G g = 0 ∨ ∃ e, e < g ∧ F e = 0 ∧ gl_Fd G K P O e g) (h3 : ∀ g, g < c → M g → ¬ F g = 0) : ∀ g, g < c → (F g = 0 ↔ ¬ E g = 0) := by
  have key : ∀ n g, g < n → g < c → F g = 0 → ¬ E g = 0 := by
    intro n
    induction n with
    | zero => intro g hg; omega
    | succ n ih =>
      intro g hg hgc fg
      refine (h g hgc).mpr ⟨fun m => h3 g hgc m fg, ?_⟩
      rcases h2 g hgc fg with a | ⟨e, he, fe, fd⟩
      · exact Or.inl a
      · exact Or.inr ⟨e, he, ih e (by omega) (by omega) fe, fd⟩
  intro g hg
  exact ⟨key (g + 1) g (by omega) hg, h1 g hg⟩
end
end
section
section
variable {ft fw : Int32} {T0 G0 K0 P0 O0 F0 Q D E : Nat → Int32} {c t : Nat}

/-- the kept ones below i stand, in order, below l; from i on nothing is changed -/
def gl_C (T0 G0 K0 P0 O0 F0 : Nat → Int32) (i l : Nat) (T G K P O F : Nat → Int32) : Prop :=
  l ≤ i ∧ l = gl_z F0 i ∧ (∀ j, i ≤ j → T j = T0 j ∧ G j = G0 j ∧ K j = K0 j ∧ P j = P0 j ∧ O j = O0 j ∧ F j = F0 j) ∧ ∃ ix : Nat → Nat, (∀ j, j < l → ix j < i ∧ F0 (ix j) = 0 ∧ T j = T0 (ix j) ∧ G j = G0 (ix j) ∧ K j = K0 (ix j) ∧ P j = P0 (ix j) ∧ O j = O0 (ix j)) ∧ (∀ a b, a < b → b < l → ix a < ix b) ∧ (∀ g, g < i → F0 g = 0 → ∃ j, j < l ∧ ix j = g)

theorem gl_C_0 : gl_C T0 G0 K0 P0 O0 F0 0 0 T0 G0 K0 P0 O0 F0 :=
  ⟨Nat.le_refl 0, rfl, fun _ _ => ⟨rfl, rfl, rfl, rfl, rfl, rfl⟩, fun j => j, fun j hj => absurd hj (Nat.not_lt_zero j), fun a b _ hb => absurd hb (Nat.not_lt_zero b), fun g hg _ => absurd hg (Nat.not_lt_zero g)⟩
theorem gl_C_skip {i l : Nat} {T G K P O F : Nat → Int32} (h : gl_C T0 G0 K0 P0 O0 F0 i l T G K P O F) (hF : ¬ F0 i = 0) : gl_C T0 G0 K0 P0 O0 F0 (i + 1) l T G K P O F := by
  obtain ⟨h1, h2, h3, ix, h4, h5, h6⟩ := h
  refine ⟨by omega, by rw [gl_z_n hF]; exact h2, fun j hj => h3 j (by omega), ix, fun j hj => ?_, h5, fun g hg fg => ?_⟩
  · obtain ⟨a, b⟩ := h4 j hj
    exact ⟨by omega, b⟩
  · by_cases e : g = i
    · subst e
      exact absurd fg hF
    · exact h6 g (by omega) fg
theorem gl_C_keep {i l : Nat} {T G K P O F : Nat → Int32} (h : gl_C T0 G0 K0 P0 O0 F0 i l T G K P O F) (hF : F0 i = 0) : gl_C T0 G0 K0 P0 O0 F0 (i + 1) (l + 1) (upd T l (T i)) (upd G l (G i)) (upd K l (K i)) (upd P l (P i)) (upd O l (O i)) (upd F l 0) := by
  obtain ⟨h1, h2, h3, ix, h4, h5, h6⟩ := h
  refine ⟨by omega, by rw [gl_z_s hF]; omega, fun j hj => ?_, fun j => if j = l then i else ix j, fun j hj => ?_, fun a b hab hb => ?_, fun g hg fg => ?_⟩
  · have ne : j ≠ l := by omega
    rw [pk_un ne, pk_un ne, pk_un ne, pk_un ne, pk_un ne, pk_un ne]
    exact h3 j (by omega)
  · by_cases e : j = l
    · subst e
      obtain ⟨a1, a2, a3, a4, a5, a6⟩ := h3 i (Nat.le_refl i)
      dsimp only
      rw [if_pos rfl, pk_us, pk_us, pk_us, pk_us, pk_us]
      exact ⟨by omega, hF, a1, a2, a3, a4, a5⟩
    · obtain ⟨a, b⟩ := h4 j (by omega)
      dsimp only
      rw [if_neg e, pk_un e, pk_un e, pk_un e, pk_un e, pk_un e]
      exact ⟨by omega, b⟩
  · have ea : a ≠ l := by omega
    show (if a = l then i else ix a) < (if b = l then i else ix b)
    rw [if_neg ea]
    by_cases e : b = l
    · rw [if_pos e]
      exact (h4 a (by omega)).1
    · rw [if_neg e]
      exact h5 a b hab (by omega)
  · by_cases e : g = i
    · exact ⟨l, by omega, by dsimp only; rw [if_pos rfl, e]⟩
    · obtain ⟨j, hj, ej⟩ := h6 g (by omega) fg
      exact ⟨j, by omega, by dsimp only; rw [if_neg (by omega)]; exact ej⟩

theorem gl_C_V {l : Nat} {T G K P O F : Nat → Int32} (hV : gl_V t c T0 G0 K0 P0 O0) (h : gl_C T0 G0 K0 P0 O0 F0 c l T G K P O F) (hW : ∀ g, g < c → F0 g = 0 → G0 g = 0 ∨ ∃ e, e < g ∧ F0 e = 0 ∧ gl_Fd G0 K0 P0 O0 e g) : gl_V t l T G K P O := by
  obtain ⟨h1, h2, h3, ix, h4, h5, h6⟩ := h
  obtain ⟨v1, v2, v3, v4⟩ := hV
  refine ⟨by omega, fun g hg => ?_, fun i j hij hj => ?_, fun g hg => ?_⟩
  · obtain ⟨a0, a1, a2, a3, a4, a5, a6⟩ := h4 g hg
    have q := v2 (ix g) a0
    unfold gl_El at q ⊢
    rw [a2, a3, a4, a5, a6]
    exact q
  · obtain ⟨a0, a1, a2, a3, a4, a5, a6⟩ := h4 i (by omega)
    obtain ⟨b0, b1, b2, b3, b4, b5, b6⟩ := h4 j hj
    rw [a2, b2]
    exact v3 _ _ (h5 i j hij hj) b0
  · obtain ⟨a0, a1, a2, a3, a4, a5, a6⟩ := h4 g hg
    rcases hW (ix g) a0 a1 with z | ⟨e, he, fe, fd⟩
    · exact Or.inl (a3.trans z)
    · obtain ⟨j, hj, ej⟩ := h6 e (by omega) fe
      refine Or.inr ⟨j, ?_, ?_⟩
      · by_cases z : j < g
        · exact z
        · by_cases z2 : j = g
          · subst z2
            omega
          · have := h5 g j (by omega) hj
            omega
      · obtain ⟨b0, b1, b2, b3, b4, b5, b6⟩ := h4 j hj
        unfold gl_Fd at fd ⊢
        rw [b4, b5, b6, a3, a5, ej]
        exact fd

theorem gl_sw2 (hV : gl_V t c T0 G0 K0 P0 O0) (hFE : ∀ g, g < c → (F0 g = 0 ↔ ¬ E g = 0)) : ∀ (d i l : Nat) (T G K P O F : Nat → Int32), i + d = c → gl_C T0 G0 K0 P0 O0 F0 i l T G K P O F → ∃ (l' : Nat) (T' G' K' P' O' F' : Nat → Int32), gl_C T0 G0 K0 P0 O0 F0 c l' T' G' K' P' O' F' ∧ (∀ post : Int32 → SX → Prop, wX_sweep_4 post ft (nI c) fw 1 (nI l') (nI c) T' G' K' P' O' F' Q D → wX_sweep_4 post ft (nI c) fw (d + 1) (nI l) (nI i) T G K P O F Q D) ∧ (∀ post : SY → Prop, post (nI l', ft, T', G', K', P', O', E) → wY_drop_4 post (nI c) ft (d + 1) (nI l) (nI i) T G K P O E) := by
  have hc := hV.1
  intro d
  induction d with
  | zero =>
    intro i l T G K P O F hi hC
    have h : nI c ≤ nI i := nI_le (by omega) (by omega)
    have e : i = c := by omega
    subst e
    exact ⟨l, T, G, K, P, O, F, hC, fun _ hp => hp, fun _ hp => br_t h hp⟩
  | succ d ih =>
    intro i l T G K P O F hi hC
    have h : ¬ nI c ≤ nI i := nI_ge (by omega) (by omega)
    have hv : vp_in (nI i) 48 := vp_in_nI (by omega) (by omega)
    have hcl : (nI i).toNatClampNeg = i := nI_clamp (by omega)
    have hic : i < c := by omega
    have hli := hC.1
    have hlv : vp_in (nI l) 48 := vp_in_nI (by omega) (by omega)
    have hll : (nI l).toNatClampNeg = l := nI_clamp (by omega)
    obtain ⟨q1, q2, q3, q4, q5, q6⟩ := hC.2.2.1 i (Nat.le_refl i)
    by_cases z : F (nI i).toNatClampNeg = 0
    · have z' := z
      rw [hcl, q6] at z'
      have y : ¬ E (nI i).toNatClampNeg = 0 := by
        rw [hcl]
        exact (hFE i hic).mp z'
      obtain ⟨l', T', G', K', P', O', F', c1, c2, c3⟩ := ih (i + 1) (l + 1) _ _ _ _ _ _ (by omega) (gl_C_keep hC z')
      have hO : O i = 0 ∨ O i = 1 := by
        obtain ⟨m, a, b, p, hm, ha, hb1, hb, hp, hab, eT, eG, eK, eP, eO⟩ := hV.2.1 i hic
        rw [q5]
        exact eO
      have uT : upd T (nI l).toNatClampNeg (T (nI i).toNatClampNeg) = upd T l (T i) := by rw [hcl, hll]
      have uG : upd G (nI l).toNatClampNeg (G (nI i).toNatClampNeg) = upd G l (G i) := by rw [hcl, hll]
      have uK : upd K (nI l).toNatClampNeg (K (nI i).toNatClampNeg) = upd K l (K i) := by rw [hcl, hll]
      have uP : upd P (nI l).toNatClampNeg (P (nI i).toNatClampNeg) = upd P l (P i) := by rw [hcl, hll]
      have uO : upd O (nI l).toNatClampNeg (vp_nar .boolean (O (nI i).toNatClampNeg)) = upd O l (O i) := by rw [hcl, hll, gl_b hO]
      have uF : upd F (nI l).toNatClampNeg (vp_nar .boolean 0) = upd F l 0 := by rw [hll]; rfl
      refine ⟨l', T', G', K', P', O', F', c1, ?_, ?_⟩
      · intro post hp
        exact br_f h ⟨hv, br_t z ⟨hv, hlv, nm_r uT ⟨hv, hlv, nm_r uG ⟨hv, hlv, nm_r uK ⟨hv, hlv, nm_r uP ⟨hv, hlv, nm_r uO ⟨hlv, nm_r uF (nm_r (nI_1 l) (nm_r (nI_1 i) (c2 post hp)))⟩⟩⟩⟩⟩⟩⟩
      · intro post hp
        exact br_f h ⟨hv, br_f y ⟨hv, hlv, nm_r uT ⟨hv, hlv, nm_r uG ⟨hv, hlv, nm_r uK ⟨hv, hlv, nm_r uP ⟨hv, hlv, nm_r uO (nm_r (nI_1 l) (nm_r (nI_1 i) (c3 post hp)))⟩⟩⟩⟩⟩⟩
    · have z' := z
      rw [hcl, q6] at z'
      have y : E (nI i).toNatClampNeg = 0 := by
        rw [hcl]
        by_cases y : E i = 0
        · exact y
        · exact absurd ((hFE i hic).mpr y) z'
      obtain ⟨l', T', G', K', P', O', F', c1, c2, c3⟩ := ih (i + 1) l T G K P O F (by omega) (gl_C_skip hC z')
      exact ⟨l', T', G', K', P', O', F', c1, fun post hp => br_f h ⟨hv, br_f z (nm_r (nI_1 i) (c2 post hp))⟩, fun post hp => br_f h ⟨hv, br_t y (nm_r (nI_1 i) (c3 post hp))⟩⟩

/-- sweep and drop: the same table, and the number of those that fell -/
theorem gl_sw (hV : gl_V t c T0 G0 K0 P0 O0) (hFE : ∀ g, g < c → (F0 g = 0 ↔ ¬ E g = 0)) (hW : ∀ g, g < c → F0 g = 0 → G0 g = 0 ∨ ∃ e, e < g ∧ F0 e = 0 ∧ gl_Fd G0 K0 P0 O0 e g) : ∃ (l : Nat) (T G K P O F : Nat → Int32), gl_V t l T G K P O ∧ (∀ g, g < l → F g = 0) ∧ (∀ post : Int32 → SX → Prop, post (nI (gl_z E c)) (ft, nI l, fw, T, G, K, P, O, F, Q, D) → wpX_sweep post (ft, nI c, fw, T0, G0, K0, P0, O0, F0, Q, D)) ∧ (∀ post : SY → Prop, post (nI l, ft, T, G, K, P, O, E) → wpY_drop post (nI c, ft, T0, G0, K0, P0, O0, E)) := by
  have hc := hV.1
  obtain ⟨l, T, G, K, P, O, F1, c1, c2, c3⟩ := gl_sw2 (ft := ft) (fw := fw) (Q := Q) (D := D) hV hFE c 0 0 T0 G0 K0 P0 O0 F0 (by omega) gl_C_0
  have hl := c1.1
  obtain ⟨F, f1, f2⟩ := gl_clear (c := l) (ft := ft) (fw := fw) (T := T) (G := G) (K := K) (P := P) (O := O) (Q := Q) (D := D) (by omega) F1
  have hco := gl_z_co hFE
  have hle := c1.2.1
  have hn : nI c - nI l = nI (gl_z E c) := by
    rw [pk_sub hl]
    exact congrArg nI (by omega)
  refine ⟨l, T, G, K, P, O, F, gl_C_V hV c1 hW, f1, fun post hp => ⟨c + 1, c2 post (br_t (gl_le_refl _) (nm_r hn (f2 _ hp)))⟩, fun post hp => ⟨c + 1, c3 post hp⟩⟩

/-- reach counts the falling ones -/
theorem gl_cnt2 {T G K P O F : Nat → Int32} (hc : c ≤ 48) : ∀ d i : Nat, i + d = c → ∀ post : Int32 → SX → Prop, wX_reach_40 post ft (nI c) fw T G K P O F Q D 1 (nI (c - gl_z F c)) (nI c) → wX_reach_40 post ft (nI c) fw T G K P O F Q D (d + 1) (nI (i - gl_z F i)) (nI i) := by
  intro d
  induction d with
  | zero =>
    intro i hi post hp
    have e : i = c := by omega
    subst e
    exact hp
  | succ d ih =>
    intro i hi post hp
    have h : ¬ nI c ≤ nI i := nI_ge (by omega) (by omega)
    have hv : vp_in (nI i) 48 := vp_in_nI (by omega) (by omega)
    have hcl : (nI i).toNatClampNeg = i := nI_clamp (by omega)
    have q := ih (i + 1) (by omega) post hp
    have hle := gl_z_le F i
    by_cases z : F (nI i).toNatClampNeg = 0
    · have z' := z
      rw [hcl] at z'
      have e : i + 1 - gl_z F (i + 1) = i - gl_z F i := by rw [gl_z_s z']; omega
      rw [e] at q
      exact br_f h ⟨hv, br_t z (nm_r (Int32.add_zero _) (nm_r (nI_1 i) q))⟩
    · have z' := z
      rw [hcl] at z'
      have e : i + 1 - gl_z F (i + 1) = i - gl_z F i + 1 := by rw [gl_z_n z']; omega
      rw [e] at q
      exact br_f h ⟨hv, br_f z (nm_r (nI_1 _) (nm_r (nI_1 i) q))⟩
end
end
section
theorem i_up {k : Nat} {u : SX} {v : SY} (h : i_Rel k u v) : i_Rel (k + 5) u v := by
  obtain ⟨t, c, T, G, K, P, O, F, Q, D, E, e1, e2, h1, h2, h3, h4⟩ := h
  exact ⟨t, c, T, G, K, P, O, F, Q, D, E, e1, e2, by omega, h2, h3, h4⟩
theorem i_vc0 : wpX_init (fun u => wpY_init (fun v => i_Rel 0 u v)) := by
  refine ⟨0, 0, fun _ => 0, fun _ => 0, fun _ => 0, fun _ => 0, fun _ => 0, fun _ => 0, fun _ => 0, fun _ => 0, fun _ => 0, rfl, rfl, Nat.le_refl 0, ⟨by omega, fun g hg => absurd hg (Nat.not_lt_zero g), fun _ j _ hj => absurd hj (Nat.not_lt_zero j), fun g hg => absurd hg (Nat.not_lt_zero g)⟩, fun g hg => absurd hg (Nat.not_lt_zero g), fun _ _ => rfl⟩

theorem i_vc_standing {k : Nat} {u : SX} {v : SY} (I : i_Rel k u v) (hk : k + 5 ≤ 2560) : wpX_standing (fun r => wpY_standing (fun r' => r' = r ∧ i_Rel (k + 5) u v) v) u := by
  refine gl_el (R := fun u v => wpX_standing (fun r => wpY_standing (fun r' => r' = r ∧ i_Rel (k + 5) u v) v) u) ?_ I
  intro t c T G K P O F Q D E h1 h2 h3 h4
  exact ⟨rfl, gl_rel (by omega) h2 h3 h4⟩

theorem i_vc_stands {k : Nat} {u : SX} {v : SY} (I : i_Rel k u v) (hk : k + 5 ≤ 2560) (v1 : Int32) : wpX_stands (fun r => wpY_stands (fun r' => r' = r ∧ i_Rel (k + 5) u v) v v1) u v1 := by
  refine gl_el (R := fun u v => wpX_stands (fun r => wpY_stands (fun r' => r' = r ∧ i_Rel (k + 5) u v) v v1) u v1) ?_ I
  intro t c T G K P O F Q D E h1 h2 h3 h4
  obtain ⟨r, hr, hX⟩ := gl_xstands (ft := nI t) (fw := 0) (G := G) (K := K) (P := P) (O := O) (F := F) (Q := Q) (D := D) h2.1 h2.2.2.1 v1
  obtain ⟨r', hr', hY⟩ := gl_ystands (ft := nI t) (T := T) (G := G) (K := K) (P := P) (O := O) (E := E) h2.1 v1 c 0 (by omega) lt_0
  have e : r' = r := by
    rcases hr with ⟨a, g, hg, eg⟩ | ⟨a, b⟩
    · rcases hr' with ⟨a', _⟩ | ⟨_, b'⟩
      · rw [a, a']
      · exact absurd eg (b' g hg)
    · rcases hr' with ⟨a', g, hg, eg⟩ | ⟨a', _⟩
      · exact absurd eg (b g hg)
      · rw [a, a']
  exact hX _ ⟨c + 1, hY _ ⟨e, gl_rel (by omega) h2 h3 h4⟩⟩

theorem i_vc_received {k : Nat} {u : SX} {v : SY} (I : i_Rel k u v) (hk : k + 5 ≤ 2560) (v1 : Int32) (v2 : Int32) : wpX_received (fun r => wpY_received (fun r' => r' = r ∧ i_Rel (k + 5) u v) v v1 v2) u v1 v2 := by
  refine gl_el (R := fun u v => wpX_received (fun r => wpY_received (fun r' => r' = r ∧ i_Rel (k + 5) u v) v v1 v2) u v1 v2) ?_ I
  intro t c T G K P O F Q D E h1 h2 h3 h4
  unfold wpX_received wpY_received
  dsimp only
  rcases gl_user v1 with ⟨a, ha, ea, hx1, hy1⟩ | ⟨hx1, hy1⟩
  · rcases gl_priv v2 with ⟨p, hp, ep, hx2, hy2⟩ | ⟨hx2, hy2⟩
    · obtain ⟨r, hX, hY⟩ := gl_received (ft := nI t) (fw := 0) (T := T) (G := G) (K := K) (P := P) (O := O) (F := F) (Q := Q) (D := D) (E := E) h2.1 v1 v2 c 0 (by omega) 0
      exact hx1 _ (br_f gl_10 (hx2 _ (br_f gl_10 ⟨c + 1, hX _ (hy1 _ (br_t rfl (hy2 _ (br_t rfl ⟨c + 1, hY _ ⟨rfl, gl_rel (by omega) h2 h3 h4⟩⟩))))⟩)))
    · exact hx1 _ (br_f gl_10 (hx2 _ (br_t rfl (hy1 _ (br_t rfl (hy2 _ (br_f gl_10 ⟨rfl, gl_rel (by omega) h2 h3 h4⟩)))))))
  · exact hx1 _ (br_t rfl (hy1 _ (br_f gl_10 ⟨rfl, gl_rel (by omega) h2 h3 h4⟩)))

theorem i_vc_given {k : Nat} {u : SX} {v : SY} (I : i_Rel k u v) (hk : k + 5 ≤ 2560) (v1 : Int32) (v2 : Int32) : wpX_given (fun r => wpY_given (fun r' => r' = r ∧ i_Rel (k + 5) u v) v v1 v2) u v1 v2 := by
  refine gl_el (R := fun u v => wpX_given (fun r => wpY_given (fun r' => r' = r ∧ i_Rel (k + 5) u v) v v1 v2) u v1 v2) ?_ I
  intro t c T G K P O F Q D E h1 h2 h3 h4
  unfold wpX_given wpY_given
  dsimp only
  rcases gl_user v1 with ⟨a, ha, ea, hx1, hy1⟩ | ⟨hx1, hy1⟩
  · rcases gl_priv v2 with ⟨p, hp, ep, hx2, hy2⟩ | ⟨hx2, hy2⟩
    · obtain ⟨r, hX, hY⟩ := gl_given (ft := nI t) (fw := 0) (T := T) (G := G) (K := K) (P := P) (O := O) (F := F) (Q := Q) (D := D) (E := E) h2.1 v1 v2 c 0 (by omega) 0
      exact hx1 _ (br_f gl_10 (hx2 _ (br_f gl_10 ⟨c + 1, hX _ (hy1 _ (br_t rfl (hy2 _ (br_t rfl ⟨c + 1, hY _ ⟨rfl, gl_rel (by omega) h2 h3 h4⟩⟩))))⟩)))
    · exact hx1 _ (br_f gl_10 (hx2 _ (br_t rfl (hy1 _ (br_t rfl (hy2 _ (br_f gl_10 ⟨rfl, gl_rel (by omega) h2 h3 h4⟩)))))))
  · exact hx1 _ (br_t rfl (hy1 _ (br_f gl_10 ⟨rfl, gl_rel (by omega) h2 h3 h4⟩)))

theorem i_vc_holds {k : Nat} {u : SX} {v : SY} (I : i_Rel k u v) (hk : k + 5 ≤ 2560) (v1 : Int32) (v2 : Int32) : wpX_holds (fun r => wpY_holds (fun r' => r' = r ∧ i_Rel (k + 5) u v) v v1 v2) u v1 v2 := by
  refine gl_el (R := fun u v => wpX_holds (fun r => wpY_holds (fun r' => r' = r ∧ i_Rel (k + 5) u v) v v1 v2) u v1 v2) ?_ I
  intro t c T G K P O F Q D E h1 h2 h3 h4
  have hrel : i_Rel (k + 5) (nI t, nI c, 0, T, G, K, P, O, F, Q, D) (nI c, nI t, T, G, K, P, O, E) := gl_rel (by omega) h2 h3 h4
  unfold wpX_holds wpY_holds
  dsimp only
  rcases gl_user v1 with ⟨a, ha, ea, hx1, hy1⟩ | ⟨hx1, hy1⟩
  · rcases gl_priv v2 with ⟨p, hp, ep, hx2, hy2⟩ | ⟨hx2, hy2⟩
    · by_cases z : v1 = 0
      · exact hx1 _ (br_f gl_10 (hx2 _ (br_f gl_10 (br_t z (hy1 _ (br_t rfl (hy2 _ (br_t rfl (br_t z ⟨rfl, hrel⟩)))))))))
      · obtain ⟨r, hX, hY⟩ := gl_received (ft := nI t) (fw := 0) (T := T) (G := G) (K := K) (P := P) (O := O) (F := F) (Q := Q) (D := D) (E := E) h2.1 v1 v2 c 0 (by omega) 0
        have hX' : ∀ post : Int32 → Prop, post r → wpX_received post (nI t, nI c, 0, T, G, K, P, O, F, Q, D) v1 v2 := by
          intro post hpost
          unfold wpX_received
          exact hx1 _ (br_f gl_10 (hx2 _ (br_f gl_10 ⟨c + 1, hX _ hpost⟩)))
        have hY' : ∀ post : Int32 → Prop, post r → wpY_received post (nI c, nI t, T, G, K, P, O, E) v1 v2 := by
          intro post hpost
          unfold wpY_received
          exact hy1 _ (br_t rfl (hy2 _ (br_t rfl ⟨c + 1, hY _ hpost⟩)))
        by_cases y : r ≤ 0
        · exact hx1 _ (br_f gl_10 (hx2 _ (br_f gl_10 (br_f z (hX' _ (br_t y (hy1 _ (br_t rfl (hy2 _ (br_t rfl (br_f z (hY' _ (br_t y ⟨rfl, hrel⟩)))))))))))))
        · exact hx1 _ (br_f gl_10 (hx2 _ (br_f gl_10 (br_f z (hX' _ (br_f y (hy1 _ (br_t rfl (hy2 _ (br_t rfl (br_f z (hY' _ (br_f y ⟨rfl, hrel⟩)))))))))))))
    · exact hx1 _ (br_f gl_10 (hx2 _ (br_t rfl (hy1 _ (br_t rfl (hy2 _ (br_f gl_10 ⟨rfl, hrel⟩)))))))
  · exact hx1 _ (br_t rfl (hy1 _ (br_f gl_10 ⟨rfl, hrel⟩)))
end
section
theorem gl_agree {t c : Nat} {T G K P O F : Nat → Int32} (ht : t ≤ 2560) (hV : gl_V t c T G K P O) (hF : ∀ g, g < c → F g = 0) {u p r r' : Int32} (hu : ¬ u = 0) (hr : (r = -1 ∧ ∀ g, g < c → ¬ gl_H K P O F u p g) ∨ (∃ e, e < c ∧ gl_H K P O F u p e ∧ r = T e ∧ ∀ g, g < e → ¬ gl_H K P O F u p g)) (hr' : (r' = 1 ∧ ((∃ e, e < c ∧ K e = u ∧ P e = p ∧ ¬ O e = 0) ∨ u = 0)) ∨ (r' = 0 ∧ ¬ u = 0 ∧ ∀ g, g < c → ¬ (K g = u ∧ P g = p ∧ ¬ O g = 0))) : (r < 0 ∧ r' = 0) ∨ (¬ r < 0 ∧ r' = 1 ∧ ∃ e, e < c ∧ K e = u ∧ P e = p ∧ ¬ O e = 0) := by
  rcases hr with ⟨a, b⟩ | ⟨e, he, hH, er, _⟩
  · refine Or.inl ⟨by rw [a]; decide, ?_⟩
    rcases hr' with ⟨_, h⟩ | ⟨h, _⟩
    · rcases h with ⟨e, he, h1, h2, h3⟩ | h
      · exact absurd ⟨h1, h2, h3, hF e he⟩ (b e he)
      · exact absurd h hu
    · exact h
  · obtain ⟨m, a, b, p', hm, ha, hb1, hb, hp, hab, eT, eG, eK, eP, eO⟩ := hV.2.1 e he
    refine Or.inr ⟨by rw [er, eT]; exact nI_pos (by omega), ?_, e, he, hH.1, hH.2.1, hH.2.2.1⟩
    rcases hr' with ⟨h, _⟩ | ⟨_, _, h⟩
    · exact h
    · exact absurd ⟨hH.1, hH.2.1, hH.2.2.1⟩ (h e he)

theorem i_vc_may {k : Nat} {u : SX} {v : SY} (I : i_Rel k u v) (hk : k + 5 ≤ 2560) (v1 : Int32) (v2 : Int32) : wpX_may (fun r u' => wpY_may (fun r' => r' = r ∧ i_Rel (k + 5) u' v) v v1 v2) u v1 v2 := by
  refine gl_el (R := fun u v => wpX_may (fun r u' => wpY_may (fun r' => r' = r ∧ i_Rel (k + 5) u' v) v v1 v2) u v1 v2) ?_ I
  intro t c T G K P O F Q D E h1 h2 h3 h4
  unfold wpX_may wpY_may
  dsimp only
  rcases gl_user v1 with ⟨a, ha, ea, hx1, hy1⟩ | ⟨hx1, hy1⟩
  · rcases gl_priv v2 with ⟨p, hp, ep, hx2, hy2⟩ | ⟨hx2, hy2⟩
    · obtain ⟨F', hF', hclr⟩ := gl_clear (ft := nI t) (fw := 0) (T := T) (G := G) (K := K) (P := P) (O := O) (Q := Q) (D := D) h2.1 F
      have hrel : i_Rel (k + 5) (nI t, nI c, 0, T, G, K, P, O, F', Q, D) (nI c, nI t, T, G, K, P, O, E) := gl_rel (by omega) h2 hF' h4
      obtain ⟨r', hr', hY⟩ := gl_may2 (ft := nI t) (T := T) (G := G) (K := K) (P := P) (O := O) (E := E) h2.1 v1 v2 c 0 (by omega) lt_0
      by_cases z : v1 = 0
      · have er : r' = 1 := by
          rcases hr' with ⟨h, _⟩ | ⟨_, h, _⟩
          · exact h
          · exact absurd z h
        exact hx1 _ (br_f gl_10 (hx2 _ (br_f gl_10 (hclr _ (br_t z (hy1 _ (br_t rfl (hy2 _ (br_t rfl ⟨c + 1, hY _ ⟨er, hrel⟩⟩)))))))))
      · obtain ⟨r, hr, hX⟩ := gl_early (ft := nI t) (fw := 0) (T := T) (G := G) (K := K) (P := P) (O := O) (F := F') (Q := Q) (D := D) h2.1 v1 v2
        rcases gl_agree (by omega) h2 hF' z hr hr' with ⟨y, er⟩ | ⟨y, er, _⟩
        · exact hx1 _ (br_f gl_10 (hx2 _ (br_f gl_10 (hclr _ (br_f z (hX _ (br_t y (hy1 _ (br_t rfl (hy2 _ (br_t rfl ⟨c + 1, hY _ ⟨er, hrel⟩⟩)))))))))))
        · exact hx1 _ (br_f gl_10 (hx2 _ (br_f gl_10 (hclr _ (br_f z (hX _ (br_f y (hy1 _ (br_t rfl (hy2 _ (br_t rfl ⟨c + 1, hY _ ⟨er, hrel⟩⟩)))))))))))
    · exact hx1 _ (br_f gl_10 (hx2 _ (br_t rfl (hy1 _ (br_t rfl (hy2 _ (br_f gl_10 ⟨rfl, gl_rel (by omega) h2 h3 h4⟩)))))))
  · exact hx1 _ (br_t rfl (hy1 _ (br_f gl_10 ⟨rfl, gl_rel (by omega) h2 h3 h4⟩)))

theorem gl_V_push {t c a b p : Nat} {T G K P O : Nat → Int32} {o : Int32} (ht : t ≤ 2560) (hV : gl_V t c T G K P O) (hc : c < 48) (ha : a ≤ 7) (hb1 : 1 ≤ b) (hb : b ≤ 7) (hp : p ≤ 2) (hab : a ≠ b) (ho : o = 0 ∨ o = 1) (hf : nI a = 0 ∨ ∃ e, e < c ∧ K e = nI a ∧ P e = nI p ∧ ¬ O e = 0) : gl_V (t + 1) (c + 1) (upd T c (nI t)) (upd G c (nI a)) (upd K c (nI b)) (upd P c (nI p)) (upd O c o) := by
  obtain ⟨v1, v2, v3, v4⟩ := hV
  refine ⟨by omega, fun g hg => ?_, fun i j hij hj => ?_, fun g hg => ?_⟩
  · by_cases e : g = c
    · subst e
      exact ⟨t, a, b, p, by omega, ha, hb1, hb, hp, hab, pk_us, pk_us, pk_us, pk_us, by rw [pk_us]; exact ho⟩
    · obtain ⟨m, a', b', p', hm, q⟩ := v2 g (by omega)
      refine ⟨m, a', b', p', by omega, ?_⟩
      rw [pk_un e, pk_un e, pk_un e, pk_un e, pk_un e]
      exact q
  · have ei : i ≠ c := by omega
    rw [pk_un ei]
    by_cases e : j = c
    · subst e
      obtain ⟨m, a', b', p', hm, w1, w2, w3, w4, w5, eT, _⟩ := v2 i hij
      rw [pk_us, eT]
      exact nI_lt hm (by omega)
    · rw [pk_un e]
      exact v3 i j hij (by omega)
  · by_cases e : g = c
    · subst e
      rw [pk_us]
      rcases hf with h | ⟨e, he, h1, h2, h3⟩
      · exact Or.inl h
      · have ne : e ≠ g := by omega
        refine Or.inr ⟨e, he, ?_⟩
        unfold gl_Fd
        rw [pk_un ne, pk_un ne, pk_un ne, pk_us, pk_us]
        exact ⟨h3, h1, h2⟩
    · rw [pk_un e]
      rcases v4 g (by omega) with h | ⟨e', he, fd⟩
      · exact Or.inl h
      · have ne : e' ≠ c := by omega
        refine Or.inr ⟨e', he, ?_⟩
        unfold gl_Fd
        rw [pk_un ne, pk_un ne, pk_un ne, pk_un e, pk_un e]
        exact fd

theorem i_vc_grant {k : Nat} {u : SX} {v : SY} (I : i_Rel k u v) (hk : k + 5 ≤ 2560) (v1 : Int32) (v2 : Int32) (v3 : Int32) (v4 : Int32) : wpX_grant (fun r u' => wpY_grant (fun r' v' => r' = r ∧ i_Rel (k + 5) u' v') v v1 v2 v3 (lw_bz v4)) u v1 v2 v3 (lw_bz v4) := by
  refine gl_el (R := fun u v => wpX_grant (fun r u' => wpY_grant (fun r' v' => r' = r ∧ i_Rel (k + 5) u' v') v v1 v2 v3 (lw_bz v4)) u v1 v2 v3 (lw_bz v4)) ?_ I
  intro t c T G K P O F Q D E h1 h2 h3 h4
  have hrel : i_Rel (k + 5) (nI t, nI c, 0, T, G, K, P, O, F, Q, D) (nI c, nI t, T, G, K, P, O, E) := gl_rel (by omega) h2 h3 h4
  have hc := h2.1
  unfold wpX_grant wpY_grant
  dsimp only
  rcases gl_user v1 with ⟨a, ha, ea, hx1, hy1⟩ | ⟨hx1, hy1⟩
  rotate_left
  · exact hx1 _ (br_t rfl (hy1 _ (br_f gl_10 ⟨rfl, hrel⟩)))
  rcases gl_user v2 with ⟨b, hb, eb, hx2, hy2⟩ | ⟨hx2, hy2⟩
  rotate_left
  · exact hx1 _ (br_f gl_10 (hx2 _ (br_t rfl (hy1 _ (br_t rfl (hy2 _ (br_f gl_10 ⟨rfl, hrel⟩)))))))
  by_cases z1 : v1 = v2
  · exact hx1 _ (br_f gl_10 (hx2 _ (br_f gl_10 (br_t z1 (hy1 _ (br_t rfl (hy2 _ (br_t rfl (br_t z1 ⟨rfl, hrel⟩)))))))))
  by_cases z2 : v2 = 0
  · exact hx1 _ (br_f gl_10 (hx2 _ (br_f gl_10 (br_f z1 (br_t z2 (hy1 _ (br_t rfl (hy2 _ (br_t rfl (br_f z1 (br_t z2 ⟨rfl, hrel⟩)))))))))))
  rcases gl_priv v3 with ⟨p, hp, ep, hx3, hy3⟩ | ⟨hx3, hy3⟩
  rotate_left
  · exact hx1 _ (br_f gl_10 (hx2 _ (br_f gl_10 (br_f z1 (br_f z2 (hx3 _ (br_t rfl (hy1 _ (br_t rfl (hy2 _ (br_t rfl (br_f z1 (br_f z2 (hy3 _ (br_f gl_10 ⟨rfl, hrel⟩)))))))))))))))
  by_cases z3 : c = 48
  · have y1 : ¬ nI c < 48 := by rw [z3]; decide
    have y2 : nI c = 48 := by rw [z3]; decide
    exact hx1 _ (br_f gl_10 (hx2 _ (br_f gl_10 (br_f z1 (br_f z2 (hx3 _ (br_f gl_10 (br_f y1 (hy1 _ (br_t rfl (hy2 _ (br_t rfl (br_f z1 (br_f z2 (hy3 _ (br_t rfl (br_t y2 ⟨rfl, hrel⟩)))))))))))))))))
  have y1 : nI c < 48 := nI_lt (b := 48) (by omega) (by decide)
  have y2 : ¬ nI c = 48 := by
    intro e
    have e' : nI c = nI 48 := e
    rw [nI_eq (by omega) (by omega)] at e'
    exact z3 e'
  obtain ⟨r', hr', hY⟩ := gl_may2 (ft := nI t) (T := T) (G := G) (K := K) (P := P) (O := O) (E := E) h2.1 v1 v3 c 0 (by omega) lt_0
  have hYm : ∀ post : Int32 → Prop, post r' → wpY_may post (nI c, nI t, T, G, K, P, O, E) v1 v3 := by
    intro post hpost
    unfold wpY_may
    exact hy1 _ (br_t rfl (hy3 _ (br_t rfl ⟨c + 1, hY _ hpost⟩)))
  have hv : vp_in (nI c) 48 := vp_in_nI (by omega) (by omega)
  have hcl : (nI c).toNatClampNeg = c := nI_clamp (by omega)
  have ho := lw_bz_01 v4
  have uT : upd T (nI c).toNatClampNeg (nI t) = upd T c (nI t) := by rw [hcl]
  have uG : upd G (nI c).toNatClampNeg v1 = upd G c v1 := by rw [hcl]
  have uK : upd K (nI c).toNatClampNeg v2 = upd K c v2 := by rw [hcl]
  have uP : upd P (nI c).toNatClampNeg v3 = upd P c v3 := by rw [hcl]
  have uO : upd O (nI c).toNatClampNeg (vp_nar .boolean (lw_bz v4)) = upd O c (lw_bz v4) := by rw [hcl, gl_b ho]
  have uF : upd F (nI c).toNatClampNeg (vp_nar .boolean 0) = upd F c 0 := by rw [hcl]; rfl
  have hX57 : ∀ post : Int32 → SX → Prop, post (nI (t + 1) - 1) (nI (t + 1), nI (c + 1), 0, upd T c (nI t), upd G c v1, upd K c v2, upd P c v3, upd O c (lw_bz v4), upd F c 0, Q, D) → wX_grant_57 post v1 v2 v3 (lw_bz v4) (nI t) (nI c) 0 T G K P O F Q D := by
    intro post hpost
    exact ⟨hv, nm_r uT ⟨hv, nm_r uG ⟨hv, nm_r uK ⟨hv, nm_r uP ⟨hv, nm_r uO ⟨hv, nm_r uF (nm_r (nI_1 c) (nm_r (nI_1 t) hpost))⟩⟩⟩⟩⟩⟩
  have hnew : (v1 = 0 ∨ ∃ e, e < c ∧ K e = v1 ∧ P e = v3 ∧ ¬ O e = 0) → i_Rel (k + 5) (nI (t + 1), nI (c + 1), 0, upd T c (nI t), upd G c v1, upd K c v2, upd P c v3, upd O c (lw_bz v4), upd F c 0, Q, D) (nI (c + 1), nI (t + 1), upd T c (nI t), upd G c v1, upd K c v2, upd P c v3, upd O c (lw_bz v4), E) := by
    intro hf
    rw [ea, ep] at hf
    rw [ea, eb] at z1
    rw [eb] at z2
    rw [ea, eb, ep]
    refine gl_rel (by omega) (gl_V_push (by omega) h2 (by omega) ha ?_ hb hp ?_ ho hf) ?_ h4
    · by_cases z : b = 0
      · subst z
        exact absurd rfl z2
      · omega
    · intro z
      subst z
      exact z1 rfl
    · intro g hg
      by_cases e : g = c
      · subst e
        exact pk_us
      · rw [pk_un e]
        exact h3 g (by omega)
  by_cases z4 : v1 = 0
  · have er : ¬ r' = 0 := by
      rcases hr' with ⟨h, _⟩ | ⟨_, h, _⟩
      · rw [h]; exact gl_10
      · exact absurd z4 h
    exact hx1 _ (br_f gl_10 (hx2 _ (br_f gl_10 (br_f z1 (br_f z2 (hx3 _ (br_f gl_10 (br_t y1 (br_t z4 (hX57 _ (hy1 _ (br_t rfl (hy2 _ (br_t rfl (br_f z1 (br_f z2 (hy3 _ (br_t rfl (br_f y2 (hYm _ (br_f er ⟨hv, nm_r uT ⟨hv, nm_r uG ⟨hv, nm_r uK ⟨hv, nm_r uP ⟨hv, nm_r uO (nm_r (nI_1 c) (nm_r (nI_1 t) ⟨rfl, hnew (Or.inl z4)⟩))⟩⟩⟩⟩⟩)))))))))))))))))))))
  · obtain ⟨r, hr, hX⟩ := gl_early (ft := nI t) (fw := 0) (T := T) (G := G) (K := K) (P := P) (O := O) (F := F) (Q := Q) (D := D) h2.1 v1 v3
    rcases gl_agree (by omega) h2 h3 z4 hr hr' with ⟨y, er⟩ | ⟨y, er, hex⟩
    · have y' : ¬ 0 ≤ r := Int32.not_le.mpr y
      exact hx1 _ (br_f gl_10 (hx2 _ (br_f gl_10 (br_f z1 (br_f z2 (hx3 _ (br_f gl_10 (br_t y1 (br_f z4 (hX _ (br_f y' (hy1 _ (br_t rfl (hy2 _ (br_t rfl (br_f z1 (br_f z2 (hy3 _ (br_t rfl (br_f y2 (hYm _ (br_t er ⟨rfl, hrel⟩))))))))))))))))))))))
    · have y' : 0 ≤ r := Int32.not_lt.mp y
      have er' : ¬ r' = 0 := by rw [er]; exact gl_10
      exact hx1 _ (br_f gl_10 (hx2 _ (br_f gl_10 (br_f z1 (br_f z2 (hx3 _ (br_f gl_10 (br_t y1 (br_f z4 (hX _ (br_t y' (hX57 _ (hy1 _ (br_t rfl (hy2 _ (br_t rfl (br_f z1 (br_f z2 (hy3 _ (br_t rfl (br_f y2 (hYm _ (br_f er' ⟨hv, nm_r uT ⟨hv, nm_r uG ⟨hv, nm_r uK ⟨hv, nm_r uP ⟨hv, nm_r uO (nm_r (nI_1 c) (nm_r (nI_1 t) ⟨rfl, hnew (Or.inr hex)⟩))⟩⟩⟩⟩⟩)))))))))))))))))))))))
end
section
theorem i_vc_reach {k : Nat} {u : SX} {v : SY} (I : i_Rel k u v) (hk : k + 5 ≤ 2560) (v1 : Int32) (v2 : Int32) (v3 : Int32) : wpX_reach (fun r u' => wpY_reach (fun r' v' => r' = r ∧ i_Rel (k + 5) u' v') v v1 v2 v3) u v1 v2 v3 := by
  refine gl_el (R := fun u v => wpX_reach (fun r u' => wpY_reach (fun r' v' => r' = r ∧ i_Rel (k + 5) u' v') v v1 v2 v3) u v1 v2 v3) ?_ I
  intro t c T G K P O F Q D E h1 h2 h3 h4
  have hrel : i_Rel (k + 5) (nI t, nI c, 0, T, G, K, P, O, F, Q, D) (nI c, nI t, T, G, K, P, O, E) := gl_rel (by omega) h2 h3 h4
  have hc := h2.1
  unfold wpX_reach wpY_reach
  dsimp only
  rcases gl_user v1 with ⟨a, ha, ea, hx1, hy1⟩ | ⟨hx1, hy1⟩
  rotate_left
  · exact hx1 _ (br_t rfl (hy1 _ (br_f gl_10 ⟨rfl, hrel⟩)))
  rcases gl_user v2 with ⟨b, hb, eb, hx2, hy2⟩ | ⟨hx2, hy2⟩
  rotate_left
  · exact hx1 _ (br_f gl_10 (hx2 _ (br_t rfl (hy1 _ (br_t rfl (hy2 _ (br_f gl_10 ⟨rfl, hrel⟩)))))))
  rcases gl_priv v3 with ⟨p, hp, ep, hx3, hy3⟩ | ⟨hx3, hy3⟩
  rotate_left
  · exact hx1 _ (br_f gl_10 (hx2 _ (br_f gl_10 (hx3 _ (br_t rfl (hy1 _ (br_t rfl (hy2 _ (br_t rfl (hy3 _ (br_f gl_10 ⟨rfl, hrel⟩)))))))))))
  obtain ⟨E', hE, hY⟩ := gl_yreach (ft := nI t) (T := T) (G := G) (K := K) (P := P) (O := O) hc v1 v2 v3 E
  obtain ⟨w, F1, Q1, D1, F', Q', D', d1, d2, d3, d4, hXm, hXs⟩ := gl_xreach (ft := nI t) (F := F) (Q := Q) (by omega) h2 (gl_Y_K hE) (gl_Y_M hE) h4
  have hFE := gl_same hE d1 d3 d4
  have hco := gl_z_co hFE
  obtain ⟨F2, f1, hclr⟩ := gl_clear (ft := nI t) (fw := 0) (T := T) (G := G) (K := K) (P := P) (O := O) (Q := Q') (D := D') hc F'
  have hcnt := gl_cnt2 (ft := nI t) (fw := 0) (T := T) (G := G) (K := K) (P := P) (O := O) (F := F') (Q := Q') (D := D') hc c 0 (by omega)
  have hn : nI (gl_z E' c) = nI (c - gl_z F' c) := congrArg nI (by omega)
  have hrel' : i_Rel (k + 5) (nI t, nI c, 0, T, G, K, P, O, F2, Q', D') (nI c, nI t, T, G, K, P, O, E') := gl_rel (by omega) h2 f1 d2
  exact hx1 _ (br_f gl_10 (hx2 _ (br_f gl_10 (hx3 _ (br_f gl_10 (hXm _ (hXs _ ⟨c + 1, hcnt _ (br_t (gl_le_refl _) (hclr _ (hy1 _ (br_t rfl (hy2 _ (br_t rfl (hy3 _ (br_t rfl (hY _ ⟨hn, hrel'⟩)))))))))⟩)))))))

theorem i_vc_revoke {k : Nat} {u : SX} {v : SY} (I : i_Rel k u v) (hk : k + 5 ≤ 2560) (v1 : Int32) (v2 : Int32) (v3 : Int32) : wpX_revoke (fun r u' => wpY_revoke (fun r' v' => r' = r ∧ i_Rel (k + 5) u' v') v v1 v2 v3) u v1 v2 v3 := by
  refine gl_el (R := fun u v => wpX_revoke (fun r u' => wpY_revoke (fun r' v' => r' = r ∧ i_Rel (k + 5) u' v') v v1 v2 v3) u v1 v2 v3) ?_ I
  intro t c T G K P O F Q D E h1 h2 h3 h4
  have hrel : i_Rel (k + 5) (nI t, nI c, 0, T, G, K, P, O, F, Q, D) (nI c, nI t, T, G, K, P, O, E) := gl_rel (by omega) h2 h3 h4
  have hc := h2.1
  have hm1 : (-1 : Int32) < 0 := by decide
  unfold wpX_revoke wpY_revoke wpY_reach
  dsimp only
  rcases gl_user v1 with ⟨a, ha, ea, hx1, hy1⟩ | ⟨hx1, hy1⟩
  rotate_left
  · exact hx1 _ (br_t rfl (hy1 _ (br_f gl_10 (br_t hm1 ⟨rfl, hrel⟩))))
  rcases gl_user v2 with ⟨b, hb, eb, hx2, hy2⟩ | ⟨hx2, hy2⟩
  rotate_left
  · exact hx1 _ (br_f gl_10 (hx2 _ (br_t rfl (hy1 _ (br_t rfl (hy2 _ (br_f gl_10 (br_t hm1 ⟨rfl, hrel⟩))))))))
  rcases gl_priv v3 with ⟨p, hp, ep, hx3, hy3⟩ | ⟨hx3, hy3⟩
  rotate_left
  · exact hx1 _ (br_f gl_10 (hx2 _ (br_f gl_10 (hx3 _ (br_t rfl (hy1 _ (br_t rfl (hy2 _ (br_t rfl (hy3 _ (br_f gl_10 (br_t hm1 ⟨rfl, hrel⟩))))))))))))
  obtain ⟨E', hE, hY⟩ := gl_yreach (ft := nI t) (T := T) (G := G) (K := K) (P := P) (O := O) hc v1 v2 v3 E
  obtain ⟨w, F1, Q1, D1, F', Q', D', d1, d2, d3, d4, hXm, hXs⟩ := gl_xreach (ft := nI t) (F := F) (Q := Q) (by omega) h2 (gl_Y_K hE) (gl_Y_M hE) h4
  have hFE := gl_same hE d1 d3 d4
  obtain ⟨l, T', G', K', P', O', F2, s1, s2, hXw, hYd⟩ := gl_sw (ft := nI t) (fw := 0) (Q := Q') (D := D') h2 hFE d3
  have hpos : ¬ nI (gl_z E' c) < 0 := nI_pos (by have := gl_z_le E' c; omega)
  have hrel' : i_Rel (k + 5) (nI t, nI l, 0, T', G', K', P', O', F2, Q', D') (nI l, nI t, T', G', K', P', O', E') := gl_rel (by omega) s1 s2 d2
  exact hx1 _ (br_f gl_10 (hx2 _ (br_f gl_10 (hx3 _ (br_f gl_10 (hXm _ (hXs _ (hXw _ (hy1 _ (br_t rfl (hy2 _ (br_t rfl (hy3 _ (br_t rfl (hY _ (br_f hpos (hYd _ ⟨rfl, hrel'⟩)))))))))))))))))

theorem i_vc_expel {k : Nat} {u : SX} {v : SY} (I : i_Rel k u v) (hk : k + 5 ≤ 2560) (v1 : Int32) : wpX_expel (fun r u' => wpY_expel (fun r' v' => r' = r ∧ i_Rel (k + 5) u' v') v v1) u v1 := by
  refine gl_el (R := fun u v => wpX_expel (fun r u' => wpY_expel (fun r' v' => r' = r ∧ i_Rel (k + 5) u' v') v v1) u v1) ?_ I
  intro t c T G K P O F Q D E h1 h2 h3 h4
  have hrel : i_Rel (k + 5) (nI t, nI c, 0, T, G, K, P, O, F, Q, D) (nI c, nI t, T, G, K, P, O, E) := gl_rel (by omega) h2 h3 h4
  have hc := h2.1
  unfold wpX_expel wpY_expel
  dsimp only
  by_cases z1 : v1 < 1
  · exact br_t z1 (br_t z1 ⟨rfl, hrel⟩)
  by_cases z2 : v1 ≤ 7
  rotate_left
  · exact br_f z1 (br_f z2 (br_f z1 (br_f z2 ⟨rfl, hrel⟩)))
  obtain ⟨E', hE, hY⟩ := gl_yexpel (ft := nI t) (T := T) (G := G) (K := K) (P := P) (O := O) hc v1 E
  obtain ⟨F0, w, F1, Q1, D1, F', Q', D', d1, d2, d3, d4, hclr, hXe, hXs⟩ := gl_xexpel (ft := nI t) (F := F) (Q := Q) (by omega) h2 (gl_Y_K hE) (gl_Y_M hE) h4
  have hFE := gl_same hE d1 d3 d4
  obtain ⟨l, T', G', K', P', O', F2, s1, s2, hXw, hYd⟩ := gl_sw (ft := nI t) (fw := 0) (Q := Q') (D := D') h2 hFE d3
  have hrel' : i_Rel (k + 5) (nI t, nI l, 0, T', G', K', P', O', F2, Q', D') (nI l, nI t, T', G', K', P', O', E') := gl_rel (by omega) s1 s2 d2
  exact br_f z1 (br_t z2 (hclr _ ⟨c + 1, hXe _ (br_t (gl_le_refl _) (hXs _ (hXw _ (br_f z1 (br_t z2 (hY _ (hYd _ ⟨rfl, hrel'⟩)))))))⟩))
end
