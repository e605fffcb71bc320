section
/-! rows taken from the kit pure rows -/
theorem pk_us {f : Nat → Int32} {k : Nat} {x : Int32} : upd f k x k = x := if_pos rfl
theorem pk_un {f : Nat → Int32} {k j : Nat} {x : Int32} (h : j ≠ k) : upd f k x j = f j := if_neg h
theorem pk_sub {a b : Nat} (h : b ≤ a) : nI a - nI b = nI (a - b) := by
  obtain ⟨c, rfl⟩ : ∃ c, a = c + b := ⟨a - b, by omega⟩
  rw [← nI_add, Int32.add_sub_cancel, Nat.add_sub_cancel]
theorem pk_m1 (n : Nat) : nI (n + 1) + (-1) = nI n := by
  rw [← nI_1, Int32.add_assoc, show (1 : Int32) + (-1) = 0 from rfl, Int32.add_zero]
theorem pk_mul (a b : Nat) : nI a * nI b = nI (a * b) := (Int32.ofNat_mul a b).symm
theorem pk_div {a d : Nat} (ha : a < 2 ^ 31) (h0 : 0 < d) (hd : d < 2 ^ 31) : nI a / nI d = nI (a / d) := by
  apply Int32.toInt_inj.mp
  rw [lg_idiv_nonneg (by rw [nI_toInt ha]; omega) (by rw [nI_toInt hd]; omega), nI_toInt ha, nI_toInt hd, nI_toInt (Nat.lt_of_le_of_lt (Nat.div_le_self a d) ha)]
  first | rfl | exact (Int.natCast_ediv _ _).symm
theorem pk_rem {a d : Nat} (ha : a < 2 ^ 31) (h0 : 0 < d) (hd : d < 2 ^ 31) : nI a - nI a / nI d * nI d = nI (a % d) := by
  rw [pk_div ha h0 hd, pk_mul, pk_sub (Nat.div_mul_le_self a d)]
  exact congrArg nI (by have := Nat.div_add_mod' a d; omega)
theorem pk_sub_toInt {a b : Nat} (ha : a < 2 ^ 30) (hb : b < 2 ^ 30) : (nI a - nI b).toInt = (a : Int) - b := by
  rw [Int32.toInt_sub, nI_toInt (by omega), nI_toInt (by omega)]
  exact Int.bmod_eq_of_le (by omega) (by omega)
theorem pk_sneg {a b : Nat} (hb : b < 2 ^ 30) (h : a < b) : nI a - nI b < 0 := by
  rw [Int32.lt_iff_toInt_lt, pk_sub_toInt (by omega) hb, show (0 : Int32).toInt = 0 from by decide]
  omega
theorem pk_ix (x : Int32) {n : Nat} (hn : n < 2 ^ 31) : x < 0 ∨ nI n ≤ x ∨ ∃ j : Nat, j < n ∧ x = nI j := by
  by_cases h : x < 0
  · exact Or.inl h
  · obtain ⟨j, hj, rfl⟩ := nI_of h
    by_cases h2 : j < n
    · exact Or.inr (Or.inr ⟨j, h2, rfl⟩)
    · exact Or.inr (Or.inl (nI_le (by omega) hj))
theorem pk_le {x y : Int32} {A B : Prop} (a b : Nat) (f : a ≤ b → A) (g : b < a → B) (hx : x = nI a := by rfl) (hy : y = nI b := by rfl) (ha : a < 2 ^ 31 := by omega) (hb : b < 2 ^ 31 := by omega) : (x ≤ y → A) ∧ (¬ x ≤ y → B) := by
  subst hx hy
  rw [nI_leI ha hb]
  exact ⟨f, fun z => g (by omega)⟩
theorem pk_lt {x y : Int32} {A B : Prop} (a b : Nat) (f : a < b → A) (g : b ≤ a → B) (hx : x = nI a := by rfl) (hy : y = nI b := by rfl) (ha : a < 2 ^ 31 := by omega) (hb : b < 2 ^ 31 := by omega) : (x < y → A) ∧ (¬ x < y → B) := by
  subst hx hy
  rw [nI_ltI ha hb]
  exact ⟨f, fun z => g (by omega)⟩
theorem pk_eq {x y : Int32} {A B : Prop} (a b : Nat) (f : a = b → A) (g : a ≠ b → B) (hx : x = nI a := by rfl) (hy : y = nI b := by rfl) (ha : a < 2 ^ 31 := by omega) (hb : b < 2 ^ 31 := by omega) : (x = y → A) ∧ (¬ x = y → B) := by
  subst hx hy
  rw [nI_eq ha hb]
  exact ⟨f, g⟩
theorem pk_in {x : Int32} (n N : Nat) (h : n < N) (hx : x = nI n := by rfl) (hN : N < 2 ^ 31 := by omega) : vp_in x N := by
  subst hx
  exact vp_in_nI h hN
theorem pk_cl {x : Int32} (n : Nat) (hx : x = nI n := by rfl) (h : n < 2 ^ 31 := by omega) : x.toNatClampNeg = n := by
  subst hx
  exact nI_clamp h
theorem ek_if {c d A B : Prop} (e : c ↔ d) (f : d → A) (g : ¬ d → B) : (c → A) ∧ (¬ c → B) :=
  ⟨fun z => f (e.mp z), fun z => g (fun y => z (e.mpr y))⟩
theorem ek_v {α : Sort _} {P : α → Prop} {a b : α} (e : a = b) (h : P b) : P a := e ▸ h
theorem sb_cl0 : (0 : Int32).toNatClampNeg = 0 := by decide
theorem sb_m1 {p : Nat} (h : 0 < p) : nI p + (-1) = nI (p - 1) := by
  obtain ⟨q, rfl⟩ : ∃ q, p = q + 1 := ⟨p - 1, by omega⟩
  exact pk_m1 q
theorem sb_at {P : Int32 → Prop} {x y : Int32} (e : x = y) (h : P y) : P x := e ▸ h
end
section
/-! sums and demand -/
def sd_s (f : Nat → Nat) : Nat → Nat
  | 0 => 0
  | n + 1 => sd_s f n + f n
theorem sd_s_le {f g : Nat → Nat} (n : Nat) (h : ∀ i, i < n → f i ≤ g i) : sd_s f n ≤ sd_s g n := by
  induction n with
  | zero => exact Nat.le_refl _
  | succ n ih => exact Nat.add_le_add (ih fun i hi => h i (by omega)) (h n (by omega))
theorem sd_s_cg {f g : Nat → Nat} (n : Nat) (h : ∀ i, i < n → f i = g i) : sd_s f n = sd_s g n :=
  Nat.le_antisymm (sd_s_le n fun i hi => Nat.le_of_eq (h i hi)) (sd_s_le n fun i hi => Nat.le_of_eq (h i hi).symm)
theorem sd_s_0 {f : Nat → Nat} (n : Nat) (h : ∀ i, i < n → f i = 0) : sd_s f n = 0 := by
  induction n with
  | zero => rfl
  | succ n ih => show sd_s f n + f n = 0; rw [ih fun i hi => h i (by omega), h n (by omega)]
theorem sd_s_ge {f : Nat → Nat} (n i : Nat) (hi : i < n) : f i ≤ sd_s f n := by
  induction n with
  | zero => omega
  | succ n ih =>
    show f i ≤ sd_s f n + f n
    by_cases e : i = n
    · subst e; omega
    · have := ih (by omega); omega
theorem sd_s_bd {f : Nat → Nat} {M : Nat} (n : Nat) (h : ∀ i, i < n → f i ≤ M) : sd_s f n ≤ n * M := by
  induction n with
  | zero => exact Nat.zero_le _
  | succ n ih =>
    show sd_s f n + f n ≤ (n + 1) * M
    have a := ih fun i hi => h i (by omega)
    have b := h n (by omega)
    rw [Nat.succ_mul]
    omega
theorem sd_s_up {f g : Nat → Nat} (b n : Nat) (hb : b < n) (h : ∀ i, i < n → i ≠ b → g i = f i) : sd_s g n + f b = sd_s f n + g b := by
  induction n with
  | zero => omega
  | succ n ih =>
    show sd_s g n + g n + f b = sd_s f n + f n + g b
    by_cases e : b = n
    · subst e
      have a : sd_s g b = sd_s f b := sd_s_cg b fun i hi => h i (by omega) (by omega)
      omega
    · have a := ih (by omega) fun i hi => h i (by omega)
      have c := h n (by omega) (by omega)
      omega
theorem sd_s_pr (f : Nat → Nat) (n : Nat) : sd_s f (2 * n) = sd_s (fun i => f (2 * i) + f (2 * i + 1)) n := by
  induction n with
  | zero => rfl
  | succ n ih =>
    show sd_s f (2 * n) + f (2 * n) + f (2 * n + 1) = sd_s (fun i => f (2 * i) + f (2 * i + 1)) n + (f (2 * n) + f (2 * n + 1))
    rw [ih, Nat.add_assoc]
def sd_dm (c d p t : Nat) : Nat := if d ≤ t then ((t - d) / p + 1) * c else 0
def sd_D (c d p : Nat → Nat) (t : Nat) : Nat := sd_s (fun i => sd_dm (c i) (d i) (p i) t) 13
def sd_pok (p : Nat) : Prop := 2 ≤ p ∧ p ≤ 60 ∧ p ∣ 60
def sd_ok (c d p : Nat → Nat) : Prop := ∀ i, i < 13 → 0 < c i → c i ≤ d i ∧ d i ≤ p i ∧ 2 ≤ p i ∧ p i ≤ 60 ∧ p i ∣ 60
def sd_Sc (c d p : Nat → Nat) : Prop := ∀ t, t ≤ 60 → sd_D c d p t ≤ t
theorem sd_dm_c0 (d p t : Nat) : sd_dm 0 d p t = 0 := by
  unfold sd_dm
  split <;> simp
theorem sd_dm_lt {c d p t : Nat} (h : t < d) : sd_dm c d p t = 0 := if_neg (by omega)
theorem sd_dm_ge {c d p t : Nat} (h : d ≤ t) : sd_dm c d p t = ((t - d) / p + 1) * c := if_pos h
theorem sd_dm_t {c d p s t : Nat} (h : s ≤ t) : sd_dm c d p s ≤ sd_dm c d p t := by
  by_cases hs : d ≤ s
  · rw [sd_dm_ge hs, sd_dm_ge (by omega)]
    exact Nat.mul_le_mul_right c (Nat.succ_le_succ (Nat.div_le_div_right (by omega)))
  · rw [sd_dm_lt (by omega)]; exact Nat.zero_le _
theorem sd_dm_c {c c' d p t : Nat} (h : c' ≤ c) : sd_dm c' d p t ≤ sd_dm c d p t := by
  by_cases hs : d ≤ t
  · rw [sd_dm_ge hs, sd_dm_ge hs]
    exact Nat.mul_le_mul_left _ h
  · rw [sd_dm_lt (by omega)]; exact Nat.zero_le _
theorem sd_D_t {c d p : Nat → Nat} {s t : Nat} (h : s ≤ t) : sd_D c d p s ≤ sd_D c d p t :=
  sd_s_le 13 fun _ _ => sd_dm_t h
theorem sd_Sc_mono {c d p c' d' p' : Nat → Nat} (h : ∀ i, i < 13 → c' i ≤ c i ∧ (0 < c' i → d' i = d i ∧ p' i = p i)) (H : sd_Sc c d p) : sd_Sc c' d' p' := by
  intro t ht
  refine Nat.le_trans (sd_s_le 13 fun i hi => ?_) (H t ht)
  show sd_dm (c' i) (d' i) (p' i) t ≤ sd_dm (c i) (d i) (p i) t
  obtain ⟨h1, h2⟩ := h i hi
  by_cases z : 0 < c' i
  · obtain ⟨e1, e2⟩ := h2 z
    rw [e1, e2]
    exact sd_dm_c h1
  · rw [show c' i = 0 by omega, sd_dm_c0]; exact Nat.zero_le _
theorem sd_dm_bd {c d p t : Nat} (hc : c ≤ 60) (hp : 2 ≤ p) (ht : t ≤ 60) : sd_dm c d p t ≤ 1860 := by
  by_cases hs : d ≤ t
  · rw [sd_dm_ge hs]
    have a : (t - d) / p ≤ 60 / 2 := Nat.div_le_div (by omega) hp (by omega)
    exact Nat.le_trans (Nat.mul_le_mul (show (t - d) / p + 1 ≤ 31 by omega) hc) (by omega)
  · rw [sd_dm_lt (by omega)]; exact Nat.zero_le _
theorem sd_D_bd {c d p : Nat → Nat} (ok : sd_ok c d p) {t : Nat} (ht : t ≤ 60) : sd_D c d p t ≤ 24180 := by
  refine sd_s_bd (M := 1860) 13 fun i hi => ?_
  show sd_dm (c i) (d i) (p i) t ≤ 1860
  by_cases z : 0 < c i
  · obtain ⟨h1, h2, h3, h4, h5⟩ := ok i hi z
    exact sd_dm_bd (by omega) h3 ht
  · rw [show c i = 0 by omega, sd_dm_c0]; exact Nat.zero_le _
/-- one part's load is its demand at the end -/
theorem sd_dm_60 {c d p : Nat} (h0 : 0 < d) (h1 : d ≤ p) (h2 : p ≤ 60) (h3 : p ∣ 60) : sd_dm c d p 60 = c * (60 / p) := by
  rw [sd_dm_ge (by omega), Nat.mul_comm]
  congr 1
  obtain ⟨m, hm⟩ := h3
  have hp : 0 < p := by omega
  have m0 : m ≠ 0 := by intro e; rw [e] at hm; simp at hm
  obtain ⟨k, rfl⟩ : ∃ k, m = k + 1 := ⟨m - 1, by omega⟩
  have e1 : 60 / p = k + 1 := by rw [hm]; exact Nat.mul_div_cancel_left _ hp
  have e2 : 60 - d = p * k + (p - d) := by rw [hm, Nat.mul_succ]; omega
  rw [e1, e2, Nat.mul_add_div hp, Nat.div_eq_of_lt (by omega)]
theorem sd_D_60 {c d p : Nat → Nat} (ok : sd_ok c d p) : sd_s (fun i => c i * (60 / p i)) 13 = sd_D c d p 60 := by
  refine sd_s_cg 13 fun i hi => ?_
  show c i * (60 / p i) = sd_dm (c i) (d i) (p i) 60
  by_cases z : 0 < c i
  · obtain ⟨h1, h2, h3, h4, h5⟩ := ok i hi z
    rw [sd_dm_60 (by omega) h2 h4 h5]
  · rw [show c i = 0 by omega, sd_dm_c0, Nat.zero_mul]
end
section
/-! the most urgent of those that wait; the schedule by unit slots -/
def sd_B (P : Nat → Prop) (u : Nat → Nat) (n : Nat) (o : Option Nat) : Prop := match o with
  | none => ∀ j, j < n → ¬ P j
  | some b => b < n ∧ P b ∧ ∀ j, j < n → P j → u b < u j ∨ (u b = u j ∧ b ≤ j)
theorem sd_B_0 {P : Nat → Prop} {u : Nat → Nat} : sd_B P u 0 none := fun j hj => absurd hj (Nat.not_lt_zero j)
theorem sd_B_no {P : Nat → Prop} {u : Nat → Nat} {n : Nat} {o : Option Nat} (h : sd_B P u n o) (hn : ¬ P n) : sd_B P u (n + 1) o := by
  cases o with
  | none =>
    intro j hj
    by_cases e : j = n
    · subst e; exact hn
    · exact h j (by omega)
  | some b =>
    obtain ⟨h1, h2, h3⟩ := h
    refine ⟨by omega, h2, fun j hj pj => ?_⟩
    by_cases e : j = n
    · subst e; exact absurd pj hn
    · exact h3 j (by omega) pj
theorem sd_B_first {P : Nat → Prop} {u : Nat → Nat} {n : Nat} (h : sd_B P u n none) (hn : P n) : sd_B P u (n + 1) (some n) := by
  refine ⟨by omega, hn, fun j hj pj => ?_⟩
  by_cases e : j = n
  · subst e; exact Or.inr ⟨rfl, Nat.le_refl _⟩
  · exact absurd pj (h j (by omega))
theorem sd_B_keep {P : Nat → Prop} {u : Nat → Nat} {n b : Nat} (h : sd_B P u n (some b)) (hu : u b ≤ u n) : sd_B P u (n + 1) (some b) := by
  obtain ⟨h1, h2, h3⟩ := h
  refine ⟨by omega, h2, fun j hj pj => ?_⟩
  by_cases e : j = n
  · subst e
    by_cases g : u b = u j
    · exact Or.inr ⟨g, by omega⟩
    · exact Or.inl (by omega)
  · exact h3 j (by omega) pj
theorem sd_B_new {P : Nat → Prop} {u : Nat → Nat} {n b : Nat} (h : sd_B P u n (some b)) (hn : P n) (hu : u n < u b) : sd_B P u (n + 1) (some n) := by
  obtain ⟨h1, h2, h3⟩ := h
  refine ⟨by omega, hn, fun j hj pj => ?_⟩
  by_cases e : j = n
  · subst e; exact Or.inr ⟨rfl, Nat.le_refl _⟩
  · rcases h3 j (by omega) pj with g | g
    · exact Or.inl (by omega)
    · exact Or.inl (by omega)
theorem sd_B_ex (P : Nat → Prop) (u : Nat → Nat) (n : Nat) : ∃ o, sd_B P u n o := by
  induction n with
  | zero => exact ⟨none, sd_B_0⟩
  | succ n ih =>
    obtain ⟨o, ho⟩ := ih
    by_cases hn : P n
    · cases o with
      | none => exact ⟨_, sd_B_first ho hn⟩
      | some b =>
        by_cases hu : u n < u b
        · exact ⟨_, sd_B_new ho hn hu⟩
        · exact ⟨_, sd_B_keep ho (by omega)⟩
    · exact ⟨_, sd_B_no ho hn⟩
theorem sd_B_un {P : Nat → Prop} {u : Nat → Nat} {n : Nat} {o o' : Option Nat} (h : sd_B P u n o) (h' : sd_B P u n o') : o = o' := by
  cases o with
  | none =>
    cases o' with
    | none => rfl
    | some b => exact absurd h'.2.1 (h b h'.1)
  | some b =>
    cases o' with
    | none => exact absurd h.2.1 (h' b h.1)
    | some b' =>
      have e1 := h.2.2 b' h'.1 h'.2.1
      have e2 := h'.2.2 b h.1 h.2.1
      have : b = b' := by omega
      rw [this]
theorem sd_B_cg {P P' : Nat → Prop} {u u' : Nat → Nat} {n : Nat} {o : Option Nat} (h : sd_B P u n o) (hP : ∀ j, j < n → (P' j ↔ P j)) (hu : ∀ j, j < n → u' j = u j) : sd_B P' u' n o := by
  cases o with
  | none => exact fun j hj pj => h j hj ((hP j hj).mp pj)
  | some b =>
    refine ⟨h.1, (hP b h.1).mpr h.2.1, fun j hj pj => ?_⟩
    rw [hu b h.1, hu j hj]
    exact h.2.2 j hj ((hP j hj).mp pj)
def sd_u (f : Nat → Nat) (k x : Nat) : Nat → Nat := fun j => if j = k then x else f j
theorem sd_us {f : Nat → Nat} {k x : Nat} : sd_u f k x k = x := if_pos rfl
theorem sd_un {f : Nat → Nat} {k x j : Nat} (h : j ≠ k) : sd_u f k x j = f j := if_neg h
theorem sd_uu {f : Nat → Nat} {k x y : Nat} : sd_u (sd_u f k x) k y = sd_u f k y := by
  funext j
  by_cases h : j = k
  · subst h; rw [sd_us, sd_us]
  · rw [sd_un h, sd_un h, sd_un h]
theorem sd_ui {f : Nat → Nat} {k : Nat} : sd_u f k (f k) = f := by
  funext j
  by_cases h : j = k
  · subst h; rw [sd_us]
  · rw [sd_un h]
def sd_pd (t : Nat) (lf rl : Nat → Nat) : Nat → Prop := fun i => 0 < lf i ∧ rl i ≤ t
def sd_du (d rl : Nat → Nat) : Nat → Nat := fun i => rl i + d i
noncomputable def sd_pick (d : Nat → Nat) (t : Nat) (lf rl : Nat → Nat) : Option Nat := Classical.choose (sd_B_ex (sd_pd t lf rl) (sd_du d rl) 13)
theorem sd_pick_s (d : Nat → Nat) (t : Nat) (lf rl : Nat → Nat) : sd_B (sd_pd t lf rl) (sd_du d rl) 13 (sd_pick d t lf rl) := Classical.choose_spec (sd_B_ex (sd_pd t lf rl) (sd_du d rl) 13)
theorem sd_pick_u {d : Nat → Nat} {t : Nat} {lf rl : Nat → Nat} {o : Option Nat} (h : sd_B (sd_pd t lf rl) (sd_du d rl) 13 o) : sd_pick d t lf rl = o := sd_B_un (sd_pick_s d t lf rl) h
abbrev sd_T : Type := (Nat → Nat) × (Nat → Nat) × (Nat → Nat)
def sd_go (c p : Nat → Nat) (t : Nat) (o : Option Nat) (s : sd_T) : sd_T := match o with
  | none => s
  | some b => if s.1 b ≤ 1 then (sd_u s.1 b (if s.2.1 b + p b < 60 then c b else 0), sd_u s.2.1 b (s.2.1 b + p b), sd_u s.2.2 b (if s.2.2 b < t + 1 - s.2.1 b then t + 1 - s.2.1 b else s.2.2 b)) else (sd_u s.1 b (s.1 b - 1), s.2.1, s.2.2)
noncomputable def sd_st (c d p : Nat → Nat) : Nat → sd_T
  | 0 => (c, fun _ => 0, fun _ => 0)
  | t + 1 => sd_go c p t (sd_pick d t (sd_st c d p t).1 (sd_st c d p t).2.1) (sd_st c d p t)
noncomputable def sd_L (c d p : Nat → Nat) (t : Nat) : Nat → Nat := (sd_st c d p t).1
noncomputable def sd_R (c d p : Nat → Nat) (t : Nat) : Nat → Nat := (sd_st c d p t).2.1
noncomputable def sd_Z (c d p : Nat → Nat) (t : Nat) : Nat → Nat := (sd_st c d p t).2.2
noncomputable def sd_O (c d p : Nat → Nat) (t : Nat) : Option Nat := sd_pick d t (sd_L c d p t) (sd_R c d p t)
section
variable {c d p : Nat → Nat} {t : Nat}
theorem sd_st_1 : sd_st c d p (t + 1) = sd_go c p t (sd_O c d p t) (sd_st c d p t) := rfl
theorem sd_n (h : sd_O c d p t = none) : sd_st c d p (t + 1) = sd_st c d p t := by
  rw [sd_st_1, h]; rfl
theorem sd_nL (h : sd_O c d p t = none) : sd_L c d p (t + 1) = sd_L c d p t := congrArg (fun s : sd_T => s.1) (sd_n h)
theorem sd_nR (h : sd_O c d p t = none) : sd_R c d p (t + 1) = sd_R c d p t := congrArg (fun s : sd_T => s.2.1) (sd_n h)
theorem sd_nZ (h : sd_O c d p t = none) : sd_Z c d p (t + 1) = sd_Z c d p t := congrArg (fun s : sd_T => s.2.2) (sd_n h)
theorem sd_c {b : Nat} (h : sd_O c d p t = some b) (h1 : sd_L c d p t b ≤ 1) : sd_st c d p (t + 1) = (sd_u (sd_L c d p t) b (if sd_R c d p t b + p b < 60 then c b else 0), sd_u (sd_R c d p t) b (sd_R c d p t b + p b), sd_u (sd_Z c d p t) b (if sd_Z c d p t b < t + 1 - sd_R c d p t b then t + 1 - sd_R c d p t b else sd_Z c d p t b)) := by
  rw [sd_st_1, h]; exact if_pos h1
theorem sd_cL {b : Nat} (h : sd_O c d p t = some b) (h1 : sd_L c d p t b ≤ 1) : sd_L c d p (t + 1) = sd_u (sd_L c d p t) b (if sd_R c d p t b + p b < 60 then c b else 0) := congrArg (fun s : sd_T => s.1) (sd_c h h1)
theorem sd_cR {b : Nat} (h : sd_O c d p t = some b) (h1 : sd_L c d p t b ≤ 1) : sd_R c d p (t + 1) = sd_u (sd_R c d p t) b (sd_R c d p t b + p b) := congrArg (fun s : sd_T => s.2.1) (sd_c h h1)
theorem sd_cZ {b : Nat} (h : sd_O c d p t = some b) (h1 : sd_L c d p t b ≤ 1) : sd_Z c d p (t + 1) = sd_u (sd_Z c d p t) b (if sd_Z c d p t b < t + 1 - sd_R c d p t b then t + 1 - sd_R c d p t b else sd_Z c d p t b) := congrArg (fun s : sd_T => s.2.2) (sd_c h h1)
theorem sd_g {b : Nat} (h : sd_O c d p t = some b) (h1 : ¬ sd_L c d p t b ≤ 1) : sd_st c d p (t + 1) = (sd_u (sd_L c d p t) b (sd_L c d p t b - 1), sd_R c d p t, sd_Z c d p t) := by
  rw [sd_st_1, h]; exact if_neg h1
theorem sd_gL {b : Nat} (h : sd_O c d p t = some b) (h1 : ¬ sd_L c d p t b ≤ 1) : sd_L c d p (t + 1) = sd_u (sd_L c d p t) b (sd_L c d p t b - 1) := congrArg (fun s : sd_T => s.1) (sd_g h h1)
theorem sd_gR {b : Nat} (h : sd_O c d p t = some b) (h1 : ¬ sd_L c d p t b ≤ 1) : sd_R c d p (t + 1) = sd_R c d p t := by
  have := congrArg (fun s : sd_T => s.2.1) (sd_g h h1)
  exact this
theorem sd_gZ {b : Nat} (h : sd_O c d p t = some b) (h1 : ¬ sd_L c d p t b ≤ 1) : sd_Z c d p (t + 1) = sd_Z c d p t := by
  have := congrArg (fun s : sd_T => s.2.2) (sd_g h h1)
  exact this
end
def sd_I (c p : Nat → Nat) (t : Nat) (lf rl : Nat → Nat) (i : Nat) : Prop :=
  (c i = 0 → lf i = 0) ∧ (0 < c i → p i ∣ rl i ∧ rl i ≤ 60 ∧ lf i ≤ c i ∧ (rl i < 60 → 0 < lf i) ∧ (rl i = 60 → lf i = 0) ∧ (t ≤ rl i → rl i < 60 → lf i = c i) ∧ rl i < t + p i)
theorem sd_dv {p a b : Nat} (ha : p ∣ a) (hb : p ∣ b) (h : a < b) : a + p ≤ b := by
  have h1 : p ∣ b - a := Nat.dvd_sub hb ha
  have h2 := Nat.le_of_dvd (by omega) h1
  omega
theorem sd_inv {c d p : Nat → Nat} (ok : sd_ok c d p) (t : Nat) : ∀ i, i < 13 → sd_I c p t (sd_L c d p t) (sd_R c d p t) i := by
  induction t with
  | zero =>
    intro i hi
    refine ⟨fun h => h, fun h => ?_⟩
    obtain ⟨h1, h2, h3, h4, h5⟩ := ok i hi h
    show p i ∣ 0 ∧ 0 ≤ 60 ∧ c i ≤ c i ∧ (0 < 60 → 0 < c i) ∧ (0 = 60 → c i = 0) ∧ (0 ≤ 0 → 0 < 60 → c i = c i) ∧ 0 < 0 + p i
    exact ⟨Nat.dvd_zero _, by omega, Nat.le_refl _, fun _ => h, by omega, fun _ _ => rfl, by omega⟩
  | succ t ih =>
    intro i hi
    have I := ih i hi
    cases e : sd_O c d p t with
    | none =>
      rw [sd_nL e, sd_nR e]
      refine ⟨I.1, fun h => ?_⟩
      obtain ⟨a1, a2, a3, a4, a5, a6, a7⟩ := I.2 h
      exact ⟨a1, a2, a3, a4, a5, fun z => a6 (by omega), by omega⟩
    | some b =>
      have B := sd_pick_s d t (sd_L c d p t) (sd_R c d p t)
      rw [show sd_pick d t (sd_L c d p t) (sd_R c d p t) = some b from e] at B
      obtain ⟨hb, ⟨pb1, pb2⟩, -⟩ := B
      have J := ih b hb
      have cb : 0 < c b := Nat.pos_of_ne_zero fun z => by have := J.1 z; omega
      obtain ⟨b1, b2, b3, b4, b5, b6, b7⟩ := J.2 cb
      obtain ⟨k1, k2, k3, k4, k5⟩ := ok b hb cb
      have rb : sd_R c d p t b < 60 := by
        by_cases z : sd_R c d p t b = 60
        · have := b5 z; omega
        · omega
      by_cases h1 : sd_L c d p t b ≤ 1
      · rw [sd_cL e h1, sd_cR e h1]
        by_cases ib : i = b
        · subst ib
          have q := sd_dv b1 k5 rb
          refine ⟨fun z => by omega, fun _ => ?_⟩
          rw [sd_us, sd_us]
          refine ⟨Nat.dvd_add b1 (Nat.dvd_refl _), q, ?_, ?_, ?_, ?_, by omega⟩
          · split <;> omega
          · intro z; rw [if_pos z]; exact cb
          · intro z; rw [if_neg (by omega)]
          · intro _ z; rw [if_pos z]
        · unfold sd_I
          rw [sd_un ib, sd_un ib]
          refine ⟨I.1, fun h => ?_⟩
          obtain ⟨a1, a2, a3, a4, a5, a6, a7⟩ := I.2 h
          exact ⟨a1, a2, a3, a4, a5, fun z => a6 (by omega), by omega⟩
      · rw [sd_gL e h1, sd_gR e h1]
        by_cases ib : i = b
        · subst ib
          refine ⟨fun z => by omega, fun _ => ?_⟩
          rw [sd_us]
          exact ⟨b1, b2, by omega, fun _ => by omega, fun z => by omega, fun z => by omega, by omega⟩
        · unfold sd_I
          rw [sd_un ib]
          refine ⟨I.1, fun h => ?_⟩
          obtain ⟨a1, a2, a3, a4, a5, a6, a7⟩ := I.2 h
          exact ⟨a1, a2, a3, a4, a5, fun z => a6 (by omega), by omega⟩
/-- what holds of the one that runs in slot t -/
theorem sd_run {c d p : Nat → Nat} (ok : sd_ok c d p) {t b : Nat} (e : sd_O c d p t = some b) : b < 13 ∧ 0 < c b ∧ 0 < sd_L c d p t b ∧ sd_R c d p t b ≤ t ∧ sd_R c d p t b < 60 ∧ (∀ j, j < 13 → 0 < sd_L c d p t j → sd_R c d p t j ≤ t → sd_R c d p t b + d b ≤ sd_R c d p t j + d j) := by
  have B := sd_pick_s d t (sd_L c d p t) (sd_R c d p t)
  rw [show sd_pick d t (sd_L c d p t) (sd_R c d p t) = some b from e] at B
  obtain ⟨hb, ⟨pb1, pb2⟩, h3⟩ := B
  have J := sd_inv ok t b hb
  have cb : 0 < c b := Nat.pos_of_ne_zero fun z => by have := J.1 z; omega
  obtain ⟨b1, b2, b3, b4, b5, b6, b7⟩ := J.2 cb
  refine ⟨hb, cb, pb1, pb2, ?_, fun j hj h1 h2 => ?_⟩
  · by_cases z : sd_R c d p t b = 60
    · have := b5 z; omega
    · omega
  · have := h3 j hj ⟨h1, h2⟩
    unfold sd_du at this
    omega
theorem sd_idle {c d p : Nat → Nat} {t : Nat} (e : sd_O c d p t = none) : ∀ j, j < 13 → 0 < sd_L c d p t j → t < sd_R c d p t j := by
  intro j hj h
  have B := sd_pick_s d t (sd_L c d p t) (sd_R c d p t)
  rw [show sd_pick d t (sd_L c d p t) (sd_R c d p t) = none from e] at B
  have := B j hj
  unfold sd_pd at this
  omega
end
section
/-! no deadline is missed in sixty slots if and only if no demand is above its time -/
def sd_w (c d p lf rl : Nat → Nat) (D i : Nat) : Nat := if rl i + d i ≤ D then lf i + (D - (rl i + d i)) / p i * c i else 0
noncomputable def sd_W (c d p : Nat → Nat) (t D : Nat) : Nat := sd_s (fun i => sd_w c d p (sd_L c d p t) (sd_R c d p t) D i) 13
def sd_ms (c d p : Nat → Nat) (t : Nat) : Prop := ∃ i, i < 13 ∧ 0 < sd_L c d p t i ∧ sd_R c d p t i + d i ≤ t
theorem sd_W0 (c d p : Nat → Nat) (D : Nat) : sd_W c d p 0 D = sd_D c d p D := by
  refine sd_s_cg 13 fun i hi => ?_
  show (if 0 + d i ≤ D then c i + (D - (0 + d i)) / p i * c i else 0) = if d i ≤ D then ((D - d i) / p i + 1) * c i else 0
  rw [Nat.zero_add, Nat.succ_mul, Nat.add_comm (c i)]
theorem sd_wg {c d p lf rl : Nat → Nat} {D i : Nat} (h : rl i + d i ≤ D) : sd_w c d p lf rl D i = lf i + (D - (rl i + d i)) / p i * c i := if_pos h
theorem sd_wl {c d p lf rl : Nat → Nat} {D i : Nat} (h : D < rl i + d i) : sd_w c d p lf rl D i = 0 := if_neg (by omega)
theorem sd_w_cg {c d p lf rl lf' rl' : Nat → Nat} {D i : Nat} (h1 : lf' i = lf i) (h2 : rl' i = rl i) : sd_w c d p lf' rl' D i = sd_w c d p lf rl D i := by
  unfold sd_w
  rw [h1, h2]
theorem sd_W_n {c d p : Nat → Nat} {t : Nat} (e : sd_O c d p t = none) (D : Nat) : sd_W c d p (t + 1) D = sd_W c d p t D := by
  unfold sd_W
  rw [sd_nL e, sd_nR e]
theorem sd_wb {c d p : Nat → Nat} (ok : sd_ok c d p) {t b : Nat} (e : sd_O c d p t = some b) {D : Nat} (hD : D ≤ 60) :
    (sd_R c d p t b + d b ≤ D → sd_w c d p (sd_L c d p (t + 1)) (sd_R c d p (t + 1)) D b + 1 = sd_w c d p (sd_L c d p t) (sd_R c d p t) D b) ∧ (D < sd_R c d p t b + d b → sd_w c d p (sd_L c d p (t + 1)) (sd_R c d p (t + 1)) D b = sd_w c d p (sd_L c d p t) (sd_R c d p t) D b) := by
  obtain ⟨hb, cb, lb, rb, r60, -⟩ := sd_run ok e
  obtain ⟨k1, k2, k3, k4, k5⟩ := ok b hb cb
  by_cases h1 : sd_L c d p t b ≤ 1
  · rw [sd_cL e h1, sd_cR e h1]
    refine ⟨fun g => ?_, fun g => ?_⟩
    · rw [sd_wg g, show sd_L c d p t b = 1 by omega]
      by_cases q : sd_R c d p t b + p b + d b ≤ D
      · rw [sd_wg (by rw [sd_us]; exact q), sd_us, sd_us, if_pos (by omega)]
        have x : D - (sd_R c d p t b + d b) = (D - (sd_R c d p t b + p b + d b)) + p b := by omega
        rw [x, Nat.add_div_right _ (by omega), Nat.succ_mul]
        omega
      · rw [sd_wl (by rw [sd_us]; omega), Nat.div_eq_of_lt (by omega), Nat.zero_mul]
    · rw [sd_wl g, sd_wl (by rw [sd_us]; omega)]
  · rw [sd_gL e h1, sd_gR e h1]
    refine ⟨fun g => ?_, fun g => ?_⟩
    · rw [sd_wg g, sd_wg g, sd_us]
      omega
    · rw [sd_wl g, sd_wl g]
theorem sd_W_o {c d p : Nat → Nat} {t b : Nat} (e : sd_O c d p t = some b) (D i : Nat) (h : i ≠ b) : sd_w c d p (sd_L c d p (t + 1)) (sd_R c d p (t + 1)) D i = sd_w c d p (sd_L c d p t) (sd_R c d p t) D i := by
  by_cases h1 : sd_L c d p t b ≤ 1
  · rw [sd_cL e h1, sd_cR e h1]
    exact sd_w_cg (sd_un h) (sd_un h)
  · rw [sd_gL e h1, sd_gR e h1]
    exact sd_w_cg (sd_un h) rfl
theorem sd_W_s {c d p : Nat → Nat} (ok : sd_ok c d p) {t b : Nat} (e : sd_O c d p t = some b) {D : Nat} (hD : D ≤ 60) :
    (sd_R c d p t b + d b ≤ D → sd_W c d p (t + 1) D + 1 = sd_W c d p t D) ∧ (D < sd_R c d p t b + d b → sd_W c d p (t + 1) D = sd_W c d p t D) := by
  obtain ⟨x1, x2⟩ := sd_wb ok e hD
  have q : sd_W c d p (t + 1) D + sd_w c d p (sd_L c d p t) (sd_R c d p t) D b = sd_W c d p t D + sd_w c d p (sd_L c d p (t + 1)) (sd_R c d p (t + 1)) D b := sd_s_up (f := fun i => sd_w c d p (sd_L c d p t) (sd_R c d p t) D i) (g := fun i => sd_w c d p (sd_L c d p (t + 1)) (sd_R c d p (t + 1)) D i) b 13 (sd_run ok e).1 fun i _ => sd_W_o e D i
  refine ⟨fun g => ?_, fun g => ?_⟩
  · have := x1 g
    omega
  · have := x2 g
    omega
theorem sd_W_bd {c d p : Nat → Nat} (ok : sd_ok c d p) {t D : Nat} (h1 : t + 1 ≤ D) (h2 : D ≤ 60) (h : ∀ i, i < 13 → 0 < sd_L c d p t i → sd_R c d p t i + d i ≤ D → t < sd_R c d p t i) : sd_W c d p t D ≤ sd_D c d p (D - (t + 1)) := by
  refine sd_s_le 13 fun i hi => ?_
  show sd_w c d p (sd_L c d p t) (sd_R c d p t) D i ≤ sd_dm (c i) (d i) (p i) (D - (t + 1))
  have I := sd_inv ok t i hi
  by_cases g : sd_R c d p t i + d i ≤ D
  · rw [sd_wg g]
    by_cases z : 0 < c i
    · obtain ⟨a1, a2, a3, a4, a5, a6, a7⟩ := I.2 z
      obtain ⟨k1, k2, k3, k4, k5⟩ := ok i hi z
      have r := h i hi (a4 (by omega)) g
      rw [a6 (by omega) (by omega), sd_dm_ge (by omega), Nat.succ_mul, Nat.add_comm]
      exact Nat.add_le_add_right (Nat.mul_le_mul_right _ (Nat.div_le_div_right (by omega))) _
    · have z0 : c i = 0 := by omega
      rw [I.1 z0, z0, Nat.mul_zero]
      exact Nat.zero_le _
  · rw [sd_wl (by omega)]
    exact Nat.zero_le _
theorem sd_edf1 {c d p : Nat → Nat} (ok : sd_ok c d p) (S : sd_Sc c d p) (t : Nat) : ∀ D, t ≤ D → D ≤ 60 → sd_W c d p t D ≤ D - t := by
  induction t with
  | zero =>
    intro D _ hD
    rw [sd_W0]
    exact S D hD
  | succ t ih =>
    intro D h1 h2
    have I := ih D (by omega) h2
    cases e : sd_O c d p t with
    | none =>
      rw [sd_W_n e]
      exact Nat.le_trans (sd_W_bd ok h1 h2 fun i hi h _ => sd_idle e i hi h) (S _ (by omega))
    | some b =>
      obtain ⟨x1, x2⟩ := sd_W_s ok e h2
      by_cases g : sd_R c d p t b + d b ≤ D
      · have := x1 g
        omega
      · rw [x2 (by omega)]
        refine Nat.le_trans (sd_W_bd ok h1 h2 fun i hi h y => ?_) (S _ (by omega))
        have := (sd_run ok e).2.2.2.2.2 i hi h
        omega
theorem sd_nomiss {c d p : Nat → Nat} (ok : sd_ok c d p) (S : sd_Sc c d p) {t : Nat} (ht : t ≤ 60) : ¬ sd_ms c d p t := by
  rintro ⟨i, hi, h1, h2⟩
  have a := sd_edf1 ok S t t (Nat.le_refl _) ht
  have b : sd_w c d p (sd_L c d p t) (sd_R c d p t) t i ≤ sd_W c d p t t := sd_s_ge (f := fun i => sd_w c d p (sd_L c d p t) (sd_R c d p t) t i) 13 i hi
  rw [sd_wg h2] at b
  omega
theorem sd_edf2 {c d p : Nat → Nat} (ok : sd_ok c d p) (N : ∀ t, t ≤ 60 → ¬ sd_ms c d p t) : sd_Sc c d p := by
  intro D hD
  have a : ∀ t, sd_D c d p D ≤ sd_W c d p t D + t := by
    intro t
    induction t with
    | zero => rw [sd_W0]; omega
    | succ t ih =>
      cases e : sd_O c d p t with
      | none => rw [sd_W_n e]; omega
      | some b =>
        obtain ⟨x1, x2⟩ := sd_W_s ok e hD
        by_cases g : sd_R c d p t b + d b ≤ D
        · have := x1 g
          omega
        · have := x2 (by omega)
          omega
  have z : sd_W c d p D D = 0 := by
    refine sd_s_0 13 fun i hi => ?_
    show sd_w c d p (sd_L c d p D) (sd_R c d p D) D i = 0
    have I := sd_inv ok D i hi
    by_cases g : sd_R c d p D i + d i ≤ D
    · by_cases z : 0 < c i
      · obtain ⟨a1, a2, a3, a4, a5, a6, a7⟩ := I.2 z
        obtain ⟨k1, k2, k3, k4, k5⟩ := ok i hi z
        exact absurd ⟨i, hi, a4 (by omega), g⟩ (N D hD)
      · have z0 : c i = 0 := by omega
        rw [sd_wg g, I.1 z0, z0, Nat.mul_zero]
    · exact sd_wl (by omega)
  have := a D
  omega
/-! one stretch is so many slots of one part -/
theorem sd_str {c d p : Nat → Nat} {t b e : Nat} (o : sd_O c d p t = some b) (he : e ≤ t + sd_L c d p t b) (hn : ∀ i, i < 13 → 0 < sd_L c d p t i → sd_R c d p t i ≤ t ∨ e ≤ sd_R c d p t i) (j : Nat) (hj : t + j < e) :
    sd_O c d p (t + j) = some b ∧ sd_L c d p (t + j) = sd_u (sd_L c d p t) b (sd_L c d p t b - j) ∧ sd_R c d p (t + j) = sd_R c d p t ∧ sd_Z c d p (t + j) = sd_Z c d p t := by
  induction j with
  | zero => exact ⟨o, by rw [Nat.sub_zero, sd_ui]; rfl, rfl, rfl⟩
  | succ j ih =>
    obtain ⟨h1, h2, h3, h4⟩ := ih (by omega)
    have q : sd_L c d p (t + j) b = sd_L c d p t b - j := by rw [h2, sd_us]
    have g : ¬ sd_L c d p (t + j) b ≤ 1 := by rw [q]; omega
    have eL : sd_L c d p (t + (j + 1)) = sd_u (sd_L c d p t) b (sd_L c d p t b - (j + 1)) := by
      rw [← Nat.add_assoc, sd_gL h1 g, q, h2, sd_uu]
      rfl
    have eR : sd_R c d p (t + (j + 1)) = sd_R c d p t := by rw [← Nat.add_assoc, sd_gR h1 g, h3]
    have eZ : sd_Z c d p (t + (j + 1)) = sd_Z c d p t := by rw [← Nat.add_assoc, sd_gZ h1 g, h4]
    refine ⟨?_, eL, eR, eZ⟩
    unfold sd_O
    rw [eL, eR]
    apply sd_pick_u
    have B := sd_pick_s d t (sd_L c d p t) (sd_R c d p t)
    rw [show sd_pick d t (sd_L c d p t) (sd_R c d p t) = some b from o] at B
    refine sd_B_cg B (fun i hi => ?_) (fun _ _ => rfl)
    unfold sd_pd
    have y := hn i hi
    by_cases ib : i = b
    · subst ib
      rw [sd_us]
      omega
    · rw [sd_un ib]
      omega
theorem sd_str_n {c d p : Nat → Nat} {t e : Nat} (o : sd_O c d p t = none) (hn : ∀ i, i < 13 → 0 < sd_L c d p t i → e ≤ sd_R c d p t i) (j : Nat) (hj : t + j ≤ e) :
    sd_st c d p (t + j) = sd_st c d p t ∧ (t + j < e → sd_O c d p (t + j) = none) := by
  have K : ∀ j, t + j < e → sd_st c d p (t + j) = sd_st c d p t → sd_O c d p (t + j) = none := by
    intro j hj z
    have eL : sd_L c d p (t + j) = sd_L c d p t := congrArg (fun s : sd_T => s.1) z
    have eR : sd_R c d p (t + j) = sd_R c d p t := congrArg (fun s : sd_T => s.2.1) z
    unfold sd_O
    rw [eL, eR]
    apply sd_pick_u
    intro i hi
    unfold sd_pd
    have := hn i hi
    omega
  induction j with
  | zero => exact ⟨rfl, fun h => o⟩
  | succ j ih =>
    obtain ⟨h1, h2⟩ := ih (by omega)
    have z : sd_st c d p (t + (j + 1)) = sd_st c d p t := by rw [← Nat.add_assoc, sd_n (h2 (by omega)), h1]
    exact ⟨z, fun h => K _ h z⟩
/-- the state at the end of a stretch that is not idle -/
theorem sd_str_e {c d p : Nat → Nat} {t b e : Nat} (o : sd_O c d p t = some b) (ht : t < e) (he : e ≤ t + sd_L c d p t b) (hn : ∀ i, i < 13 → 0 < sd_L c d p t i → sd_R c d p t i ≤ t ∨ e ≤ sd_R c d p t i) :
    (sd_L c d p t b = e - t → sd_L c d p e = sd_u (sd_L c d p t) b (if sd_R c d p t b + p b < 60 then c b else 0) ∧ sd_R c d p e = sd_u (sd_R c d p t) b (sd_R c d p t b + p b) ∧ sd_Z c d p e = sd_u (sd_Z c d p t) b (if sd_Z c d p t b < e - sd_R c d p t b then e - sd_R c d p t b else sd_Z c d p t b)) ∧
    (e - t < sd_L c d p t b → sd_L c d p e = sd_u (sd_L c d p t) b (sd_L c d p t b - (e - t)) ∧ sd_R c d p e = sd_R c d p t ∧ sd_Z c d p e = sd_Z c d p t) := by
  obtain ⟨j, rfl⟩ : ∃ j, e = t + j + 1 := ⟨e - t - 1, by omega⟩
  obtain ⟨h1, h2, h3, h4⟩ := sd_str o he hn j (by omega)
  have q : sd_L c d p (t + j) b = sd_L c d p t b - j := by rw [h2, sd_us]
  refine ⟨fun z => ?_, fun z => ?_⟩
  · have g : sd_L c d p (t + j) b ≤ 1 := by rw [q]; omega
    rw [sd_cL h1 g, sd_cR h1 g, sd_cZ h1 g, h2, h3, h4, sd_uu]
    exact ⟨rfl, rfl, rfl⟩
  · have g : ¬ sd_L c d p (t + j) b ≤ 1 := by rw [q]; omega
    rw [sd_gL h1 g, sd_gR h1 g, sd_gZ h1 g, q, h2, h3, h4, sd_uu]
    exact ⟨by rw [show sd_L c d p t b - (t + j + 1 - t) = sd_L c d p t b - j - 1 by omega], rfl, rfl⟩
end
section
/-! going backwards over the demand -/
def sd_ls (c d : Nat → Nat) (m : Nat) : Prop := m ≤ 60 ∧ (∀ i, i < 13 → 0 < c i → m ≤ d i) ∧ (m = 60 ∨ ∃ i, i < 13 ∧ 0 < c i ∧ d i = m)
def sd_db (c d p : Nat → Nat) (t m : Nat) : Prop := (∀ i, i < 13 → 0 < c i → d i < t → d i + (t - 1 - d i) / p i * p i ≤ m) ∧ (m = 0 ∨ ∃ i, i < 13 ∧ 0 < c i ∧ d i < t ∧ d i + (t - 1 - d i) / p i * p i = m)
def sd_q (c d p : Nat → Nat) (t : Nat) : Prop := sd_D c d p t ≤ t → ∀ s, t ≤ s → s ≤ 60 → sd_D c d p s ≤ s
theorem sd_q0 (c d p : Nat → Nat) : sd_q c d p 60 := by
  intro h s h1 h2
  rw [show s = 60 by omega]
  exact h
theorem sd_q1 {c d p : Nat → Nat} {t : Nat} (q : sd_q c d p t) (h : sd_D c d p t < t) : sd_q c d p (sd_D c d p t) := by
  intro g s h1 h2
  by_cases h3 : t ≤ s
  · exact q (by omega) s h3 h2
  · by_cases h4 : s = sd_D c d p t
    · rw [h4]; exact g
    · have := sd_D_t (c := c) (d := d) (p := p) (show s ≤ t by omega)
      omega
theorem sd_db_lt {c d p : Nat → Nat} {t m : Nat} (B : sd_db c d p t m) (ht : 0 < t) : m < t := by
  rcases B.2 with h | ⟨i, -, -, h1, h2⟩
  · omega
  · have := Nat.div_mul_le_self (t - 1 - d i) (p i)
    omega
theorem sd_db_ge {c d p : Nat → Nat} {t m l : Nat} (B : sd_db c d p t m) (L : sd_ls c d l) (h : l < t) (ht : t ≤ 60) : l ≤ m := by
  rcases L.2.2 with e | ⟨i, h1, h2, h3⟩
  · omega
  · have := B.1 i h1 h2 (by omega)
    omega
theorem sd_q2 {c d p : Nat → Nat} (ok : sd_ok c d p) {t m : Nat} (q : sd_q c d p t) (h : sd_D c d p t ≤ t) (B : sd_db c d p t m) : sd_q c d p m := by
  intro g s h1 h2
  by_cases h3 : t ≤ s
  · exact q h s h3 h2
  · refine Nat.le_trans (Nat.le_trans ?_ g) h1
    refine sd_s_le 13 fun i hi => ?_
    show sd_dm (c i) (d i) (p i) s ≤ sd_dm (c i) (d i) (p i) m
    by_cases z : 0 < c i
    · obtain ⟨k1, k2, k3, k4, k5⟩ := ok i hi z
      by_cases y : d i ≤ s
      · have b := B.1 i hi z (by omega)
        have e : (s - d i) / p i ≤ (m - d i) / p i := by
          refine Nat.le_trans (Nat.div_le_div_right (show s - d i ≤ t - 1 - d i by omega)) ?_
          rw [Nat.le_div_iff_mul_le (by omega)]
          omega
        rw [sd_dm_ge y, sd_dm_ge (by omega)]
        exact Nat.mul_le_mul_right _ (Nat.succ_le_succ e)
      · rw [sd_dm_lt (by omega)]; exact Nat.zero_le _
    · rw [show c i = 0 by omega, sd_dm_c0]; exact Nat.zero_le _
theorem sd_qe {c d p : Nat → Nat} {t l : Nat} (q : sd_q c d p t) (h : sd_D c d p t ≤ t) (L : sd_ls c d l) (h1 : sd_D c d p t ≤ l) (h2 : l ≤ t) : sd_Sc c d p := by
  intro s hs
  by_cases h3 : t ≤ s
  · exact q h s h3 hs
  · have a := sd_D_t (c := c) (d := d) (p := p) (show s ≤ t by omega)
    by_cases h4 : s < l
    · have : sd_D c d p s = 0 := by
        refine sd_s_0 13 fun i hi => ?_
        show sd_dm (c i) (d i) (p i) s = 0
        by_cases z : 0 < c i
        · have := L.2.1 i hi z
          exact sd_dm_lt (by omega)
        · rw [show c i = 0 by omega, sd_dm_c0]
      omega
    · omega
end
section
/-! the component's demand test over a view of one core -/
def x_V (k : Nat) (c d p : Nat → Nat) (a_period a_partCore a_cost a_deadline : Nat → Int32) : Prop :=
  (∀ i, i < 26 → a_partCore i = nI k → 0 < c (i / 2) ∧ a_cost i = nI (c (i / 2)) ∧ a_deadline i = nI (d (i / 2)) ∧ a_period (i / 2) = nI (p (i / 2))) ∧
  (∀ j, j < 13 → 0 < c j → a_partCore (2 * j) = nI k ∨ a_partCore (2 * j + 1) = nI k) ∧
  (∀ j, j < 13 → ¬ (a_partCore (2 * j) = nI k ∧ a_partCore (2 * j + 1) = nI k))
theorem x_half {i : Nat} (h : i < 2 ^ 31) : nI i / 2 = nI (i / 2) := pk_div (d := 2) h (by decide) (by decide)
theorem x_halfc {i : Nat} (h : i < 2 ^ 31) : (nI i / 2).toNatClampNeg = i / 2 := by
  rw [x_half h, nI_clamp (by omega)]
theorem x_2 : ¬ (2 : Int32) = 0 := by decide
section
variable {k : Nat} {c d p : Nat → Nat}
variable {f_cores f_tasks f_plannedCore f_stretches : Int32} {a_used a_period a_partCore a_cost a_deadline a_endOf a_taskIn a_left a_release a_slowest : Nat → Int32}
theorem x_sum (V : x_V k c d p a_period a_partCore a_cost a_deadline) (g : Nat → Nat) (hg : ∀ j, j < 13 → c j = 0 → g j = 0) : sd_s (fun i => if a_partCore i = nI k then g (i / 2) else 0) 26 = sd_s g 13 := by
  rw [show 26 = 2 * 13 from rfl, sd_s_pr]
  refine sd_s_cg 13 fun j hj => ?_
  show (if a_partCore (2 * j) = nI k then g (2 * j / 2) else 0) + (if a_partCore (2 * j + 1) = nI k then g ((2 * j + 1) / 2) else 0) = g j
  rw [show 2 * j / 2 = j by omega, show (2 * j + 1) / 2 = j by omega]
  have h3 := V.2.2 j hj
  by_cases z : c j = 0
  · rw [hg j hj z]
    split <;> split <;> rfl
  · rcases V.2.1 j hj (by omega) with h | h
    · rw [if_pos h, if_neg (fun y => h3 ⟨h, y⟩)]; rfl
    · rw [if_pos h, if_neg (fun y => h3 ⟨y, h⟩)]; omega
theorem x_load_lp (ok : sd_ok c d p) (V : x_V k c d p a_period a_partCore a_cost a_deadline) {post : Int32 → Prop} (hp : post (nI (sd_D c d p 60))) (m : Nat) : ∀ i, i + m = 26 → wX_loadOf_4 post (nI k) f_cores f_tasks f_plannedCore f_stretches a_used a_period a_partCore a_cost a_deadline a_endOf a_taskIn a_left a_release a_slowest (m + 1) (nI (sd_s (fun i => if a_partCore i = nI k then c (i / 2) * (60 / p (i / 2)) else 0) i)) (nI i) := by
  induction m with
  | zero =>
    intro i hi
    have e : i = 26 := by omega
    subst e
    refine br_t (nI_le (a := 26) (b := 26) (by omega) (by omega)) ?_
    rw [x_sum V (fun j => c j * (60 / p j)) (fun j _ z => by rw [z, Nat.zero_mul]), sd_D_60 ok]
    exact hp
  | succ m ih =>
    intro i hi
    have e := nI_clamp (n := i) (by omega)
    have e2 := x_halfc (i := i) (by omega)
    have vi : vp_in (nI i) 26 := vp_in_nI (by omega) (by omega)
    have K := ih (i + 1) (by omega)
    refine br_f (nI_ge (b := 26) (by omega) (by omega)) ⟨vi, ?_⟩
    rw [e, e2]
    by_cases h : a_partCore i = nI k
    · obtain ⟨c0, h1, h2, h3⟩ := V.1 i (by omega) h
      obtain ⟨k1, k2, k3, k4, k5⟩ := ok (i / 2) (by omega) c0
      refine br_t h ⟨vi, x_2, ?_, ?_, nm_r (e' := nI (sd_s (fun i => if a_partCore i = nI k then c (i / 2) * (60 / p (i / 2)) else 0) (i + 1))) ?_ (nm_r (nI_1 i) K)⟩
      · rw [x_half (by omega)]; exact vp_in_nI (by omega) (by omega)
      · rw [h3]; exact nI_ne0 (by omega) (by omega)
      · rw [h1, h3, show (60 : Int32) = nI 60 from rfl, pk_div (by omega) (by omega) (by omega), pk_mul, nI_add]
        show nI _ = nI (_ + if a_partCore i = nI k then c (i / 2) * (60 / p (i / 2)) else 0)
        rw [if_pos h]
    · refine br_f h (nm_r (nI_1 i) ?_)
      have q : sd_s (fun i => if a_partCore i = nI k then c (i / 2) * (60 / p (i / 2)) else 0) (i + 1) = sd_s (fun i => if a_partCore i = nI k then c (i / 2) * (60 / p (i / 2)) else 0) i := by
        show _ + (if a_partCore i = nI k then c (i / 2) * (60 / p (i / 2)) else 0) = _
        rw [if_neg h]; rfl
      rw [q] at K
      exact K
theorem x_loadOf (ok : sd_ok c d p) (V : x_V k c d p a_period a_partCore a_cost a_deadline) {post : Int32 → Prop} (hp : post (nI (sd_D c d p 60))) : wpX_loadOf post (f_cores, f_tasks, f_plannedCore, f_stretches, a_used, a_period, a_partCore, a_cost, a_deadline, a_endOf, a_taskIn, a_left, a_release, a_slowest) (nI k) :=
  ⟨_, x_load_lp ok V hp 26 0 rfl⟩
theorem x_dem_lp (ok : sd_ok c d p) (V : x_V k c d p a_period a_partCore a_cost a_deadline) {t : Nat} (ht : t ≤ 60) {post : Int32 → Prop} (hp : post (nI (sd_D c d p t))) (m : Nat) : ∀ i, i + m = 26 → wX_demand_5 post (nI k) (nI t) f_cores f_tasks f_plannedCore f_stretches a_used a_period a_partCore a_cost a_deadline a_endOf a_taskIn a_left a_release a_slowest (m + 1) (nI (sd_s (fun i => if a_partCore i = nI k then sd_dm (c (i / 2)) (d (i / 2)) (p (i / 2)) t else 0) i)) (nI i) := by
  induction m with
  | zero =>
    intro i hi
    have e : i = 26 := by omega
    subst e
    refine br_t (nI_le (a := 26) (b := 26) (by omega) (by omega)) ?_
    rw [x_sum V (fun j => sd_dm (c j) (d j) (p j) t) (fun j _ z => by rw [z, sd_dm_c0])]
    exact hp
  | succ m ih =>
    intro i hi
    have e := nI_clamp (n := i) (by omega)
    have e2 := x_halfc (i := i) (by omega)
    have vi : vp_in (nI i) 26 := vp_in_nI (by omega) (by omega)
    have K := ih (i + 1) (by omega)
    refine br_f (nI_ge (b := 26) (by omega) (by omega)) ⟨vi, ?_⟩
    rw [e, e2]
    have q : ∀ x, (if a_partCore i = nI k then sd_dm (c (i / 2)) (d (i / 2)) (p (i / 2)) t else 0) = x → sd_s (fun i => if a_partCore i = nI k then sd_dm (c (i / 2)) (d (i / 2)) (p (i / 2)) t else 0) (i + 1) = sd_s (fun i => if a_partCore i = nI k then sd_dm (c (i / 2)) (d (i / 2)) (p (i / 2)) t else 0) i + x := by
      intro x hx
      rw [← hx]; rfl
    by_cases h : a_partCore i = nI k
    · obtain ⟨c0, h1, h2, h3⟩ := V.1 i (by omega) h
      obtain ⟨k1, k2, k3, k4, k5⟩ := ok (i / 2) (by omega) c0
      refine br_t h ⟨vi, ?_⟩
      rw [h1, h2, h3]
      refine pk_lt t (d (i / 2)) (fun g => nm_r (nI_1 i) ?_) (fun g => ⟨vi, x_2, ?_, ?_, vi, nm_r (e' := nI (sd_s (fun i => if a_partCore i = nI k then sd_dm (c (i / 2)) (d (i / 2)) (p (i / 2)) t else 0) (i + 1))) ?_ (nm_r (nI_1 i) K)⟩)
      · rw [q 0 (by rw [if_pos h, sd_dm_lt g])] at K
        exact K
      · rw [x_half (by omega)]; exact vp_in_nI (by omega) (by omega)
      · exact nI_ne0 (by omega) (by omega)
      · rw [q _ (if_pos h), sd_dm_ge g, pk_sub g, pk_div (by omega) (by omega) (by omega), nI_1, pk_mul, nI_add]
    · refine br_f h (nm_r (nI_1 i) ?_)
      rw [q 0 (if_neg h)] at K
      exact K
theorem x_demand (ok : sd_ok c d p) (V : x_V k c d p a_period a_partCore a_cost a_deadline) {t : Nat} (ht : t ≤ 60) {post : Int32 → Prop} (hp : post (nI (sd_D c d p t))) : wpX_demand post (f_cores, f_tasks, f_plannedCore, f_stretches, a_used, a_period, a_partCore, a_cost, a_deadline, a_endOf, a_taskIn, a_left, a_release, a_slowest) (nI k) (nI t) :=
  ⟨_, x_dem_lp ok V ht hp 26 0 rfl⟩
/-- the least deadline among the parts below i -/
def x_lsI (k : Nat) (d : Nat → Nat) (a_partCore : Nat → Int32) (i m : Nat) : Prop := m ≤ 60 ∧ (∀ j, j < i → a_partCore j = nI k → m ≤ d (j / 2)) ∧ (m = 60 ∨ ∃ j, j < i ∧ a_partCore j = nI k ∧ d (j / 2) = m)
theorem x_lsE (V : x_V k c d p a_period a_partCore a_cost a_deadline) {m : Nat} (h : x_lsI k d a_partCore 26 m) : sd_ls c d m := by
  obtain ⟨h1, h2, h3⟩ := h
  refine ⟨h1, fun j hj z => ?_, ?_⟩
  · rcases V.2.1 j hj z with g | g
    · have := h2 (2 * j) (by omega) g
      rw [show 2 * j / 2 = j by omega] at this
      exact this
    · have := h2 (2 * j + 1) (by omega) g
      rw [show (2 * j + 1) / 2 = j by omega] at this
      exact this
  · rcases h3 with g | ⟨j, g1, g2, g3⟩
    · exact Or.inl g
    · exact Or.inr ⟨j / 2, by omega, (V.1 j g1 g2).1, g3⟩
theorem x_least_lp (ok : sd_ok c d p) (V : x_V k c d p a_period a_partCore a_cost a_deadline) {post : Int32 → Prop} (hp : ∀ l, sd_ls c d l → post (nI l)) (m : Nat) : ∀ i l, i + m = 26 → x_lsI k d a_partCore i l → wX_leastDeadline_5 post (nI k) f_cores f_tasks f_plannedCore f_stretches a_used a_period a_partCore a_cost a_deadline a_endOf a_taskIn a_left a_release a_slowest (m + 1) (nI l) (nI i) := by
  induction m with
  | zero =>
    intro i l hi I
    have e : i = 26 := by omega
    subst e
    exact br_t (nI_le (a := 26) (b := 26) (by omega) (by omega)) (hp l (x_lsE V I))
  | succ m ih =>
    intro i l hi I
    have e := nI_clamp (n := i) (by omega)
    have vi : vp_in (nI i) 26 := vp_in_nI (by omega) (by omega)
    obtain ⟨I1, I2, I3⟩ := I
    refine br_f (nI_ge (b := 26) (by omega) (by omega)) ⟨vi, ?_⟩
    rw [e]
    by_cases h : a_partCore i = nI k
    · obtain ⟨c0, h1, h2, h3⟩ := V.1 i (by omega) h
      obtain ⟨k1, k2, k3, k4, k5⟩ := ok (i / 2) (by omega) c0
      refine br_t h ⟨vi, ?_⟩
      rw [h2]
      refine pk_le l (d (i / 2)) (fun g => nm_r (nI_1 i) (ih (i + 1) l (by omega) ⟨I1, fun j hj y => ?_, ?_⟩)) (fun g => ⟨vi, nm_e (nm_r (nI_1 i) (ih (i + 1) (d (i / 2)) (by omega) ⟨by omega, fun j hj y => ?_, Or.inr ⟨i, by omega, h, rfl⟩⟩))⟩)
      · by_cases ji : j = i
        · subst ji; exact g
        · exact I2 j (by omega) y
      · rcases I3 with g1 | ⟨j, g1, g2, g3⟩
        · exact Or.inl g1
        · exact Or.inr ⟨j, by omega, g2, g3⟩
      · by_cases ji : j = i
        · subst ji; exact Nat.le_refl _
        · have := I2 j (by omega) y
          omega
    · refine br_f h (nm_r (nI_1 i) (ih (i + 1) l (by omega) ⟨I1, fun j hj y => ?_, ?_⟩))
      · by_cases ji : j = i
        · subst ji; exact absurd y h
        · exact I2 j (by omega) y
      · rcases I3 with g1 | ⟨j, g1, g2, g3⟩
        · exact Or.inl g1
        · exact Or.inr ⟨j, by omega, g2, g3⟩
theorem x_leastDeadline (ok : sd_ok c d p) (V : x_V k c d p a_period a_partCore a_cost a_deadline) {post : Int32 → Prop} (hp : ∀ l, sd_ls c d l → post (nI l)) : wpX_leastDeadline post (f_cores, f_tasks, f_plannedCore, f_stretches, a_used, a_period, a_partCore, a_cost, a_deadline, a_endOf, a_taskIn, a_left, a_release, a_slowest) (nI k) :=
  ⟨_, x_least_lp ok V hp 26 0 60 rfl ⟨by omega, fun j hj => absurd hj (Nat.not_lt_zero j), Or.inl rfl⟩⟩
def x_dbI (k : Nat) (d p : Nat → Nat) (a_partCore : Nat → Int32) (t i m : Nat) : Prop := m ≤ 60 ∧ (∀ j, j < i → a_partCore j = nI k → d (j / 2) < t → d (j / 2) + (t - 1 - d (j / 2)) / p (j / 2) * p (j / 2) ≤ m) ∧ (m = 0 ∨ ∃ j, j < i ∧ a_partCore j = nI k ∧ d (j / 2) < t ∧ d (j / 2) + (t - 1 - d (j / 2)) / p (j / 2) * p (j / 2) = m)
theorem x_dbE (V : x_V k c d p a_period a_partCore a_cost a_deadline) {t m : Nat} (h : x_dbI k d p a_partCore t 26 m) : sd_db c d p t m := by
  obtain ⟨h1, h2, h3⟩ := h
  refine ⟨fun j hj z y => ?_, ?_⟩
  · rcases V.2.1 j hj z with g | g
    · have := h2 (2 * j) (by omega) g
      rw [show 2 * j / 2 = j by omega] at this
      exact this y
    · have := h2 (2 * j + 1) (by omega) g
      rw [show (2 * j + 1) / 2 = j by omega] at this
      exact this y
  · rcases h3 with g | ⟨j, g1, g2, g3, g4⟩
    · exact Or.inl g
    · exact Or.inr ⟨j / 2, by omega, (V.1 j g1 g2).1, g3, g4⟩
theorem x_db_lp (ok : sd_ok c d p) (V : x_V k c d p a_period a_partCore a_cost a_deadline) {t : Nat} (t0 : 0 < t) (ht : t ≤ 60) {post : Int32 → Prop} (hp : ∀ l, sd_db c d p t l → post (nI l)) (m : Nat) : ∀ i l, i + m = 26 → x_dbI k d p a_partCore t i l → wX_deadlineBefore_5 post (nI k) (nI t) f_cores f_tasks f_plannedCore f_stretches a_used a_period a_partCore a_cost a_deadline a_endOf a_taskIn a_left a_release a_slowest (m + 1) (nI l) (nI i) := by
  induction m with
  | zero =>
    intro i l hi I
    have e : i = 26 := by omega
    subst e
    exact br_t (nI_le (a := 26) (b := 26) (by omega) (by omega)) (hp l (x_dbE V I))
  | succ m ih =>
    intro i l hi I
    have e := nI_clamp (n := i) (by omega)
    have e2 := x_halfc (i := i) (by omega)
    have vi : vp_in (nI i) 26 := vp_in_nI (by omega) (by omega)
    have vh : vp_in (nI i / 2) 13 := by rw [x_half (by omega)]; exact vp_in_nI (by omega) (by omega)
    obtain ⟨I1, I2, I3⟩ := I
    refine br_f (nI_ge (b := 26) (by omega) (by omega)) ⟨vi, ?_⟩
    rw [e, e2]
    have old : (l = 0 ∨ ∃ j, j < i + 1 ∧ a_partCore j = nI k ∧ d (j / 2) < t ∧ d (j / 2) + (t - 1 - d (j / 2)) / p (j / 2) * p (j / 2) = l) := by
      rcases I3 with g1 | ⟨j, g1, g2⟩
      · exact Or.inl g1
      · exact Or.inr ⟨j, by omega, g2⟩
    by_cases h : a_partCore i = nI k
    · obtain ⟨c0, h1, h2, h3⟩ := V.1 i (by omega) h
      obtain ⟨k1, k2, k3, k4, k5⟩ := ok (i / 2) (by omega) c0
      refine br_t h ⟨vi, ?_⟩
      rw [h2, h3]
      refine pk_le t (d (i / 2)) (fun g => nm_r (nI_1 i) (ih (i + 1) l (by omega) ⟨I1, fun j hj y w => ?_, old⟩)) (fun g => ⟨vi, vi, x_2, vh, nI_ne0 (by omega) (by omega), x_2, vh, nm_r (e' := nI (d (i / 2) + (t - 1 - d (i / 2)) / p (i / 2) * p (i / 2))) ?_ ?_⟩)
      · by_cases ji : j = i
        · subst ji; omega
        · exact I2 j (by omega) y w
      · rw [show (1 : Int32) = nI 1 from rfl, pk_sub (by omega), pk_sub (by omega), pk_div (by omega) (by omega) (by omega), pk_mul, nI_add]
      · have b := Nat.div_mul_le_self (t - 1 - d (i / 2)) (p (i / 2))
        refine pk_le (d (i / 2) + (t - 1 - d (i / 2)) / p (i / 2) * p (i / 2)) l (fun g2 => nm_r (nI_1 i) (ih (i + 1) l (by omega) ⟨I1, fun j hj y w => ?_, old⟩)) (fun g2 => nm_r (nI_1 i) (ih (i + 1) _ (by omega) ⟨by omega, fun j hj y w => ?_, Or.inr ⟨i, by omega, h, g, rfl⟩⟩))
        · by_cases ji : j = i
          · subst ji; exact g2
          · exact I2 j (by omega) y w
        · by_cases ji : j = i
          · subst ji; exact Nat.le_refl _
          · have := I2 j (by omega) y w
            omega
    · refine br_f h (nm_r (nI_1 i) (ih (i + 1) l (by omega) ⟨I1, fun j hj y w => ?_, old⟩))
      by_cases ji : j = i
      · subst ji; exact absurd y h
      · exact I2 j (by omega) y w
theorem x_deadlineBefore (ok : sd_ok c d p) (V : x_V k c d p a_period a_partCore a_cost a_deadline) {t : Nat} (t0 : 0 < t) (ht : t ≤ 60) {post : Int32 → Prop} (hp : ∀ l, sd_db c d p t l → post (nI l)) : wpX_deadlineBefore post (f_cores, f_tasks, f_plannedCore, f_stretches, a_used, a_period, a_partCore, a_cost, a_deadline, a_endOf, a_taskIn, a_left, a_release, a_slowest) (nI k) (nI t) :=
  ⟨_, x_db_lp ok V t0 ht hp 26 0 0 rfl ⟨by omega, fun j hj => absurd hj (Nat.not_lt_zero j), Or.inl rfl⟩⟩
end
end
section
/-! passes, setPart, passesWith -/
section
variable {k : Nat} {c d p : Nat → Nat}
variable {f_cores f_tasks f_plannedCore f_stretches : Int32} {a_used a_period a_partCore a_cost a_deadline a_endOf a_taskIn a_left a_release a_slowest : Nat → Int32}
theorem x_92 {post : Int32 → Prop} {l t n : Nat} (hl : l ≤ 60) (ht : t ≤ 60) (hn : n ≤ 24180) (h0 : t < n → post 0) (h0' : n ≤ t → l < n → post 0) (h1 : n ≤ t → n ≤ l → post 1) : wX_passes_92 post (nI l) (nI t) (nI n) f_cores f_tasks f_plannedCore f_stretches a_used a_period a_partCore a_cost a_deadline a_endOf a_taskIn a_left a_release a_slowest := by
  unfold wX_passes_92
  exact pk_lt t n h0 (fun g => pk_lt l n (h0' g) (h1 g))
theorem x_pass_lp (ok : sd_ok c d p) (V : x_V k c d p a_period a_partCore a_cost a_deadline) {l : Nat} (L : sd_ls c d l) {post : Int32 → Prop} (h1 : sd_Sc c d p → post 1) (h0 : ¬ sd_Sc c d p → post 0) (m : Nat) : ∀ t r, t < m → l ≤ t → t ≤ 60 → sd_q c d p t → r + t ≤ 60 → wX_passes_36 post (nI k) (nI l) f_cores f_tasks f_plannedCore f_stretches a_used a_period a_partCore a_cost a_deadline a_endOf a_taskIn a_left a_release a_slowest m (nI t) (nI (sd_D c d p t)) (nI r) := by
  induction m with
  | zero => intro t r h; omega
  | succ m ih =>
    intro t r hm hl ht q hr
    have bd := sd_D_bd ok ht
    have l60 := L.1
    have f0 : t < sd_D c d p t → post 0 := fun g => h0 fun S => by have := S t ht; omega
    refine pk_le 62 r (fun g => by omega) (fun _ => pk_lt t (sd_D c d p t) (fun g => x_92 l60 ht bd f0 (fun _ => by omega) (fun _ => by omega)) (fun g1 => pk_le (sd_D c d p t) l (fun g2 => x_92 l60 ht bd f0 (fun _ => by omega) (fun _ _ => h1 (sd_qe q g1 L g2 hl))) (fun g2 => pk_le t (sd_D c d p t) (fun g3 => ?_) (fun g3 => ?_))))
    · refine x_deadlineBefore ok V (by omega) ht (fun b B => ?_)
      have b1 := sd_db_lt B (by omega)
      have b2 := sd_db_ge B L (by omega) ht
      unfold wX_passes_75
      exact x_demand ok V (by omega) (nm_r (nI_1 r) (ih b (r + 1) (by omega) b2 (by omega) (sd_q2 ok q g1 B) (by omega)))
    · unfold wX_passes_75
      exact x_demand ok V (by omega) (nm_r (nI_1 r) (ih (sd_D c d p t) (r + 1) (by omega) (by omega) (by omega) (sd_q1 q g3) (by omega)))
theorem x_passes (ok : sd_ok c d p) (V : x_V k c d p a_period a_partCore a_cost a_deadline) {post : Int32 → Prop} (h1 : sd_Sc c d p → post 1) (h0 : ¬ sd_Sc c d p → post 0) : wpX_passes post (f_cores, f_tasks, f_plannedCore, f_stretches, a_used, a_period, a_partCore, a_cost, a_deadline, a_endOf, a_taskIn, a_left, a_release, a_slowest) (nI k) := by
  unfold wpX_passes
  have bd := sd_D_bd ok (Nat.le_refl 60)
  refine x_loadOf ok V (pk_le (sd_D c d p 60) 60 (fun g => ?_) (fun g => h0 fun S => by have := S 60 (Nat.le_refl 60); omega))
  exact x_leastDeadline ok V (fun l L => x_demand ok V (Nat.le_refl 60) ⟨61, x_pass_lp ok V L h1 h0 61 60 0 (by omega) L.1 (by omega) (sd_q0 c d p) (by omega)⟩)
theorem x_setPart {post : SX → Prop} {i : Nat} {x y z : Int32} (hi : i < 26) (h : post (f_cores, f_tasks, f_plannedCore, f_stretches, a_used, a_period, upd a_partCore i x, upd a_cost i y, upd a_deadline i z, a_endOf, a_taskIn, a_left, a_release, a_slowest)) : wpX_setPart post (f_cores, f_tasks, f_plannedCore, f_stretches, a_used, a_period, a_partCore, a_cost, a_deadline, a_endOf, a_taskIn, a_left, a_release, a_slowest) (nI i) x y z := by
  have vi : vp_in (nI i) 26 := vp_in_nI hi (by omega)
  have e := nI_clamp (n := i) (by omega)
  unfold wpX_setPart
  rw [e]
  exact ⟨vi, nm_e ⟨vi, nm_e ⟨vi, nm_e h⟩⟩⟩
def g_r (S : Prop) (r : Int32) : Prop := (r = 1 ∧ S) ∨ (r = 0 ∧ ¬ S)
theorem x_passesWith (ok : sd_ok c d p) {i cc dd : Nat} (hi : i < 26) (V : x_V k c d p a_period (upd a_partCore i (nI k)) (upd a_cost i (nI cc)) (upd a_deadline i (nI dd))) (ha : a_partCore i = -1) {post : Int32 → SX → Prop} (hp : ∀ r, g_r (sd_Sc c d p) r → post r (f_cores, f_tasks, f_plannedCore, f_stretches, a_used, a_period, a_partCore, upd a_cost i (nI cc), upd a_deadline i (nI dd), a_endOf, a_taskIn, a_left, a_release, a_slowest)) : wpX_passesWith post (f_cores, f_tasks, f_plannedCore, f_stretches, a_used, a_period, a_partCore, a_cost, a_deadline, a_endOf, a_taskIn, a_left, a_release, a_slowest) (nI k) (nI i) (nI cc) (nI dd) := by
  have vi : vp_in (nI i) 26 := vp_in_nI hi (by omega)
  have e := nI_clamp (n := i) (by omega)
  have u : upd (upd a_partCore i (nI k)) i (-1) = a_partCore := by
    funext j
    by_cases h : j = i
    · subst h; rw [pk_us, ha]
    · rw [pk_un h, pk_un h]
  unfold wpX_passesWith
  refine x_setPart hi ?_
  refine x_passes ok V (fun S => ⟨vi, ?_⟩) (fun S => ⟨vi, ?_⟩)
  · rw [e, u]
    exact nm_e ⟨narrow_b1, hp 1 (Or.inl ⟨rfl, S⟩)⟩
  · rw [e, u]
    exact nm_e ⟨narrow_b0, hp 0 (Or.inr ⟨rfl, S⟩)⟩
end
end
section
/-! the reference's run of one core is the schedule by unit slots -/
def y_V (c d p : Nat → Nat) (a_c a_d a_p : Nat → Int32) : Prop := ∀ i, i < 13 → a_c i = nI (c i) ∧ (0 < c i → a_d i = nI (d i) ∧ a_p i = nI (p i))
def y_J (c d p : Nat → Nat) (t : Nat) (q : Nat → Prop) (a_left a_due : Nat → Int32) : Prop := ∀ j, j < 13 → (q j → a_left j = nI (sd_L c d p t j) ∧ (0 < sd_L c d p t j → a_due j = nI (sd_R c d p t j + d j))) ∧ (¬ q j → a_left j = 0)
def e5 (o : Option Nat) : Int32 := match o with
  | none => -5
  | some b => nI b
def e1 (o : Option Nat) : Int32 := match o with
  | none => -1
  | some b => nI b
theorem sd_Z_le (c d p : Nat → Nat) (t j : Nat) : sd_Z c d p t j ≤ t := by
  induction t with
  | zero => exact Nat.le_refl 0
  | succ t ih =>
    cases e : sd_O c d p t with
    | none => rw [sd_nZ e]; omega
    | some b =>
      by_cases h1 : sd_L c d p t b ≤ 1
      · rw [sd_cZ e h1]
        by_cases g : j = b
        · subst g
          rw [sd_us]
          split <;> omega
        · rw [sd_un g]; omega
      · rw [sd_gZ e h1]; omega
section
variable {c d p : Nat → Nat}
variable {f_cores : Int32} {a_periods a_costs a_deadlines a_firsts a_coreOf a_secondOf a_c a_d a_p a_left a_due a_ran a_responses : Nat → Int32}
theorem y_bd (ok : sd_ok c d p) (t : Nat) {j : Nat} (hj : j < 13) : sd_L c d p t j ≤ 60 ∧ (0 < sd_L c d p t j → 0 < c j ∧ sd_R c d p t j < 60 ∧ 0 < d j ∧ d j ≤ p j ∧ p j ≤ 60) := by
  have I := sd_inv ok t j hj
  by_cases z : 0 < c j
  · obtain ⟨a1, a2, a3, a4, a5, a6, a7⟩ := I.2 z
    obtain ⟨k1, k2, k3, k4, k5⟩ := ok j hj z
    refine ⟨by omega, fun h => ⟨z, ?_, by omega, k2, k4⟩⟩
    by_cases g : sd_R c d p t j = 60
    · have := a5 g; omega
    · omega
  · have := I.1 (by omega)
    exact ⟨by omega, fun h => by omega⟩
theorem y_rel_lp (ok : sd_ok c d p) (V : y_V c d p a_c a_d a_p) {t : Nat} (ht : t < 60) {post : Int32 → SY → Prop}
    (h1 : ∀ a_left a_due, y_J c d p t (fun j => sd_R c d p t j ≤ t) a_left a_due → post 1 (f_cores, a_periods, a_costs, a_deadlines, a_firsts, a_coreOf, a_secondOf, a_c, a_d, a_p, a_left, a_due, a_ran, a_responses))
    (h0 : ∀ a_left a_due, sd_ms c d p t → post 0 (f_cores, a_periods, a_costs, a_deadlines, a_firsts, a_coreOf, a_secondOf, a_c, a_d, a_p, a_left, a_due, a_ran, a_responses)) (m : Nat) : ∀ i a_left a_due, i + m = 13 → y_J c d p t (fun j => sd_R c d p t j < t ∨ (j < i ∧ sd_R c d p t j ≤ t)) a_left a_due → wY_release_2 post (nI t) f_cores (m + 1) (nI i) a_periods a_costs a_deadlines a_firsts a_coreOf a_secondOf a_c a_d a_p a_left a_due a_ran a_responses := by
  induction m with
  | zero =>
    intro i a_left a_due hi J
    have e : i = 13 := by omega
    subst e
    refine br_t (nI_le (a := 13) (b := 13) (by omega) (by omega)) (h1 a_left a_due fun j hj => ?_)
    obtain ⟨j1, j2⟩ := J j hj
    exact ⟨fun g => j1 (Or.inr ⟨hj, g⟩), fun g => j2 (by omega)⟩
  | succ m ih =>
    intro i a_left a_due hi J
    have e := nI_clamp (n := i) (by omega)
    have vi : vp_in (nI i) 13 := vp_in_nI (by omega) (by omega)
    obtain ⟨v1, v2⟩ := V i (by omega)
    have I := sd_inv ok t i (by omega)
    obtain ⟨j1, j2⟩ := J i (by omega)
    have bd := y_bd ok t (show i < 13 by omega)
    have same : (sd_R c d p t i ≠ t ∨ sd_L c d p t i = 0) → y_J c d p t (fun j => sd_R c d p t j < t ∨ (j < i + 1 ∧ sd_R c d p t j ≤ t)) a_left a_due := by
      intro ne j hj
      by_cases ji : j = i
      · subst ji
        by_cases z : sd_L c d p t j = 0
        · have w : a_left j = 0 := by
            by_cases q : sd_R c d p t j < t
            · rw [(j1 (Or.inl q)).1, z]; exact nI_0
            · exact j2 (by omega)
          exact ⟨fun _ => ⟨by rw [w, z]; exact nI_0.symm, fun y => by omega⟩, fun _ => w⟩
        · exact ⟨fun g => j1 (by omega), fun g => j2 (by omega)⟩
      · obtain ⟨x1, x2⟩ := J j hj
        exact ⟨fun g => x1 (by omega), fun g => x2 (by omega)⟩
    refine br_f (nI_ge (b := 13) (by omega) (by omega)) ⟨vi, ?_⟩
    rw [e]
    by_cases z : c i = 0
    · rw [v1, z]
      exact br_t (by decide) (nm_r (nI_1 i) (ih (i + 1) a_left a_due (by omega) (same (Or.inr (I.1 z)))))
    · have cp : 0 < c i := by omega
      obtain ⟨w1, w2⟩ := v2 cp
      obtain ⟨k1, k2, k3, k4, k5⟩ := ok i (by omega) cp
      obtain ⟨a1, a2, a3, a4, a5, a6, a7⟩ := I.2 cp
      rw [v1, w1, w2]
      refine br_f (nI_nle cp (by omega)) ⟨vi, br_f (nI_nle (by omega) (by omega)) ⟨vi, nI_ne0 (by omega) (by omega), ?_⟩⟩
      rw [pk_rem (by omega) (by omega) (by omega)]
      have ml := Nat.mod_lt t (show p i > 0 by omega)
      refine pk_eq (t % p i) 0 (fun g => ⟨vi, ?_⟩) (fun g => nm_r (nI_1 i) (ih (i + 1) a_left a_due (by omega) (same (Or.inl fun r => g ?_))))
      · have dt := Nat.dvd_of_mod_eq_zero g
        by_cases q : sd_R c d p t i < t
        · have l0 : 0 < sd_L c d p t i := a4 (by omega)
          rw [(j1 (Or.inl q)).1]
          have := sd_dv a1 dt q
          exact br_f (nI_nle l0 (by omega)) (h0 a_left a_due ⟨i, by omega, l0, by omega⟩)
        · have r : sd_R c d p t i = t := by
            by_cases y : t < sd_R c d p t i
            · have := sd_dv dt a1 y
              omega
            · omega
          rw [j2 (by omega)]
          refine br_t (by decide) ⟨vi, vi, nm_e ⟨vi, vi, nm_e (nm_r (nI_1 i) (ih (i + 1) _ _ (by omega) fun j hj => ?_))⟩⟩
          by_cases ji : j = i
          · subst ji
            rw [pk_us, pk_us]
            refine ⟨fun _ => ⟨by rw [a6 (by omega) (by omega)], fun _ => by rw [nI_add, r]⟩, fun y => absurd (Or.inr ⟨by omega, by omega⟩) y⟩
          · rw [pk_un ji, pk_un ji]
            obtain ⟨x1, x2⟩ := J j hj
            exact ⟨fun g => x1 (by omega), fun g => x2 (by omega)⟩
      · rw [← r]
        exact Nat.mod_eq_zero_of_dvd a1
theorem y_release (ok : sd_ok c d p) (V : y_V c d p a_c a_d a_p) {t : Nat} (ht : t < 60) {post : Int32 → SY → Prop}
    (h1 : ∀ a_left a_due, y_J c d p t (fun j => sd_R c d p t j ≤ t) a_left a_due → post 1 (f_cores, a_periods, a_costs, a_deadlines, a_firsts, a_coreOf, a_secondOf, a_c, a_d, a_p, a_left, a_due, a_ran, a_responses))
    (h0 : ∀ a_left a_due, sd_ms c d p t → post 0 (f_cores, a_periods, a_costs, a_deadlines, a_firsts, a_coreOf, a_secondOf, a_c, a_d, a_p, a_left, a_due, a_ran, a_responses)) (J : y_J c d p t (fun j => sd_R c d p t j < t) a_left a_due) : wpY_release post (f_cores, a_periods, a_costs, a_deadlines, a_firsts, a_coreOf, a_secondOf, a_c, a_d, a_p, a_left, a_due, a_ran, a_responses) (nI t) :=
  ⟨14, y_rel_lp ok V ht h1 h0 13 0 a_left a_due rfl fun j hj => ⟨fun g => (J j hj).1 (by omega), fun g => (J j hj).2 (by omega)⟩⟩
end
end
section
/-! the run of sixty slots -/
section
variable {c d p : Nat → Nat}
variable {f_cores : Int32} {a_periods a_costs a_deadlines a_firsts a_coreOf a_secondOf a_c a_d a_p a_left a_due a_ran a_responses : Nat → Int32}
/-- what holds ahead of slot t -/
def y_K (c d p : Nat → Nat) (t : Nat) (a_left a_due a_ran a_responses : Nat → Int32) : Prop :=
  y_J c d p t (fun j => sd_R c d p t j < t) a_left a_due ∧ (∀ s, s < t → a_ran s = e5 (sd_O c d p s)) ∧ (∀ j, j < 13 → a_responses j = nI (sd_Z c d p t j)) ∧ (∀ s, s < t → ¬ sd_ms c d p s)
theorem y_end (ok : sd_ok c d p) {post : Int32 → SY → Prop} (J : y_J c d p 60 (fun j => sd_R c d p 60 j < 60) a_left a_due) (h1 : ¬ sd_ms c d p 60 → post 1 (f_cores, a_periods, a_costs, a_deadlines, a_firsts, a_coreOf, a_secondOf, a_c, a_d, a_p, a_left, a_due, a_ran, a_responses)) (h0 : sd_ms c d p 60 → post 0 (f_cores, a_periods, a_costs, a_deadlines, a_firsts, a_coreOf, a_secondOf, a_c, a_d, a_p, a_left, a_due, a_ran, a_responses)) (m : Nat) : ∀ i, i + m = 13 → (∀ j, j < i → sd_L c d p 60 j = 0) → wY_runs_199 post f_cores a_periods a_costs a_deadlines a_firsts a_coreOf a_secondOf a_c a_d a_p a_left a_due a_ran a_responses (m + 1) (nI i) := by
  induction m with
  | zero =>
    intro i hi I
    have e : i = 13 := by omega
    subst e
    refine br_t (nI_le (a := 13) (b := 13) (by omega) (by omega)) (h1 ?_)
    rintro ⟨j, hj, g, -⟩
    have := I j hj
    omega
  | succ m ih =>
    intro i hi I
    have e := nI_clamp (n := i) (by omega)
    have vi : vp_in (nI i) 13 := vp_in_nI (by omega) (by omega)
    obtain ⟨j1, j2⟩ := J i (by omega)
    obtain ⟨b1, b2⟩ := y_bd ok 60 (show i < 13 by omega)
    refine br_f (nI_ge (b := 13) (by omega) (by omega)) ⟨vi, ?_⟩
    rw [e]
    by_cases z : sd_L c d p 60 i = 0
    · have w : a_left i = 0 := by
        by_cases q : sd_R c d p 60 i < 60
        · rw [(j1 q).1, z]; exact nI_0
        · exact j2 q
      rw [w]
      refine br_t (by decide) (nm_r (nI_1 i) (ih (i + 1) (by omega) fun j hj => ?_))
      by_cases ji : j = i
      · subst ji; exact z
      · exact I j (by omega)
    · obtain ⟨x1, x2, x3, x4, x5⟩ := b2 (by omega)
      have a1 := ((sd_inv ok 60 i (by omega)).2 x1).1
      obtain ⟨k1, k2, k3, k4, k5⟩ := ok i (by omega) x1
      have := sd_dv a1 k5 x2
      rw [(j1 x2).1]
      exact br_f (nI_nle (by omega) (by omega)) (h0 ⟨i, by omega, by omega, by omega⟩)
theorem y_128n {post : Int32 → SY → Prop} {J30 : Int32 → Int32 → (Nat → Int32) → (Nat → Int32) → (Nat → Int32) → (Nat → Int32) → (Nat → Int32) → (Nat → Int32) → (Nat → Int32) → (Nat → Int32) → (Nat → Int32) → (Nat → Int32) → (Nat → Int32) → (Nat → Int32) → (Nat → Int32) → Prop} {t : Nat} (ht : t < 60) (h : J30 (nI (t + 1)) f_cores a_periods a_costs a_deadlines a_firsts a_coreOf a_secondOf a_c a_d a_p a_left a_due (upd a_ran t (-5)) a_responses) : wY_runs_128 post J30 (nI t) (-1) (-5) (nI t) f_cores a_periods a_costs a_deadlines a_firsts a_coreOf a_secondOf a_c a_d a_p a_left a_due a_ran a_responses := by
  unfold wY_runs_128
  rw [nI_clamp (n := t) (by omega)]
  exact ⟨vp_in_nI ht (by omega), nm_e (br_t (by decide) (nm_r (nI_1 t) h))⟩
theorem y_128s {post : Int32 → SY → Prop} {J30 : Int32 → Int32 → (Nat → Int32) → (Nat → Int32) → (Nat → Int32) → (Nat → Int32) → (Nat → Int32) → (Nat → Int32) → (Nat → Int32) → (Nat → Int32) → (Nat → Int32) → (Nat → Int32) → (Nat → Int32) → (Nat → Int32) → (Nat → Int32) → Prop} {t b l r dd z : Nat} (ht : t < 60) (hb : b < 13) (hl : a_left b = nI l) (l0 : 0 < l) (l60 : l ≤ 60) (hd : a_due b = nI (r + dd)) (hd' : a_d b = nI dd) (r60 : r ≤ t) (hz : a_responses b = nI z) (z60 : z ≤ 60)
    (h : ∀ a_responses', (∀ j, j ≠ b → a_responses' j = a_responses j) → a_responses' b = nI (if l ≤ 1 then (if z < t + 1 - r then t + 1 - r else z) else z) → J30 (nI (t + 1)) f_cores a_periods a_costs a_deadlines a_firsts a_coreOf a_secondOf a_c a_d a_p (upd a_left b (nI (l - 1))) a_due (upd a_ran t (nI b)) a_responses') : wY_runs_128 post J30 (nI t) (nI b) (nI b) (nI t) f_cores a_periods a_costs a_deadlines a_firsts a_coreOf a_secondOf a_c a_d a_p a_left a_due a_ran a_responses := by
  have vb : vp_in (nI b) 13 := vp_in_nI hb (by omega)
  have q : upd a_left b (a_left b - 1) = upd a_left b (nI (l - 1)) := by rw [hl, show (1 : Int32) = nI 1 from rfl, pk_sub l0]
  unfold wY_runs_128
  rw [nI_clamp (n := t) (by omega), nI_clamp (n := b) (by omega), q, hd, hd']
  refine ⟨vp_in_nI ht (by omega), nm_e (br_f (nI_pos (by omega)) ⟨vb, vb, nm_e ⟨vb, vb, nm_r (e' := nI (t + 1 - r)) ?_ ⟨vb, ?_⟩⟩⟩)⟩
  · rw [pk_sub (Nat.le_add_left _ _), nI_1, Nat.add_sub_cancel, pk_sub (by omega)]
  · rw [pk_us, hz]
    refine pk_eq (l - 1) 0 (fun g => ⟨vb, pk_le (t + 1 - r) z (fun g2 => nm_r (nI_1 t) (h _ (fun _ _ => rfl) ?_)) (fun g2 => ⟨vb, nm_e (nm_r (nI_1 t) (h _ (fun j hj => pk_un hj) ?_))⟩)⟩) (fun g => nm_r (nI_1 t) (h _ (fun _ _ => rfl) ?_))
    · rw [if_pos (by omega), if_neg (by omega)]; exact hz
    · rw [if_pos (by omega), if_pos (by omega)]; exact pk_us
    · rw [if_neg (by omega)]; exact hz
/-- one slot: the most urgent is found and runs -/
theorem y_best (ok : sd_ok c d p) (V : y_V c d p a_c a_d a_p) {t : Nat} (ht : t < 60) {post : Int32 → SY → Prop} {J30 : Int32 → Int32 → (Nat → Int32) → (Nat → Int32) → (Nat → Int32) → (Nat → Int32) → (Nat → Int32) → (Nat → Int32) → (Nat → Int32) → (Nat → Int32) → (Nat → Int32) → (Nat → Int32) → (Nat → Int32) → (Nat → Int32) → (Nat → Int32) → Prop}
    (J : y_J c d p t (fun j => sd_R c d p t j ≤ t) a_left a_due) (hr : ∀ s, s < t → a_ran s = e5 (sd_O c d p s)) (hz : ∀ j, j < 13 → a_responses j = nI (sd_Z c d p t j)) (hm : ∀ s, s < t → ¬ sd_ms c d p s)
    (h0 : sd_ms c d p t → post 0 (f_cores, a_periods, a_costs, a_deadlines, a_firsts, a_coreOf, a_secondOf, a_c, a_d, a_p, a_left, a_due, a_ran, a_responses)) (h1 : ∀ a_left a_due a_ran a_responses, y_K c d p (t + 1) a_left a_due a_ran a_responses → J30 (nI (t + 1)) f_cores a_periods a_costs a_deadlines a_firsts a_coreOf a_secondOf a_c a_d a_p a_left a_due a_ran a_responses) (m : Nat) : ∀ i o, i + m = 13 → sd_B (sd_pd t (sd_L c d p t) (sd_R c d p t)) (sd_du d (sd_R c d p t)) i o → (∀ j, j < i → 0 < sd_L c d p t j → sd_R c d p t j ≤ t → t < sd_R c d p t j + d j) → wY_runs_50 post J30 (nI t) f_cores a_periods a_costs a_deadlines a_firsts a_coreOf a_secondOf a_c a_d a_p a_left a_due a_ran a_responses (m + 1) (e1 o) (nI i) := by
  induction m with
  | zero =>
    intro i o hi B D
    have e : i = 13 := by omega
    subst e
    have eo : sd_O c d p t = o := sd_pick_u B
    have nm : ¬ sd_ms c d p t := by
      rintro ⟨j, hj, g1, g2⟩
      have := D j hj g1 (by omega)
      omega
    have ms : ∀ s, s < t + 1 → ¬ sd_ms c d p s := by
      intro s hs
      by_cases q : s = t
      · subst q; exact nm
      · exact hm s (by omega)
    have rn : ∀ s, s < t + 1 → upd a_ran t (e5 o) s = e5 (sd_O c d p s) := by
      intro s hs
      by_cases q : s = t
      · subst q; rw [pk_us, eo]
      · rw [pk_un q]; exact hr s (by omega)
    refine br_t (nI_le (a := 13) (b := 13) (by omega) (by omega)) ?_
    cases o with
    | none =>
      refine br_f (show ¬ (0 : Int32) ≤ -1 by decide) (y_128n ht (h1 _ _ _ _ ⟨fun j hj => ?_, rn, fun j hj => ?_, ms⟩))
      · rw [sd_nL eo, sd_nR eo]
        dsimp only
        obtain ⟨j1, j2⟩ := J j hj
        exact ⟨fun g => j1 (by omega), fun g => j2 (by omega)⟩
      · rw [sd_nZ eo]; exact hz j hj
    | some b =>
      obtain ⟨hb, cb, lb, rb, r60, -⟩ := sd_run ok eo
      obtain ⟨k1, k2, k3, k4, k5⟩ := ok b hb cb
      obtain ⟨j1, j2⟩ := (J b hb).1 rb
      have db := D b hb lb rb
      have bd := (y_bd ok t hb).1
      have zb := sd_Z_le c d p t b
      refine br_t (nI_pos' (n := b) (by omega)) (y_128s ht hb j1 lb bd (j2 lb) ((V b hb).2 cb).1 rb (hz b hb) (by omega) fun a_responses' q1 q2 => h1 _ _ _ _ ⟨fun j hj => ?_, rn, fun j hj => ?_, ms⟩)
      · by_cases h : sd_L c d p t b ≤ 1
        · rw [sd_cL eo h, sd_cR eo h]
          dsimp only
          by_cases jb : j = b
          · subst jb
            rw [sd_us, sd_us, pk_us]
            exact ⟨fun g => by omega, fun _ => by rw [show sd_L c d p t j - 1 = 0 by omega]; exact nI_0⟩
          · rw [sd_un jb, sd_un jb, pk_un jb]
            obtain ⟨x1, x2⟩ := J j hj
            exact ⟨fun g => x1 (by omega), fun g => x2 (by omega)⟩
        · rw [sd_gL eo h, sd_gR eo h]
          dsimp only
          by_cases jb : j = b
          · subst jb
            rw [sd_us, pk_us]
            exact ⟨fun g => ⟨rfl, fun _ => j2 lb⟩, fun g => by omega⟩
          · rw [sd_un jb, pk_un jb]
            obtain ⟨x1, x2⟩ := J j hj
            exact ⟨fun g => x1 (by omega), fun g => x2 (by omega)⟩
      · by_cases jb : j = b
        · subst jb
          rw [q2]
          by_cases h : sd_L c d p t j ≤ 1
          · rw [sd_cZ eo h, sd_us, if_pos h]
          · rw [sd_gZ eo h, if_neg h]
        · rw [q1 j jb, hz j hj]
          by_cases h : sd_L c d p t b ≤ 1
          · rw [sd_cZ eo h, sd_un jb]
          · rw [sd_gZ eo h]
  | succ m ih =>
    intro i o hi B D
    have e := nI_clamp (n := i) (by omega)
    have vi : vp_in (nI i) 13 := vp_in_nI (by omega) (by omega)
    obtain ⟨j1, j2⟩ := J i (by omega)
    obtain ⟨b1, b2⟩ := y_bd ok t (show i < 13 by omega)
    refine br_f (nI_ge (b := 13) (by omega) (by omega)) ⟨vi, ?_⟩
    unfold wY_runs_77
    rw [e]
    by_cases P : sd_pd t (sd_L c d p t) (sd_R c d p t) i
    · obtain ⟨P1, P2⟩ := P
      obtain ⟨w1, w2⟩ := j1 P2
      obtain ⟨x1, x2, x3, x4, x5⟩ := b2 P1
      rw [w1, w2 P1]
      refine br_f (nI_nle P1 (by omega)) ⟨vi, pk_lt t (sd_R c d p t i + d i) (fun g => ⟨vi, br_f (nI_nle P1 (by omega)) ?_⟩) (fun g => h0 ⟨i, by omega, P1, g⟩)⟩
      have D' : ∀ j, j < i + 1 → 0 < sd_L c d p t j → sd_R c d p t j ≤ t → t < sd_R c d p t j + d j := by
        intro j hj
        by_cases ji : j = i
        · subst ji; intro _ _; exact g
        · exact D j (by omega)
      cases o with
      | none => exact br_t (show (-1 : Int32) < 0 by decide) (nm_r (nI_1 i) (ih (i + 1) (some i) (by omega) (sd_B_first B ⟨P1, P2⟩) D'))
      | some b =>
        have hb := B.1
        obtain ⟨pb1, pb2⟩ := B.2.1
        obtain ⟨y1, y2, y3, y4, y5⟩ := (y_bd ok t (show b < 13 by omega)).2 pb1
        have vb : vp_in (nI b) 13 := vp_in_nI (by omega) (by omega)
        refine br_f (nI_pos (n := b) (by omega)) ⟨vi, vb, ?_⟩
        rw [show (e1 (some b)).toNatClampNeg = b from nI_clamp (by omega), ((J b (by omega)).1 pb2).2 pb1]
        exact pk_le (sd_R c d p t b + d b) (sd_R c d p t i + d i) (fun g2 => nm_r (nI_1 i) (ih (i + 1) (some b) (by omega) (sd_B_keep B g2) D')) (fun g2 => nm_r (nI_1 i) (ih (i + 1) (some i) (by omega) (sd_B_new B ⟨P1, P2⟩ g2) D'))
    · have w : a_left i = 0 := by
        by_cases q : sd_R c d p t i ≤ t
        · rw [(j1 q).1, show sd_L c d p t i = 0 from Nat.eq_zero_of_not_pos fun y => P ⟨y, q⟩]; exact nI_0
        · exact j2 q
      rw [w]
      refine br_t (by decide) ⟨vi, br_t (by decide) (nm_r (nI_1 i) (ih (i + 1) o (by omega) (sd_B_no B P) fun j hj g1 g2 => ?_))⟩
      by_cases ji : j = i
      · subst ji; exact absurd ⟨g1, g2⟩ P
      · exact D j (by omega) g1 g2
theorem y_slots (ok : sd_ok c d p) (V : y_V c d p a_c a_d a_p) {post : Int32 → SY → Prop}
    (h1 : ∀ a_left a_due a_ran a_responses, sd_Sc c d p → (∀ s, s < 60 → a_ran s = e5 (sd_O c d p s)) → (∀ j, j < 13 → a_responses j = nI (sd_Z c d p 60 j)) → post 1 (f_cores, a_periods, a_costs, a_deadlines, a_firsts, a_coreOf, a_secondOf, a_c, a_d, a_p, a_left, a_due, a_ran, a_responses))
    (h0 : ∀ a_left a_due a_ran a_responses, ¬ sd_Sc c d p → post 0 (f_cores, a_periods, a_costs, a_deadlines, a_firsts, a_coreOf, a_secondOf, a_c, a_d, a_p, a_left, a_due, a_ran, a_responses)) (m : Nat) : ∀ t a_left a_due a_ran a_responses, t + m = 60 → y_K c d p t a_left a_due a_ran a_responses → wY_runs_30 post (m + 1) (nI t) f_cores a_periods a_costs a_deadlines a_firsts a_coreOf a_secondOf a_c a_d a_p a_left a_due a_ran a_responses := by
  induction m with
  | zero =>
    intro t a_left a_due a_ran a_responses hi K
    have e : t = 60 := by omega
    subst e
    obtain ⟨K1, K2, K3, K4⟩ := K
    refine br_t (nI_le (a := 60) (b := 60) (by omega) (by omega)) ⟨14, y_end ok K1 (fun g => h1 _ _ _ _ (sd_edf2 ok fun t ht => ?_) K2 K3) (fun g => h0 _ _ _ _ fun S => sd_nomiss ok S (Nat.le_refl 60) g) 13 0 rfl fun j hj => absurd hj (Nat.not_lt_zero j)⟩
    by_cases q : t = 60
    · subst q; exact g
    · exact K4 t (by omega)
  | succ m ih =>
    intro t a_left a_due a_ran a_responses hi K
    obtain ⟨K1, K2, K3, K4⟩ := K
    have z0 : ∀ a_left a_due a_ran a_responses, sd_ms c d p t → post 0 (f_cores, a_periods, a_costs, a_deadlines, a_firsts, a_coreOf, a_secondOf, a_c, a_d, a_p, a_left, a_due, a_ran, a_responses) := fun _ _ _ _ g => h0 _ _ _ _ fun S => sd_nomiss ok S (by omega) g
    refine br_f (nI_ge (b := 60) (by omega) (by omega)) (y_release ok V (by omega) (fun a_left a_due J => ?_) (fun a_left a_due g => br_t rfl (z0 _ _ _ _ g)) K1)
    exact br_f (by decide) ⟨14, y_best ok V (by omega) J K2 K3 K4 (z0 _ _ _ _) (fun a_left a_due a_ran a_responses K => ih (t + 1) _ _ _ _ (by omega) K) 13 0 none rfl sd_B_0 fun j hj => absurd hj (Nat.not_lt_zero j)⟩
theorem y_clear (ok : sd_ok c d p) (V : y_V c d p a_c a_d a_p) {post : Int32 → SY → Prop}
    (h1 : ∀ a_left a_due a_ran a_responses, sd_Sc c d p → (∀ s, s < 60 → a_ran s = e5 (sd_O c d p s)) → (∀ j, j < 13 → a_responses j = nI (sd_Z c d p 60 j)) → post 1 (f_cores, a_periods, a_costs, a_deadlines, a_firsts, a_coreOf, a_secondOf, a_c, a_d, a_p, a_left, a_due, a_ran, a_responses))
    (h0 : ∀ a_left a_due a_ran a_responses, ¬ sd_Sc c d p → post 0 (f_cores, a_periods, a_costs, a_deadlines, a_firsts, a_coreOf, a_secondOf, a_c, a_d, a_p, a_left, a_due, a_ran, a_responses)) (m : Nat) : ∀ i a_left a_responses, i + m = 13 → (∀ j, j < i → a_left j = 0 ∧ a_responses j = 0) → wY_runs_2 post f_cores (m + 1) (nI i) a_periods a_costs a_deadlines a_firsts a_coreOf a_secondOf a_c a_d a_p a_left a_due a_ran a_responses := by
  induction m with
  | zero =>
    intro i a_left a_responses hi I
    have e : i = 13 := by omega
    subst e
    refine br_t (nI_le (a := 13) (b := 13) (by omega) (by omega)) ⟨61, y_slots ok V h1 h0 60 0 _ _ _ _ rfl ⟨fun j hj => ⟨fun g => absurd g (Nat.not_lt_zero _), fun _ => (I j hj).1⟩, fun s hs => absurd hs (Nat.not_lt_zero s), fun j hj => ?_, fun s hs => absurd hs (Nat.not_lt_zero s)⟩⟩
    rw [(I j hj).2]
    exact nI_0.symm
  | succ m ih =>
    intro i a_left a_responses hi I
    have e := nI_clamp (n := i) (by omega)
    have vi : vp_in (nI i) 13 := vp_in_nI (by omega) (by omega)
    refine br_f (nI_ge (b := 13) (by omega) (by omega)) ⟨vi, ?_⟩
    rw [e]
    refine nm_e ⟨vi, nm_e (nm_r (nI_1 i) (ih (i + 1) _ _ (by omega) fun j hj => ?_))⟩
    by_cases ji : j = i
    · subst ji; exact ⟨pk_us, pk_us⟩
    · rw [pk_un ji, pk_un ji]; exact I j (by omega)
theorem y_runs (ok : sd_ok c d p) (V : y_V c d p a_c a_d a_p) {post : Int32 → SY → Prop}
    (h1 : ∀ a_left a_due a_ran a_responses, sd_Sc c d p → (∀ s, s < 60 → a_ran s = e5 (sd_O c d p s)) → (∀ j, j < 13 → a_responses j = nI (sd_Z c d p 60 j)) → post 1 (f_cores, a_periods, a_costs, a_deadlines, a_firsts, a_coreOf, a_secondOf, a_c, a_d, a_p, a_left, a_due, a_ran, a_responses))
    (h0 : ∀ a_left a_due a_ran a_responses, ¬ sd_Sc c d p → post 0 (f_cores, a_periods, a_costs, a_deadlines, a_firsts, a_coreOf, a_secondOf, a_c, a_d, a_p, a_left, a_due, a_ran, a_responses)) : wpY_runs post (f_cores, a_periods, a_costs, a_deadlines, a_firsts, a_coreOf, a_secondOf, a_c, a_d, a_p, a_left, a_due, a_ran, a_responses) :=
  ⟨14, y_clear ok V h1 h0 13 0 _ _ rfl fun j hj => absurd hj (Nat.not_lt_zero j)⟩
end
end
section
/-! the tasks: period 0 and core 3 for none; the view of one core -/
def sx (s : Nat) : Int32 := if s < 3 then nI s else -1
def sy (s : Nat) : Int32 := if s < 3 then nI s else -4
theorem sx_k {s k : Nat} (hk : k < 3) : sx s = nI k ↔ s = k := by
  unfold sx
  by_cases h : s < 3
  · rw [if_pos h, nI_eq (by omega) (by omega)]
  · rw [if_neg h]
    refine ⟨fun e => ?_, fun e => by omega⟩
    have := nI_pos (n := k) (by omega)
    rw [← e] at this
    exact absurd (by decide) this
theorem sy_k {s k : Nat} (hk : k < 3) : sy s = nI k ↔ s = k := by
  unfold sy
  by_cases h : s < 3
  · rw [if_pos h, nI_eq (by omega) (by omega)]
  · rw [if_neg h]
    refine ⟨fun e => ?_, fun e => by omega⟩
    have := nI_pos (n := k) (by omega)
    rw [← e] at this
    exact absurd (by decide) this
theorem nI_m4 {n : Nat} (h : n < 2 ^ 31) : ¬ nI n = -4 := by
  intro e
  have := nI_pos h
  rw [e] at this
  exact absurd (by decide) this
theorem nI_m1' {n : Nat} (h : n < 2 ^ 31) : ¬ nI n = -1 := by
  intro e
  have := nI_pos h
  rw [e] at this
  exact absurd (by decide) this
theorem sy_4 {s : Nat} : sy s = -4 ↔ 3 ≤ s := by
  unfold sy
  by_cases h : s < 3
  · rw [if_pos h]
    exact ⟨fun e => absurd e (nI_m4 (by omega)), fun e => by omega⟩
  · rw [if_neg h]
    exact ⟨fun _ => by omega, fun _ => rfl⟩
theorem sx_3 : sx 3 = -1 := rfl
theorem sy_3 : sy 3 = -4 := rfl
theorem sx_l {s : Nat} (h : s < 3) : sx s = nI s := if_pos h
theorem sy_l {s : Nat} (h : s < 3) : sy s = nI s := if_pos h
def g_c (C F K S : Nat → Nat) (k i : Nat) : Nat := if K i = k then F i else if S i = k then C i - F i else 0
def g_d (D F K S : Nat → Nat) (k i : Nat) : Nat := if K i = k then (if S i = 3 then D i else F i) else D i - F i
def g_ok (nc : Nat) (P C D F K S : Nat → Nat) : Prop := 1 ≤ nc ∧ nc ≤ 3 ∧ ∀ i, i < 13 → (P i = 0 ∧ K i = 3 ∧ S i = 3) ∨ (i < 12 ∧ sd_pok (P i) ∧ K i < nc ∧ 0 < F i ∧ C i ≤ D i ∧ D i ≤ P i ∧ ((S i = 3 ∧ F i = C i) ∨ (S i < nc ∧ S i ≠ K i ∧ F i < C i)))
def x_R (P C D F K S : Nat → Nat) (a_used a_period a_partCore a_cost a_deadline : Nat → Int32) : Prop := ∀ i, i < 13 → a_used i = (if P i = 0 then 0 else 1) ∧ a_partCore (2 * i) = sx (K i) ∧ a_partCore (2 * i + 1) = sx (S i) ∧ (P i ≠ 0 → a_period i = nI (P i) ∧ a_cost (2 * i) = nI (F i) ∧ a_deadline (2 * i) = nI (if S i = 3 then D i else F i) ∧ (S i ≠ 3 → a_cost (2 * i + 1) = nI (C i - F i) ∧ a_deadline (2 * i + 1) = nI (D i - F i)))
def y_R (P C D F K S : Nat → Nat) (a_periods a_costs a_deadlines a_firsts a_coreOf a_secondOf : Nat → Int32) : Prop := ∀ i, i < 12 → a_periods i = nI (P i) ∧ (P i ≠ 0 → a_costs i = nI (C i) ∧ a_deadlines i = nI (D i) ∧ a_firsts i = nI (F i) ∧ a_coreOf i = nI (K i) ∧ a_secondOf i = sy (S i))
section
variable {nc k : Nat} {P C D F K S : Nat → Nat}
theorem g_view (G : g_ok nc P C D F K S) (hk : k < nc) : sd_ok (g_c C F K S k) (g_d D F K S k) P := by
  obtain ⟨g1, g2, g3⟩ := G
  intro i hi h
  unfold g_c at h ⊢
  unfold g_d
  rcases g3 i hi with ⟨a1, a2, a3⟩ | ⟨a1, ⟨p1, p2, p3⟩, a3, a4, a5, a6, a7⟩
  · rw [a2, a3, if_neg (by omega), if_neg (by omega)] at h
    omega
  · by_cases q : K i = k
    · rw [if_pos q, if_pos q]
      rcases a7 with ⟨s1, s2⟩ | ⟨s1, s2, s3⟩
      · rw [if_pos s1]; exact ⟨by omega, by omega, p1, p2, p3⟩
      · rw [if_neg (by omega)]; exact ⟨by omega, by omega, p1, p2, p3⟩
    · rw [if_neg q] at h
      rw [if_neg q, if_neg q]
      by_cases s : S i = k
      · rw [if_pos s]; exact ⟨by omega, by omega, p1, p2, p3⟩
      · rw [if_neg s] at h; omega
theorem g_free (G : g_ok nc P C D F K S) {i : Nat} (hi : i < 13) (h : P i = 0) : K i = 3 ∧ S i = 3 := by
  rcases G.2.2 i hi with ⟨a1, a2, a3⟩ | ⟨a1, ⟨p1, p2, p3⟩, a3⟩
  · exact ⟨a2, a3⟩
  · omega
theorem g_used (G : g_ok nc P C D F K S) {i : Nat} (hi : i < 13) (h : P i ≠ 0) : i < 12 ∧ sd_pok (P i) ∧ K i < nc ∧ 0 < F i ∧ C i ≤ D i ∧ D i ≤ P i ∧ ((S i = 3 ∧ F i = C i) ∨ (S i < nc ∧ S i ≠ K i ∧ F i < C i)) := by
  rcases G.2.2 i hi with ⟨a1, a2, a3⟩ | g
  · exact absurd a1 h
  · exact g
theorem g_c0 (G : g_ok nc P C D F K S) (hk : k < nc) {i : Nat} (hi : i < 13) (h : P i = 0) : g_c C F K S k i = 0 := by
  obtain ⟨a2, a3⟩ := g_free G hi h
  have := G.2.1
  unfold g_c
  rw [a2, a3, if_neg (by omega), if_neg (by omega)]
variable {f_cores f_tasks f_plannedCore f_stretches : Int32} {a_used a_period a_partCore a_cost a_deadline a_endOf a_taskIn a_left a_release a_slowest : Nat → Int32}
theorem x_Vg (G : g_ok nc P C D F K S) (R : x_R P C D F K S a_used a_period a_partCore a_cost a_deadline) (hk : k < nc) : x_V k (g_c C F K S k) (g_d D F K S k) P a_period a_partCore a_cost a_deadline := by
  have n3 := G.2.1
  refine ⟨fun i hi h => ?_, fun j hj h => ?_, fun j hj h => ?_⟩
  · obtain ⟨r1, r2, r3, r4⟩ := R (i / 2) (by omega)
    by_cases ev : i % 2 = 0
    · have ei : 2 * (i / 2) = i := by omega
      rw [ei] at r2 r4
      rw [h] at r2
      have q : K (i / 2) = k := (sx_k (by omega)).mp r2.symm
      have pn : P (i / 2) ≠ 0 := fun z => by have := (g_free G (by omega) z).1; omega
      obtain ⟨t1, t2, t3, t4⟩ := r4 pn
      obtain ⟨u1, u2, u3, u4, u5⟩ := g_used G (by omega) pn
      unfold g_c g_d
      rw [if_pos q, if_pos q]
      exact ⟨u4, t2, t3, t1⟩
    · have ei : 2 * (i / 2) + 1 = i := by omega
      rw [ei] at r3 r4
      rw [h] at r3
      have q : S (i / 2) = k := (sx_k (by omega)).mp r3.symm
      have pn : P (i / 2) ≠ 0 := fun z => by have := (g_free G (by omega) z).2; omega
      obtain ⟨t1, t2, t3, t4⟩ := r4 pn
      obtain ⟨u1, u2, u3, u4, u5, u6, u7⟩ := g_used G (by omega) pn
      obtain ⟨v1, v2⟩ := t4 (by omega)
      have kq : ¬ K (i / 2) = k := by omega
      unfold g_c g_d
      rw [if_neg kq, if_neg kq, if_pos q]
      exact ⟨by omega, v1, v2, t1⟩
  · obtain ⟨r1, r2, r3, r4⟩ := R j hj
    unfold g_c at h
    by_cases q : K j = k
    · exact Or.inl (r2.trans ((sx_k (by omega)).mpr q))
    · rw [if_neg q] at h
      by_cases s : S j = k
      · exact Or.inr (r3.trans ((sx_k (by omega)).mpr s))
      · rw [if_neg s] at h; omega
  · obtain ⟨r1, r2, r3, r4⟩ := R j hj
    have q : K j = k := (sx_k (by omega)).mp (r2.symm.trans h.1)
    have s : S j = k := (sx_k (by omega)).mp (r3.symm.trans h.2)
    have pn : P j ≠ 0 := fun z => by have := (g_free G hj z).2; omega
    obtain ⟨u1, u2, u3, u4, u5, u6, u7⟩ := g_used G hj pn
    omega
theorem x_Vu {c d p : Nat → Nat} (V : x_V k c d p a_period a_partCore a_cost a_deadline) {id i cc dd pp : Nat} (hid : id < 13) (hi : i = 2 * id ∨ i = 2 * id + 1) (h1 : a_partCore (2 * id) ≠ nI k) (h2 : a_partCore (2 * id + 1) ≠ nI k) (per : a_period id = nI pp) (c0 : 0 < cc) : x_V k (sd_u c id cc) (sd_u d id dd) (sd_u p id pp) a_period (upd a_partCore i (nI k)) (upd a_cost i (nI cc)) (upd a_deadline i (nI dd)) := by
  refine ⟨fun j hj h => ?_, fun j hj h => ?_, fun j hj h => ?_⟩
  · by_cases ji : j = i
    · subst ji
      have e : j / 2 = id := by omega
      rw [e, pk_us, pk_us, sd_us, sd_us, sd_us]
      exact ⟨c0, rfl, rfl, per⟩
    · rw [pk_un ji] at h
      have e : j / 2 ≠ id := by
        intro e
        rcases (show j = 2 * id ∨ j = 2 * id + 1 by omega) with z | z
        · rw [z] at h; exact h1 h
        · rw [z] at h; exact h2 h
      rw [pk_un ji, pk_un ji, sd_un e, sd_un e, sd_un e]
      exact V.1 j hj h
  · by_cases ji : j = id
    · subst ji
      rcases hi with z | z
      · left; rw [z, pk_us]
      · right; rw [z, pk_us]
    · rw [sd_un ji] at h
      rw [pk_un (by omega), pk_un (by omega)]
      exact V.2.1 j hj h
  · by_cases ji : j = id
    · subst ji
      rcases hi with z | z
      · rw [z, pk_us, pk_un (by omega)] at h; exact h2 h.2
      · rw [z, pk_us, pk_un (by omega)] at h; exact h1 h.1
    · rw [pk_un (by omega), pk_un (by omega)] at h
      exact V.2.2 j hj h
theorem g_oku {c d p : Nat → Nat} (ok : sd_ok c d p) {id cc dd pp : Nat} (h1 : cc ≤ dd) (h2 : dd ≤ pp) (h3 : sd_pok pp) : sd_ok (sd_u c id cc) (sd_u d id dd) (sd_u p id pp) := by
  intro i hi h
  by_cases e : i = id
  · subst e
    rw [sd_us, sd_us, sd_us]
    exact ⟨h1, h2, h3.1, h3.2.1, h3.2.2⟩
  · rw [sd_un e] at h
    rw [sd_un e, sd_un e, sd_un e]
    exact ok i hi h
/-- the core k never misses with one more part -/
def g_S (P C D F K S : Nat → Nat) (id pp k cc dd : Nat) : Prop := sd_Sc (sd_u (g_c C F K S k) id cc) (sd_u (g_d D F K S k) id dd) (sd_u P id pp)
theorem x_Rcd {i id cc dd : Nat} (R : x_R P C D F K S a_used a_period a_partCore a_cost a_deadline) (hi : i = 2 * id ∨ i = 2 * id + 1) (h0 : P id = 0) : x_R P C D F K S a_used a_period a_partCore (upd a_cost i (nI cc)) (upd a_deadline i (nI dd)) := by
  intro j hj
  obtain ⟨r1, r2, r3, r4⟩ := R j hj
  refine ⟨r1, r2, r3, fun pn => ?_⟩
  have ne : j ≠ id := fun e => pn (e ▸ h0)
  rw [pk_un (by omega), pk_un (by omega), pk_un (by omega), pk_un (by omega)]
  exact r4 pn
theorem x_Rper {id : Nat} {x : Int32} (R : x_R P C D F K S a_used a_period a_partCore a_cost a_deadline) (h0 : P id = 0) : x_R P C D F K S a_used (upd a_period id x) a_partCore a_cost a_deadline := by
  intro j hj
  obtain ⟨r1, r2, r3, r4⟩ := R j hj
  refine ⟨r1, r2, r3, fun pn => ?_⟩
  have ne : j ≠ id := fun e => pn (e ▸ h0)
  rw [pk_un ne]
  exact r4 pn
theorem x_pw (G : g_ok nc P C D F K S) (R : x_R P C D F K S a_used a_period a_partCore a_cost a_deadline) (hk : k < nc) {id i cc dd pp : Nat} (hid : id < 13) (h0 : P id = 0) (hi : i = 2 * id ∨ i = 2 * id + 1) (per : a_period id = nI pp) (c0 : 0 < cc) (h1 : cc ≤ dd) (h2 : dd ≤ pp) (h3 : sd_pok pp) {post : Int32 → SX → Prop}
    (hp : ∀ r a_cost a_deadline, x_R P C D F K S a_used a_period a_partCore a_cost a_deadline → g_r (g_S P C D F K S id pp k cc dd) r → post r (f_cores, f_tasks, f_plannedCore, f_stretches, a_used, a_period, a_partCore, a_cost, a_deadline, a_endOf, a_taskIn, a_left, a_release, a_slowest)) : wpX_passesWith post (f_cores, f_tasks, f_plannedCore, f_stretches, a_used, a_period, a_partCore, a_cost, a_deadline, a_endOf, a_taskIn, a_left, a_release, a_slowest) (nI k) (nI i) (nI cc) (nI dd) := by
  have n3 := G.2.1
  obtain ⟨fk, fs⟩ := g_free G hid h0
  obtain ⟨r1, r2, r3, r4⟩ := R id hid
  rw [fk] at r2
  rw [fs] at r3
  have q1 : a_partCore (2 * id) ≠ nI k := by
    rw [r2]; intro e; have := (sx_k (by omega)).mp e; omega
  have q2 : a_partCore (2 * id + 1) ≠ nI k := by
    rw [r3]; intro e; have := (sx_k (by omega)).mp e; omega
  refine x_passesWith (g_oku (g_view G hk) h1 h2 h3) (by omega) (x_Vu (x_Vg G R hk) hid hi q1 q2 per c0) ?_ (fun r hr => hp r _ _ (x_Rcd R hi h0) hr)
  rcases hi with z | z
  · rw [z, r2]; rfl
  · rw [z, r3]; rfl
end
end
section
/-! the reference lists the parts of a core; takes -/
section
variable {nc k : Nat} {P C D F K S : Nat → Nat}
variable {f_cores : Int32} {a_periods a_costs a_deadlines a_firsts a_coreOf a_secondOf a_c a_d a_p a_left a_due a_ran a_responses : Nat → Int32}
variable {J10 : Int32 → (Nat → Int32) → (Nat → Int32) → (Nat → Int32) → (Nat → Int32) → (Nat → Int32) → (Nat → Int32) → (Nat → Int32) → (Nat → Int32) → (Nat → Int32) → (Nat → Int32) → (Nat → Int32) → (Nat → Int32) → (Nat → Int32) → Prop}
theorem y_108n {post : SY → Prop} {i : Nat} (hi : i < 12) (h : a_periods i = 0 ∨ ¬ a_secondOf i = nI k) (J : J10 (nI (i + 1)) a_periods a_costs a_deadlines a_firsts a_coreOf a_secondOf a_c a_d a_p a_left a_due a_ran a_responses) : wY_parts_108 post J10 (nI k) (nI i) f_cores a_periods a_costs a_deadlines a_firsts a_coreOf a_secondOf a_c a_d a_p a_left a_due a_ran a_responses := by
  have v2 : vp_in (nI i) 12 := vp_in_nI hi (by omega)
  unfold wY_parts_108
  rw [nI_clamp (n := i) (by omega)]
  by_cases z : a_periods i = 0
  · exact ⟨v2, br_t z (nm_r (nI_1 i) J)⟩
  · rcases h with h | h
    · exact absurd h z
    · exact ⟨v2, br_f z ⟨v2, br_f h (nm_r (nI_1 i) J)⟩⟩
theorem y_108s {post : SY → Prop} {i : Nat} (hi : i < 12) (z : ¬ a_periods i = 0) (h : a_secondOf i = nI k) (h1 : a_costs i = nI (C i)) (h2 : a_firsts i = nI (F i)) (h3 : a_deadlines i = nI (D i)) (l1 : F i ≤ C i) (l2 : F i ≤ D i) (J : J10 (nI (i + 1)) a_periods a_costs a_deadlines a_firsts a_coreOf a_secondOf (upd a_c i (nI (C i - F i))) (upd a_d i (nI (D i - F i))) a_p a_left a_due a_ran a_responses) : wY_parts_108 post J10 (nI k) (nI i) f_cores a_periods a_costs a_deadlines a_firsts a_coreOf a_secondOf a_c a_d a_p a_left a_due a_ran a_responses := by
  have v2 : vp_in (nI i) 12 := vp_in_nI hi (by omega)
  have v3 : vp_in (nI i) 13 := vp_in_nI (by omega) (by omega)
  unfold wY_parts_108
  rw [nI_clamp (n := i) (by omega), h1, h2, h3, pk_sub l1, pk_sub l2]
  exact ⟨v2, br_f z ⟨v2, br_t h ⟨v2, v2, v3, nm_e ⟨v2, v2, v3, nm_e (nm_r (nI_1 i) J)⟩⟩⟩⟩
theorem y_51 (G : g_ok nc P C D F K S) (R : y_R P C D F K S a_periods a_costs a_deadlines a_firsts a_coreOf a_secondOf) (hk : k < nc) {post : SY → Prop} {i : Nat} {z0 : Int32} (hi : i < 12) (hz : P i ≠ 0 → (z0 = 0 ↔ S i = 3)) (c0 : a_c i = 0)
    (J : ∀ a_c' a_d' : Nat → Int32, (∀ j, j ≠ i → a_c' j = a_c j ∧ a_d' j = a_d j) → a_c' i = nI (g_c C F K S k i) → (0 < g_c C F K S k i → a_d' i = nI (g_d D F K S k i)) → J10 (nI (i + 1)) a_periods a_costs a_deadlines a_firsts a_coreOf a_secondOf a_c' a_d' a_p a_left a_due a_ran a_responses) : wY_parts_51 post J10 (nI k) (nI i) z0 f_cores a_periods a_costs a_deadlines a_firsts a_coreOf a_secondOf a_c a_d a_p a_left a_due a_ran a_responses := by
  have v2 : vp_in (nI i) 12 := vp_in_nI hi (by omega)
  have v3 : vp_in (nI i) 13 := vp_in_nI (by omega) (by omega)
  have n3 := G.2.1
  obtain ⟨r1, r2⟩ := R i hi
  unfold wY_parts_51
  rw [nI_clamp (n := i) (by omega)]
  by_cases z : P i = 0
  · have pz : a_periods i = 0 := by rw [r1, z]; exact nI_0
    have gc := g_c0 G hk (show i < 13 by omega) z
    refine ⟨v2, br_t pz (y_108n hi (Or.inl pz) (J _ _ (fun _ _ => ⟨rfl, rfl⟩) ?_ (fun h => by omega)))⟩
    rw [gc, c0]; exact nI_0.symm
  · obtain ⟨t1, t2, t3, t4, t5⟩ := r2 z
    obtain ⟨u1, ⟨p1, p2, p3⟩, u3, u4, u5, u6, u7⟩ := g_used G (show i < 13 by omega) z
    have pn : ¬ a_periods i = 0 := by rw [r1]; exact nI_ne0 (by omega) (by omega)
    refine ⟨v2, br_f pn ⟨v2, ?_⟩⟩
    by_cases q : K i = k
    · have sk : ¬ S i = k := by omega
      have sn : ¬ a_secondOf i = nI k := by rw [t5]; intro e; exact sk ((sy_k (by omega)).mp e)
      refine br_t (by rw [t4, q]) ⟨v2, v3, nm_e ?_⟩
      have gc : g_c C F K S k i = F i := if_pos q
      have gd : g_d D F K S k i = if S i = 3 then D i else F i := if_pos q
      by_cases s3 : S i = 3
      · refine br_t ((hz z).mpr s3) ⟨v2, ?_⟩
        unfold wY_parts_107
        rw [nI_clamp (n := i) (by omega)]
        refine ⟨v3, nm_e (y_108n hi (Or.inr sn) (J _ _ (fun j hj => ⟨pk_un hj, pk_un hj⟩) ?_ (fun _ => ?_)))⟩
        · rw [pk_us, gc, t3]
        · rw [pk_us, gd, if_pos s3, t2]
      · refine br_f (fun e => s3 ((hz z).mp e)) ⟨v2, ?_⟩
        unfold wY_parts_107
        rw [nI_clamp (n := i) (by omega)]
        refine ⟨v3, nm_e (y_108n hi (Or.inr sn) (J _ _ (fun j hj => ⟨pk_un hj, pk_un hj⟩) ?_ (fun _ => ?_)))⟩
        · rw [pk_us, gc, t3]
        · rw [pk_us, gd, if_neg s3, t3]
    · have kn : ¬ a_coreOf i = nI k := by rw [t4, nI_eq (by omega) (by omega)]; exact q
      refine br_f kn ?_
      have gd : g_d D F K S k i = D i - F i := if_neg q
      by_cases s : S i = k
      · have gc : g_c C F K S k i = C i - F i := by unfold g_c; rw [if_neg q, if_pos s]
        refine y_108s (C := C) (D := D) (F := F) hi pn (by rw [t5]; exact (sy_k (by omega)).mpr s) t1 t3 t2 (by omega) (by omega) (J _ _ (fun j hj => ⟨pk_un hj, pk_un hj⟩) ?_ (fun _ => ?_))
        · rw [pk_us, gc]
        · rw [pk_us, gd]
      · have gc : g_c C F K S k i = 0 := by unfold g_c; rw [if_neg q, if_neg s]
        refine y_108n hi (Or.inr (by rw [t5]; intro e; exact s ((sy_k (by omega)).mp e))) (J _ _ (fun _ _ => ⟨rfl, rfl⟩) ?_ (fun h => by omega))
        rw [gc, c0]; exact nI_0.symm
theorem y_parts_lp (G : g_ok nc P C D F K S) (R : y_R P C D F K S a_periods a_costs a_deadlines a_firsts a_coreOf a_secondOf) (hk : k < nc) {post : SY → Prop} (hp : ∀ a_c a_d a_p, y_V (g_c C F K S k) (g_d D F K S k) P a_c a_d a_p → post (f_cores, a_periods, a_costs, a_deadlines, a_firsts, a_coreOf, a_secondOf, a_c, a_d, a_p, a_left, a_due, a_ran, a_responses)) (m : Nat) : ∀ i a_c a_d a_p, i + m = 12 → (∀ j, j < i → a_c j = nI (g_c C F K S k j) ∧ (0 < g_c C F K S k j → a_d j = nI (g_d D F K S k j) ∧ a_p j = nI (P j))) → a_c 12 = 0 → wY_parts_10 post (nI k) f_cores (m + 1) (nI i) a_periods a_costs a_deadlines a_firsts a_coreOf a_secondOf a_c a_d a_p a_left a_due a_ran a_responses := by
  induction m with
  | zero =>
    intro i a_c a_d a_p hi I z
    have e : i = 12 := by omega
    subst e
    refine br_t (nI_le (a := 12) (b := 12) (by omega) (by omega)) (hp _ _ _ fun j hj => ?_)
    by_cases q : j = 12
    · subst q
      have p0 : P 12 = 0 := by
        rcases G.2.2 12 hj with g | g
        · exact g.1
        · omega
      have gc := g_c0 G hk hj p0
      exact ⟨by rw [gc, z]; exact nI_0.symm, fun h => by omega⟩
    · exact I j (by omega)
  | succ m ih =>
    intro i a_c a_d a_p hi I z
    have v2 : vp_in (nI i) 12 := vp_in_nI (by omega) (by omega)
    have v3 : vp_in (nI i) 13 := vp_in_nI (by omega) (by omega)
    obtain ⟨r1, r2⟩ := R i (by omega)
    refine br_f (nI_ge (b := 12) (by omega) (by omega)) ⟨v3, ?_⟩
    rw [nI_clamp (n := i) (by omega)]
    have N : ∀ a_c' a_d' : Nat → Int32, (∀ j, j ≠ i → a_c' j = upd a_c i 0 j ∧ a_d' j = a_d j) → a_c' i = nI (g_c C F K S k i) → (0 < g_c C F K S k i → a_d' i = nI (g_d D F K S k i)) → wY_parts_10 post (nI k) f_cores (m + 1) (nI (i + 1)) a_periods a_costs a_deadlines a_firsts a_coreOf a_secondOf a_c' a_d' (upd a_p i (a_periods i)) a_left a_due a_ran a_responses := by
      intro a_c' a_d' h1 h2 h3
      refine ih (i + 1) _ _ _ (by omega) (fun j hj => ?_) ?_
      · by_cases ji : j = i
        · subst ji
          exact ⟨h2, fun h => ⟨h3 h, by rw [pk_us, r1]⟩⟩
        · rw [(h1 j ji).1, (h1 j ji).2, pk_un ji, pk_un ji]
          exact I j (by omega)
      · rw [(h1 12 (by omega)).1, pk_un (by omega)]
        exact z
    refine nm_e ⟨v2, v3, nm_e ⟨v2, br_c (fun h => ?_) (fun h => ?_)⟩⟩
    · refine y_51 G R hk (by omega) (fun pn => ⟨fun _ => ?_, fun _ => rfl⟩) pk_us N
      have t5 := (r2 pn).2.2.2.2
      rw [h] at t5
      have := sy_4.mp t5.symm
      obtain ⟨u1, u2, u3, u4, u5, u6, u7⟩ := g_used G (show i < 13 by omega) pn
      have := G.2.1
      omega
    · refine y_51 G R hk (by omega) (fun pn => ⟨fun e => absurd e (by decide), fun e => ?_⟩) pk_us N
      have t5 := (r2 pn).2.2.2.2
      rw [e] at t5
      exact absurd t5 h
theorem y_parts (G : g_ok nc P C D F K S) (R : y_R P C D F K S a_periods a_costs a_deadlines a_firsts a_coreOf a_secondOf) (hk : k < nc) {post : SY → Prop} (hp : ∀ a_c a_d a_p, y_V (g_c C F K S k) (g_d D F K S k) P a_c a_d a_p → post (f_cores, a_periods, a_costs, a_deadlines, a_firsts, a_coreOf, a_secondOf, a_c, a_d, a_p, a_left, a_due, a_ran, a_responses)) : wpY_parts post (f_cores, a_periods, a_costs, a_deadlines, a_firsts, a_coreOf, a_secondOf, a_c, a_d, a_p, a_left, a_due, a_ran, a_responses) (nI k) :=
  nm_e ⟨13, y_parts_lp G R hk hp 12 0 _ _ _ rfl (fun j hj => absurd hj (Nat.not_lt_zero j)) pk_us⟩
theorem y_Vu {c d p : Nat → Nat} (V : y_V c d p a_c a_d a_p) (id cc dd pp : Nat) : y_V (sd_u c id cc) (sd_u d id dd) (sd_u p id pp) (upd a_c id (nI cc)) (upd a_d id (nI dd)) (upd a_p id (nI pp)) := by
  intro i hi
  by_cases e : i = id
  · subst e
    rw [pk_us, pk_us, pk_us, sd_us, sd_us, sd_us]
    exact ⟨rfl, fun _ => ⟨rfl, rfl⟩⟩
  · rw [pk_un e, pk_un e, pk_un e, sd_un e, sd_un e, sd_un e]
    exact V i hi
theorem y_takes (G : g_ok nc P C D F K S) (R : y_R P C D F K S a_periods a_costs a_deadlines a_firsts a_coreOf a_secondOf) (hk : k < nc) {id cc dd pp : Nat} (hid : id < 13) (h1 : cc ≤ dd) (h2 : dd ≤ pp) (h3 : sd_pok pp) {post : Int32 → SY → Prop}
    (hp : ∀ r a_c a_d a_p a_left a_due a_ran a_responses, g_r (g_S P C D F K S id pp k cc dd) r → post r (f_cores, a_periods, a_costs, a_deadlines, a_firsts, a_coreOf, a_secondOf, a_c, a_d, a_p, a_left, a_due, a_ran, a_responses)) : wpY_takes post (f_cores, a_periods, a_costs, a_deadlines, a_firsts, a_coreOf, a_secondOf, a_c, a_d, a_p, a_left, a_due, a_ran, a_responses) (nI k) (nI id) (nI cc) (nI dd) (nI pp) := by
  have vi : vp_in (nI id) 13 := vp_in_nI hid (by omega)
  unfold wpY_takes
  rw [nI_clamp (n := id) (by omega)]
  refine y_parts G R hk fun a_c a_d a_p V => ⟨vi, nm_e ⟨vi, nm_e ⟨vi, nm_e ?_⟩⟩⟩
  exact y_runs (g_oku (g_view G hk) h1 h2 h3) (y_Vu V id cc dd pp) (fun _ _ _ _ Sc _ _ => ⟨rfl, hp _ _ _ _ _ _ _ _ (Or.inl ⟨rfl, Sc⟩)⟩) (fun _ _ _ _ Sc => ⟨rfl, hp _ _ _ _ _ _ _ _ (Or.inr ⟨rfl, Sc⟩)⟩)
end
end
section
/-! small methods of both sides; outcomes named once -/
def g_F (Q : Nat → Prop) (n k : Nat) : Prop := k ≤ n ∧ (∀ j, j < k → ¬ Q j) ∧ (k < n → Q k)
theorem g_F_ex (Q : Nat → Prop) (n : Nat) : ∃ k, g_F Q n k := by
  induction n with
  | zero => exact ⟨0, Nat.le_refl 0, fun j hj => absurd hj (Nat.not_lt_zero j), fun h => absurd h (Nat.not_lt_zero 0)⟩
  | succ n ih =>
    obtain ⟨k, h1, h2, h3⟩ := ih
    by_cases h : k < n
    · exact ⟨k, by omega, h2, fun _ => h3 h⟩
    · have e : k = n := by omega
      subst e
      by_cases q : Q k
      · exact ⟨k, by omega, h2, fun _ => q⟩
      · refine ⟨k + 1, by omega, fun j hj => ?_, fun y => by omega⟩
        by_cases ji : j = k
        · subst ji; exact q
        · exact h2 j (by omega)
theorem g_F_un {Q : Nat → Prop} {n k k' : Nat} (h : g_F Q n k) (h' : g_F Q n k') : k = k' := by
  obtain ⟨a1, a2, a3⟩ := h
  obtain ⟨b1, b2, b3⟩ := h'
  by_cases l : k < k'
  · exact absurd (a3 (by omega)) (b2 k l)
  · by_cases m : k' < k
    · exact absurd (b3 (by omega)) (a2 k' m)
    · omega
def g_M (Q : Nat → Prop) (n k : Nat) : Prop := k ≤ n ∧ (k = 0 ∨ Q k) ∧ ∀ y, k < y → y ≤ n → ¬ Q y
theorem g_M_ex (Q : Nat → Prop) (n : Nat) : ∃ k, g_M Q n k := by
  induction n with
  | zero => exact ⟨0, Nat.le_refl 0, Or.inl rfl, fun y h1 h2 => by omega⟩
  | succ n ih =>
    by_cases q : Q (n + 1)
    · exact ⟨n + 1, Nat.le_refl _, Or.inr q, fun y h1 h2 => by omega⟩
    · obtain ⟨k, h1, h2, h3⟩ := ih
      refine ⟨k, by omega, h2, fun y y1 y2 => ?_⟩
      by_cases e : y = n + 1
      · subst e; exact q
      · exact h3 y y1 (by omega)
def g_n (P : Nat → Nat) : Nat := sd_s (fun i => if P i = 0 then 0 else 1) 12
theorem g_n_le (P : Nat → Nat) : g_n P ≤ 12 := by
  refine Nat.le_trans (sd_s_bd (M := 1) 12 fun i hi => ?_) (by omega)
  split <;> omega
theorem g_n_lt {P : Nat → Nat} {i : Nat} (hi : i < 12) (h : P i = 0) : g_n P < 12 := by
  have a := sd_s_up (f := fun _ => 1) (g := fun j => if j = i then 0 else 1) i 12 hi (fun j _ hj => if_neg hj)
  have b : g_n P ≤ sd_s (fun j => if j = i then 0 else 1) 12 := by
    refine sd_s_le 12 fun j hj => ?_
    by_cases e : j = i
    · subst e; rw [if_pos h, if_pos rfl]; exact Nat.le_refl 0
    · rw [if_neg e]; split <;> omega
  have c : sd_s (fun _ => 1) 12 = 12 := rfl
  rw [if_pos rfl] at a
  omega
theorem g_n_12 {P : Nat → Nat} (h : ∀ i, i < 12 → P i ≠ 0) : g_n P = 12 := by
  have : g_n P = sd_s (fun _ => 1) 12 := sd_s_cg 12 fun i hi => if_neg (h i hi)
  rw [this]; rfl
theorem g_n_add {P : Nat → Nat} {i pp : Nat} (hi : i < 12) (h : P i = 0) (hp : pp ≠ 0) : g_n (sd_u P i pp) = g_n P + 1 := by
  have a := sd_s_up (f := fun j => if P j = 0 then 0 else 1) (g := fun j => if sd_u P i pp j = 0 then 0 else 1) i 12 hi (fun j _ hj => by rw [sd_un hj])
  rw [if_pos h, sd_us, if_neg hp] at a
  exact a
theorem g_n_del {P : Nat → Nat} {i : Nat} (hi : i < 12) (h : P i ≠ 0) : g_n (sd_u P i 0) + 1 = g_n P := by
  have a := sd_s_up (f := fun j => if P j = 0 then 0 else 1) (g := fun j => if sd_u P i 0 j = 0 then 0 else 1) i 12 hi (fun j _ hj => by rw [sd_un hj])
  rw [if_neg h, sd_us, if_pos rfl] at a
  exact a
/-- an id that names no task -/
def g_bad (P : Nat → Nat) (x : Int32) : Prop := x < 0 ∨ nI 12 ≤ x ∨ ∃ i, i < 12 ∧ x = nI i ∧ P i = 0
theorem g_bad_c (P : Nat → Nat) (x : Int32) : g_bad P x ∨ ∃ i, i < 12 ∧ x = nI i ∧ P i ≠ 0 := by
  rcases pk_ix x (n := 12) (by omega) with h | h | ⟨i, hi, e⟩
  · exact Or.inl (Or.inl h)
  · exact Or.inl (Or.inr (Or.inl h))
  · by_cases z : P i = 0
    · exact Or.inl (Or.inr (Or.inr ⟨i, hi, e, z⟩))
    · exact Or.inr ⟨i, hi, e, z⟩
section
variable {nc : Nat} {P C D F K S : Nat → Nat}
section
variable {f_cores f_tasks f_plannedCore f_stretches : Int32} {a_used a_period a_partCore a_cost a_deadline a_endOf a_taskIn a_left a_release a_slowest : Nat → Int32}
theorem x_freeId_lp (R : x_R P C D F K S a_used a_period a_partCore a_cost a_deadline) {id : Nat} (hF : g_F (fun i => P i = 0) 12 id) {post : Int32 → Prop} (hp : post (nI id)) (m : Nat) : ∀ i, i + m = 12 → i ≤ id → wX_freeId_2 post f_cores f_tasks f_plannedCore f_stretches a_used a_period a_partCore a_cost a_deadline a_endOf a_taskIn a_left a_release a_slowest (m + 1) (nI i) := by
  obtain ⟨f1, f2, f3⟩ := hF
  induction m with
  | zero =>
    intro i hi h
    have e : i = 12 := by omega
    have e' : id = 12 := by omega
    subst e e'
    exact br_t (nI_le (a := 12) (b := 12) (by omega) (by omega)) hp
  | succ m ih =>
    intro i hi h
    have vi : vp_in (nI i) 13 := vp_in_nI (by omega) (by omega)
    refine br_f (nI_ge (b := 12) (by omega) (by omega)) ⟨vi, ?_⟩
    rw [nI_clamp (n := i) (by omega), (R i (by omega)).1]
    by_cases z : i = id
    · subst z
      rw [if_pos (f3 (by omega))]
      exact br_t rfl hp
    · rw [if_neg (f2 i (by omega))]
      exact br_f (by decide) (nm_r (nI_1 i) (ih (i + 1) (by omega) (by omega)))
theorem x_freeId (R : x_R P C D F K S a_used a_period a_partCore a_cost a_deadline) {id : Nat} (hF : g_F (fun i => P i = 0) 12 id) {post : Int32 → Prop} (hp : post (nI id)) : wpX_freeId post (f_cores, f_tasks, f_plannedCore, f_stretches, a_used, a_period, a_partCore, a_cost, a_deadline, a_endOf, a_taskIn, a_left, a_release, a_slowest) :=
  ⟨13, x_freeId_lp R hF hp 12 0 rfl (Nat.zero_le _)⟩
theorem x_noTask1 (R : x_R P C D F K S a_used a_period a_partCore a_cost a_deadline) {x : Int32} (h : g_bad P x) {post : Int32 → Prop} (hp : post 1) : wpX_noTask post (f_cores, f_tasks, f_plannedCore, f_stretches, a_used, a_period, a_partCore, a_cost, a_deadline, a_endOf, a_taskIn, a_left, a_release, a_slowest) x := by
  unfold wpX_noTask
  by_cases n : x < 0
  · exact br_t n hp
  · refine br_f n ?_
    by_cases b : (12 : Int32) ≤ x
    · exact br_t b hp
    · rcases h with h | h | ⟨i, hi, e, z⟩
      · exact absurd h n
      · exact absurd h b
      · subst e
        refine br_f b ⟨vp_in_nI (by omega) (by omega), ?_⟩
        rw [nI_clamp (n := i) (by omega), (R i (by omega)).1, if_pos z]
        exact br_t rfl hp
theorem x_noTask0 (R : x_R P C D F K S a_used a_period a_partCore a_cost a_deadline) {i : Nat} (hi : i < 12) (h : P i ≠ 0) {post : Int32 → Prop} (hp : post 0) : wpX_noTask post (f_cores, f_tasks, f_plannedCore, f_stretches, a_used, a_period, a_partCore, a_cost, a_deadline, a_endOf, a_taskIn, a_left, a_release, a_slowest) (nI i) := by
  unfold wpX_noTask
  refine br_f (nI_pos (by omega)) (br_f (nI_ge (b := 12) hi (by omega)) ⟨vp_in_nI (by omega) (by omega), ?_⟩)
  rw [nI_clamp (n := i) (by omega), (R i (by omega)).1, if_neg h]
  exact br_f (by decide) hp
theorem x_badCore1 {x : Int32} (h : x < 0 ∨ nI nc ≤ x) {post : Int32 → Prop} (hp : post 1) : wpX_badCore post (nI nc, f_tasks, f_plannedCore, f_stretches, a_used, a_period, a_partCore, a_cost, a_deadline, a_endOf, a_taskIn, a_left, a_release, a_slowest) x := by
  unfold wpX_badCore
  by_cases n : x < 0
  · exact br_t n hp
  · rcases h with h | h
    · exact absurd h n
    · exact br_f n (br_f (Int32.not_lt.mpr h) hp)
theorem x_badCore0 {k : Nat} (h : k < nc) (h3 : nc ≤ 3) {post : Int32 → Prop} (hp : post 0) : wpX_badCore post (nI nc, f_tasks, f_plannedCore, f_stretches, a_used, a_period, a_partCore, a_cost, a_deadline, a_endOf, a_taskIn, a_left, a_release, a_slowest) (nI k) := by
  unfold wpX_badCore
  exact br_f (nI_pos (by omega)) (br_t (nI_lt h (by omega)) hp)
theorem x_badPeriod1 {x : Int32} (h : ¬ ∃ p, sd_pok p ∧ x = nI p) {post : Int32 → Prop} (hp : post 1) : wpX_badPeriod post x := by
  unfold wpX_badPeriod
  rcases pk_ix x (n := 61) (by omega) with g | g | ⟨j, hj, rfl⟩
  · exact br_t (Int32.lt_trans g (by decide)) hp
  · have q : (60 : Int32) < x := Int32.lt_of_lt_of_le (by decide) g
    exact br_f (Int32.not_lt.mpr (Int32.le_trans (by decide) g)) (br_t q hp)
  · refine pk_lt j 2 (fun _ => hp) (fun g => pk_lt 60 j (fun _ => hp) (fun g2 => ⟨nI_ne0 (by omega) (by omega), ?_⟩))
    rw [show (60 : Int32) = nI 60 from rfl, pk_rem (by omega) (by omega) (by omega)]
    have := Nat.mod_lt 60 (show j > 0 by omega)
    exact pk_eq (60 % j) 0 (fun e => absurd ⟨j, ⟨g, g2, Nat.dvd_of_mod_eq_zero e⟩, rfl⟩ h) (fun _ => hp)
theorem x_badPeriod0 {p : Nat} (h : sd_pok p) {post : Int32 → Prop} (hp : post 0) : wpX_badPeriod post (nI p) := by
  obtain ⟨h1, h2, h3⟩ := h
  unfold wpX_badPeriod
  refine pk_lt p 2 (fun _ => by omega) (fun g => pk_lt 60 p (fun _ => by omega) (fun g2 => ⟨nI_ne0 (by omega) (by omega), ?_⟩))
  rw [show (60 : Int32) = nI 60 from rfl, pk_rem (by omega) (by omega) (by omega), Nat.mod_eq_zero_of_dvd h3]
  exact br_t nI_0 hp
end
section
variable {f_cores : Int32} {a_periods a_costs a_deadlines a_firsts a_coreOf a_secondOf a_c a_d a_p a_left a_due a_ran a_responses : Nat → Int32}
theorem y_freeId_lp (R : y_R P C D F K S a_periods a_costs a_deadlines a_firsts a_coreOf a_secondOf) (G : g_ok nc P C D F K S) {id : Nat} (hF : g_F (fun i => P i = 0) 12 id) {post : Int32 → Prop} (hp : post (nI id)) (m : Nat) : ∀ i, i + m = 12 → i ≤ id → wY_freeId_2 post f_cores a_periods a_costs a_deadlines a_firsts a_coreOf a_secondOf a_c a_d a_p a_left a_due a_ran a_responses (m + 1) (nI i) := by
  obtain ⟨f1, f2, f3⟩ := hF
  induction m with
  | zero =>
    intro i hi h
    have e : i = 12 := by omega
    have e' : id = 12 := by omega
    subst e e'
    exact br_t (nI_le (a := 12) (b := 12) (by omega) (by omega)) hp
  | succ m ih =>
    intro i hi h
    have vi : vp_in (nI i) 12 := vp_in_nI (by omega) (by omega)
    refine br_f (nI_ge (b := 12) (by omega) (by omega)) ⟨vi, ?_⟩
    rw [nI_clamp (n := i) (by omega), (R i (by omega)).1]
    by_cases z : i = id
    · subst z
      rw [f3 (by omega)]
      exact br_t nI_0 hp
    · have pn := f2 i (by omega)
      obtain ⟨u1, ⟨p1, p2, p3⟩, u3⟩ := g_used G (show i < 13 by omega) pn
      exact br_f (nI_ne0 (by omega) (by omega)) (nm_r (nI_1 i) (ih (i + 1) (by omega) (by omega)))
theorem y_freeId (R : y_R P C D F K S a_periods a_costs a_deadlines a_firsts a_coreOf a_secondOf) (G : g_ok nc P C D F K S) {id : Nat} (hF : g_F (fun i => P i = 0) 12 id) {post : Int32 → Prop} (hp : post (nI id)) : wpY_freeId post (f_cores, a_periods, a_costs, a_deadlines, a_firsts, a_coreOf, a_secondOf, a_c, a_d, a_p, a_left, a_due, a_ran, a_responses) :=
  ⟨13, y_freeId_lp R G hF hp 12 0 rfl (Nat.zero_le _)⟩
theorem y_count_lp (hP : ∀ i, i < 12 → a_periods i = nI (P i) ∧ P i ≤ 60) {post : Int32 → Prop} (hp : post (nI (g_n P))) (m : Nat) : ∀ i, i + m = 12 → wY_count_4 post f_cores a_periods a_costs a_deadlines a_firsts a_coreOf a_secondOf a_c a_d a_p a_left a_due a_ran a_responses (m + 1) (nI (sd_s (fun i => if P i = 0 then 0 else 1) i)) (nI i) := by
  induction m with
  | zero =>
    intro i hi
    have e : i = 12 := by omega
    subst e
    exact br_t (nI_le (a := 12) (b := 12) (by omega) (by omega)) hp
  | succ m ih =>
    intro i hi
    have vi : vp_in (nI i) 12 := vp_in_nI (by omega) (by omega)
    have N := ih (i + 1) (by omega)
    obtain ⟨q1, q2⟩ := hP i (by omega)
    refine br_f (nI_ge (b := 12) (by omega) (by omega)) ⟨vi, ?_⟩
    rw [nI_clamp (n := i) (by omega), q1]
    have s : sd_s (fun i => if P i = 0 then 0 else 1) (i + 1) = sd_s (fun i => if P i = 0 then 0 else 1) i + (if P i = 0 then 0 else 1) := rfl
    refine pk_eq (P i) 0 (fun z => nm_r (nI_1 i) ?_) (fun z => nm_r (nI_1 _) (nm_r (nI_1 i) ?_))
    · rw [s, if_pos z] at N; exact N
    · rw [s, if_neg z] at N; exact N
theorem y_count (hP : ∀ i, i < 12 → a_periods i = nI (P i) ∧ P i ≤ 60) {post : Int32 → Prop} (hp : post (nI (g_n P))) : wpY_count post (f_cores, a_periods, a_costs, a_deadlines, a_firsts, a_coreOf, a_secondOf, a_c, a_d, a_p, a_left, a_due, a_ran, a_responses) :=
  ⟨13, y_count_lp hP hp 12 0 rfl⟩
theorem y_none1 (R : y_R P C D F K S a_periods a_costs a_deadlines a_firsts a_coreOf a_secondOf) {x : Int32} (h : g_bad P x) {post : Int32 → Prop} (hp : post 1) : wpY_none post (f_cores, a_periods, a_costs, a_deadlines, a_firsts, a_coreOf, a_secondOf, a_c, a_d, a_p, a_left, a_due, a_ran, a_responses) x := by
  unfold wpY_none
  by_cases n : x < 0
  · exact br_t n hp
  · refine br_f n ?_
    by_cases b : (11 : Int32) < x
    · exact br_t b hp
    · rcases h with h | h | ⟨i, hi, e, z⟩
      · exact absurd h n
      · exact absurd (Int32.lt_of_lt_of_le (by decide) h) b
      · subst e
        refine br_f b ⟨vp_in_nI (by omega) (by omega), ?_⟩
        rw [nI_clamp (n := i) (by omega), (R i (by omega)).1, z]
        exact br_t nI_0 hp
theorem y_none0 (R : y_R P C D F K S a_periods a_costs a_deadlines a_firsts a_coreOf a_secondOf) {i : Nat} (hi : i < 12) (h : P i ≠ 0) (h60 : P i ≤ 60) {post : Int32 → Prop} (hp : post 0) : wpY_none post (f_cores, a_periods, a_costs, a_deadlines, a_firsts, a_coreOf, a_secondOf, a_c, a_d, a_p, a_left, a_due, a_ran, a_responses) (nI i) := by
  unfold wpY_none
  refine br_f (nI_pos (by omega)) (br_f (nI_nlt (a := 11) (b := i) (by omega) (by omega)) ⟨vp_in_nI (by omega) (by omega), ?_⟩)
  rw [nI_clamp (n := i) (by omega), (R i (by omega)).1]
  exact br_f (nI_ne0 (by omega) (by omega)) hp
theorem y_badCore1 {x : Int32} (h : x < 0 ∨ nI nc ≤ x) {post : Int32 → Prop} (hp : post 1) : wpY_badCore post (nI nc, a_periods, a_costs, a_deadlines, a_firsts, a_coreOf, a_secondOf, a_c, a_d, a_p, a_left, a_due, a_ran, a_responses) x := by
  unfold wpY_badCore
  by_cases n : x < 0
  · exact br_t n hp
  · rcases h with h | h
    · exact absurd h n
    · exact br_f n (br_f (Int32.not_lt.mpr h) hp)
theorem y_badCore0 {k : Nat} (h : k < nc) (h3 : nc ≤ 3) {post : Int32 → Prop} (hp : post 0) : wpY_badCore post (nI nc, a_periods, a_costs, a_deadlines, a_firsts, a_coreOf, a_secondOf, a_c, a_d, a_p, a_left, a_due, a_ran, a_responses) (nI k) := by
  unfold wpY_badCore
  exact br_f (nI_pos (by omega)) (br_t (nI_lt h (by omega)) hp)
theorem y_badPeriod1 {x : Int32} (h : ¬ ∃ p, sd_pok p ∧ x = nI p) {post : Int32 → Prop} (hp : post 1) : wpY_badPeriod post (f_cores, a_periods, a_costs, a_deadlines, a_firsts, a_coreOf, a_secondOf, a_c, a_d, a_p, a_left, a_due, a_ran, a_responses) x := by
  unfold wpY_badPeriod
  rcases pk_ix x (n := 61) (by omega) with g | g | ⟨j, hj, rfl⟩
  · exact br_t (Int32.lt_trans g (by decide)) hp
  · have q : (60 : Int32) < x := Int32.lt_of_lt_of_le (by decide) g
    exact br_f (Int32.not_lt.mpr (Int32.le_trans (by decide) g)) (br_f (Int32.not_le.mpr q) hp)
  · refine pk_lt j 2 (fun _ => hp) (fun g => pk_le j 60 (fun g2 => ⟨nI_ne0 (by omega) (by omega), ?_⟩) (fun _ => hp))
    rw [show (60 : Int32) = nI 60 from rfl, pk_rem (by omega) (by omega) (by omega)]
    have := Nat.mod_lt 60 (show j > 0 by omega)
    exact pk_eq (60 % j) 0 (fun e => absurd ⟨j, ⟨g, g2, Nat.dvd_of_mod_eq_zero e⟩, rfl⟩ h) (fun _ => hp)
theorem y_badPeriod0 {p : Nat} (h : sd_pok p) {post : Int32 → Prop} (hp : post 0) : wpY_badPeriod post (f_cores, a_periods, a_costs, a_deadlines, a_firsts, a_coreOf, a_secondOf, a_c, a_d, a_p, a_left, a_due, a_ran, a_responses) (nI p) := by
  obtain ⟨h1, h2, h3⟩ := h
  unfold wpY_badPeriod
  refine pk_lt p 2 (fun _ => by omega) (fun g => pk_le p 60 (fun g2 => ⟨nI_ne0 (by omega) (by omega), ?_⟩) (fun _ => by omega))
  rw [show (60 : Int32) = nI 60 from rfl, pk_rem (by omega) (by omega) (by omega), Nat.mod_eq_zero_of_dvd h3]
  exact br_t nI_0 hp
end
end
end
section
/-! spare: halving against counting down -/
section
variable {nc k : Nat} {P C D F K S : Nat → Nat}
theorem g_S_mono {id pp x y : Nat} (h : y ≤ x) (H : g_S P C D F K S id pp k x pp) : g_S P C D F K S id pp k y pp := by
  refine sd_Sc_mono (fun i hi => ?_) H
  by_cases e : i = id
  · subst e; rw [sd_us, sd_us]; exact ⟨h, fun _ => ⟨rfl, rfl⟩⟩
  · rw [sd_un e, sd_un e]; exact ⟨Nat.le_refl _, fun _ => ⟨rfl, rfl⟩⟩
section
variable {f_cores f_tasks f_plannedCore f_stretches : Int32} {a_used a_period a_partCore a_cost a_deadline a_endOf a_taskIn a_left a_release a_slowest : Nat → Int32}
theorem x_2m (i : Nat) : 2 * nI i = nI (2 * i) := pk_mul 2 i
theorem x_spare_lp (G : g_ok nc P C D F K S) (hk : k < nc) {id pp M : Nat} (hid : id < 13) (h0 : P id = 0) (per : a_period id = nI pp) (hpp : sd_pok pp) (hM : g_M (fun x => g_S P C D F K S id pp k x pp) pp M) {post : Int32 → SX → Prop}
    (hp : ∀ a_cost a_deadline, x_R P C D F K S a_used a_period a_partCore a_cost a_deadline → post (nI M) (f_cores, f_tasks, f_plannedCore, f_stretches, a_used, a_period, a_partCore, a_cost, a_deadline, a_endOf, a_taskIn, a_left, a_release, a_slowest)) (n : Nat) : ∀ lo hi a_cost a_deadline, lo ≤ M → M < hi → hi ≤ pp + 1 → hi - lo < n → x_R P C D F K S a_used a_period a_partCore a_cost a_deadline → wX_spare_40 post (nI k) (nI pp) (nI id) n (nI lo) (nI hi) f_cores f_tasks f_plannedCore f_stretches a_used a_period a_partCore a_cost a_deadline a_endOf a_taskIn a_left a_release a_slowest := by
  obtain ⟨m1, m2, m3⟩ := hM
  have p60 := hpp.2.1
  induction n with
  | zero => intro lo hi _ _ _ _ _ h; omega
  | succ n ih =>
    intro lo hi a_cost a_deadline l1 l2 l3 l4 R
    unfold wX_spare_40
    rw [pk_sub (show lo ≤ hi by omega), nI_add, x_half (by omega), x_2m]
    refine pk_le (hi - lo) 1 (fun g => ?_) (fun g => ⟨x_2, nm_e (x_pw G R hk hid h0 (Or.inl rfl) per (by omega) (by omega) (Nat.le_refl _) hpp (fun r a_cost a_deadline R' hr => ?_))⟩)
    · have : lo = M := by omega
      subst this
      exact hp _ _ R
    · rcases hr with ⟨rfl, s⟩ | ⟨rfl, s⟩
      · refine br_f (by decide) (ih _ _ _ _ ?_ l2 l3 (by omega) R')
        by_cases z : (lo + hi) / 2 ≤ M
        · exact z
        · exact absurd s (m3 _ (by omega) (by omega))
      · refine br_t rfl (ih _ _ _ _ l1 ?_ (by omega) (by omega) R')
        by_cases z : M < (lo + hi) / 2
        · exact z
        · rcases m2 with m2 | m2
          · omega
          · exact absurd (g_S_mono (by omega) m2) s
end
section
variable {f_cores : Int32} {a_periods a_costs a_deadlines a_firsts a_coreOf a_secondOf a_c a_d a_p a_left a_due a_ran a_responses : Nat → Int32}
theorem y_spare_lp (G : g_ok nc P C D F K S) (R : y_R P C D F K S a_periods a_costs a_deadlines a_firsts a_coreOf a_secondOf) (hk : k < nc) {id pp M : Nat} (hid : id < 13) (hpp : sd_pok pp) (hM : g_M (fun x => g_S P C D F K S id pp k x pp) pp M) {post : Int32 → SY → Prop}
    (hp : ∀ a_c a_d a_p a_left a_due a_ran a_responses, post (nI M) (f_cores, a_periods, a_costs, a_deadlines, a_firsts, a_coreOf, a_secondOf, a_c, a_d, a_p, a_left, a_due, a_ran, a_responses)) (x : Nat) : ∀ a_c a_d a_p a_left a_due a_ran a_responses, M ≤ x → x ≤ pp → wY_spare_29 post (nI k) (nI pp) (nI id) (x + 1) (nI x) f_cores a_periods a_costs a_deadlines a_firsts a_coreOf a_secondOf a_c a_d a_p a_left a_due a_ran a_responses := by
  obtain ⟨m1, m2, m3⟩ := hM
  have p60 := hpp.2.1
  induction x with
  | zero =>
    intro a_c a_d a_p a_left a_due a_ran a_responses h1 h2
    have : M = 0 := by omega
    subst this
    exact br_t (by decide) (hp _ _ _ _ _ _ _)
  | succ x ih =>
    intro a_c a_d a_p a_left a_due a_ran a_responses h1 h2
    refine br_f (nI_nle (by omega) (by omega)) (y_takes G R hk hid (by omega) (Nat.le_refl _) hpp (fun r a_c a_d a_p a_left a_due a_ran a_responses hr => ?_))
    rcases hr with ⟨rfl, s⟩ | ⟨rfl, s⟩
    · have : M = x + 1 := by
        by_cases z : M < x + 1
        · exact absurd s (m3 _ z h2)
        · omega
      subst this
      exact br_f (by decide) (hp _ _ _ _ _ _ _)
    · refine br_t rfl (nm_r (pk_m1 x) (ih _ _ _ _ _ _ _ ?_ (by omega)))
      by_cases z : M = x + 1
      · subst z
        rcases m2 with m2 | m2
        · omega
        · exact absurd m2 s
      · omega
end
end
end
section
/-! the component's placing -/
def g_T (nc : Nat) (P C D F K S : Nat → Nat) (id pp c d x i : Nat) : Prop := g_S P C D F K S id pp i x x ∧ ∃ j, j < nc ∧ j ≠ i ∧ g_S P C D F K S id pp j (c - x) (d - x)
def g_W (nc : Nat) (P C D F K S : Nat → Nat) (id pp c d W w v : Nat) : Prop := g_M (fun x => ∃ i, i < nc ∧ g_T nc P C D F K S id pp c d x i) (c - 1) W ∧ (0 < W → w < nc ∧ g_F (g_T nc P C D F K S id pp c d W) nc w ∧ v < nc ∧ g_F (fun j => j ≠ w ∧ g_S P C D F K S id pp j (c - W) (d - W)) nc v)
theorem g_F_lt {Q : Nat → Prop} {n k i : Nat} (h : g_F Q n k) (hi : i < n) (q : Q i) : k < n := by
  by_cases l : k < n
  · exact l
  · exact absurd q (h.2.1 i (by have := h.1; omega))
section
variable {nc : Nat} {P C D F K S : Nat → Nat}
theorem g_W_ex (id pp c d : Nat) : ∃ W w v, g_W nc P C D F K S id pp c d W w v := by
  obtain ⟨W, hW⟩ := g_M_ex (fun x => ∃ i, i < nc ∧ g_T nc P C D F K S id pp c d x i) (c - 1)
  obtain ⟨w, hw⟩ := g_F_ex (g_T nc P C D F K S id pp c d W) nc
  obtain ⟨v, hv⟩ := g_F_ex (fun j => j ≠ w ∧ g_S P C D F K S id pp j (c - W) (d - W)) nc
  refine ⟨W, w, v, hW, fun h => ?_⟩
  rcases hW.2.1 with z | ⟨i, i1, i2⟩
  · omega
  · have wl := g_F_lt hw i1 i2
    obtain ⟨-, j, j1, j2, j3⟩ := hw.2.2 wl
    exact ⟨wl, hw, g_F_lt hv j1 ⟨j2, j3⟩, hv⟩
variable {f_cores f_tasks f_plannedCore f_stretches : Int32} {a_used a_period a_partCore a_cost a_deadline a_endOf a_taskIn a_left a_release a_slowest : Nat → Int32}
theorem x_whole_lp (G : g_ok nc P C D F K S) {id cc dd pp w : Nat} (hid : id < 13) (h0 : P id = 0) (per : a_period id = nI pp) (c0 : 0 < cc) (h1 : cc ≤ dd) (h2 : dd ≤ pp) (h3 : sd_pok pp) (hF : g_F (fun k => g_S P C D F K S id pp k cc dd) nc w) {post : Int32 → SX → Prop}
    (p1 : w < nc → ∀ a_cost a_deadline, x_R P C D F K S a_used a_period a_partCore a_cost a_deadline → post 1 (nI nc, f_tasks, f_plannedCore, f_stretches, a_used, a_period, upd a_partCore (2 * id) (nI w), upd a_cost (2 * id) (nI cc), upd a_deadline (2 * id) (nI dd), a_endOf, a_taskIn, a_left, a_release, a_slowest))
    (p0 : w = nc → ∀ a_cost a_deadline, x_R P C D F K S a_used a_period a_partCore a_cost a_deadline → post 0 (nI nc, f_tasks, f_plannedCore, f_stretches, a_used, a_period, a_partCore, a_cost, a_deadline, a_endOf, a_taskIn, a_left, a_release, a_slowest)) (m : Nat) : ∀ i a_cost a_deadline, i + m = nc → i ≤ w → x_R P C D F K S a_used a_period a_partCore a_cost a_deadline → wX_placeWhole_3 post (nI id) (nI cc) (nI dd) (m + 1) (nI i) (nI nc) f_tasks f_plannedCore f_stretches a_used a_period a_partCore a_cost a_deadline a_endOf a_taskIn a_left a_release a_slowest := by
  obtain ⟨f1, f2, f3⟩ := hF
  have n3 := G.2.1
  induction m with
  | zero =>
    intro i a_cost a_deadline hi hw R
    have e : i = nc := by omega
    subst e
    exact br_t (nI_le (Nat.le_refl _) (by omega)) (p0 (by omega) _ _ R)
  | succ m ih =>
    intro i a_cost a_deadline hi hw R
    unfold wX_placeWhole_3
    rw [x_2m]
    refine br_f (nI_ge (by omega) (by omega)) (x_pw G R (by omega) hid h0 (Or.inl rfl) per c0 h1 h2 h3 (fun r a_cost a_deadline R' hr => ?_))
    rcases hr with ⟨rfl, s⟩ | ⟨rfl, s⟩
    · have e : i = w := by
        by_cases l : i < w
        · exact absurd s (f2 i l)
        · omega
      subst e
      exact br_f (by decide) (x_setPart (by omega) (p1 (by omega) _ _ R'))
    · refine br_t rfl (nm_r (nI_1 i) (ih (i + 1) _ _ (by omega) ?_ R'))
      by_cases l : i = w
      · subst l; exact absurd (f3 (by omega)) s
      · omega
theorem x_placeWhole (G : g_ok nc P C D F K S) (R : x_R P C D F K S a_used a_period a_partCore a_cost a_deadline) {id cc dd pp w : Nat} (hid : id < 13) (h0 : P id = 0) (per : a_period id = nI pp) (c0 : 0 < cc) (h1 : cc ≤ dd) (h2 : dd ≤ pp) (h3 : sd_pok pp) (hF : g_F (fun k => g_S P C D F K S id pp k cc dd) nc w) {post : Int32 → SX → Prop}
    (p1 : w < nc → ∀ a_cost a_deadline, x_R P C D F K S a_used a_period a_partCore a_cost a_deadline → post 1 (nI nc, f_tasks, f_plannedCore, f_stretches, a_used, a_period, upd a_partCore (2 * id) (nI w), upd a_cost (2 * id) (nI cc), upd a_deadline (2 * id) (nI dd), a_endOf, a_taskIn, a_left, a_release, a_slowest))
    (p0 : w = nc → ∀ a_cost a_deadline, x_R P C D F K S a_used a_period a_partCore a_cost a_deadline → post 0 (nI nc, f_tasks, f_plannedCore, f_stretches, a_used, a_period, a_partCore, a_cost, a_deadline, a_endOf, a_taskIn, a_left, a_release, a_slowest)) : wpX_placeWhole post (nI nc, f_tasks, f_plannedCore, f_stretches, a_used, a_period, a_partCore, a_cost, a_deadline, a_endOf, a_taskIn, a_left, a_release, a_slowest) (nI id) (nI cc) (nI dd) :=
  ⟨nc + 1, x_whole_lp G hid h0 per c0 h1 h2 h3 hF p1 p0 nc 0 _ _ (by omega) (Nat.zero_le _) R⟩
theorem x_rest_lp (G : g_ok nc P C D F K S) {id cc dd pp v oth : Nat} (hid : id < 13) (h0 : P id = 0) (per : a_period id = nI pp) (c0 : 0 < cc) (h1 : cc ≤ dd) (h2 : dd ≤ pp) (h3 : sd_pok pp) (ho : oth < nc) (hF : g_F (fun j => j ≠ oth ∧ g_S P C D F K S id pp j cc dd) nc v) {post : Int32 → SX → Prop}
    (p1 : v < nc → ∀ a_cost a_deadline, x_R P C D F K S a_used a_period a_partCore a_cost a_deadline → post (nI v) (nI nc, f_tasks, f_plannedCore, f_stretches, a_used, a_period, a_partCore, a_cost, a_deadline, a_endOf, a_taskIn, a_left, a_release, a_slowest))
    (p0 : v = nc → ∀ a_cost a_deadline, x_R P C D F K S a_used a_period a_partCore a_cost a_deadline → post (-1) (nI nc, f_tasks, f_plannedCore, f_stretches, a_used, a_period, a_partCore, a_cost, a_deadline, a_endOf, a_taskIn, a_left, a_release, a_slowest)) (m : Nat) : ∀ i a_cost a_deadline, i + m = nc → i ≤ v → x_R P C D F K S a_used a_period a_partCore a_cost a_deadline → wX_coreForRest_3 post (nI id) (nI oth) (nI cc) (nI dd) (m + 1) (nI i) (nI nc) f_tasks f_plannedCore f_stretches a_used a_period a_partCore a_cost a_deadline a_endOf a_taskIn a_left a_release a_slowest := by
  obtain ⟨f1, f2, f3⟩ := hF
  have n3 := G.2.1
  induction m with
  | zero =>
    intro i a_cost a_deadline hi hw R
    have e : i = nc := by omega
    subst e
    exact br_t (nI_le (Nat.le_refl _) (by omega)) (p0 (by omega) _ _ R)
  | succ m ih =>
    intro i a_cost a_deadline hi hw R
    unfold wX_coreForRest_3
    rw [x_2m, nI_1 (2 * id)]
    refine br_f (nI_ge (by omega) (by omega)) (pk_eq i oth (fun g => nm_r (nI_1 i) (ih (i + 1) _ _ (by omega) ?_ R)) (fun g => x_pw G R (by omega) hid h0 (Or.inr rfl) per c0 h1 h2 h3 (fun r a_cost a_deadline R' hr => ?_)))
    · by_cases l : i = v
      · subst l; exact absurd g (f3 (by omega)).1
      · omega
    · rcases hr with ⟨rfl, s⟩ | ⟨rfl, s⟩
      · have e : i = v := by
          by_cases l : i < v
          · exact absurd ⟨g, s⟩ (f2 i l)
          · omega
        subst e
        exact br_f (by decide) (p1 (by omega) _ _ R')
      · refine br_t rfl (nm_r (nI_1 i) (ih (i + 1) _ _ (by omega) ?_ R'))
        by_cases l : i = v
        · subst l; exact absurd (f3 (by omega)).2 s
        · omega
theorem x_coreForRest (G : g_ok nc P C D F K S) (R : x_R P C D F K S a_used a_period a_partCore a_cost a_deadline) {id cc dd pp v oth : Nat} (hid : id < 13) (h0 : P id = 0) (per : a_period id = nI pp) (c0 : 0 < cc) (h1 : cc ≤ dd) (h2 : dd ≤ pp) (h3 : sd_pok pp) (ho : oth < nc) (hF : g_F (fun j => j ≠ oth ∧ g_S P C D F K S id pp j cc dd) nc v) {post : Int32 → SX → Prop}
    (p1 : v < nc → ∀ a_cost a_deadline, x_R P C D F K S a_used a_period a_partCore a_cost a_deadline → post (nI v) (nI nc, f_tasks, f_plannedCore, f_stretches, a_used, a_period, a_partCore, a_cost, a_deadline, a_endOf, a_taskIn, a_left, a_release, a_slowest))
    (p0 : v = nc → ∀ a_cost a_deadline, x_R P C D F K S a_used a_period a_partCore a_cost a_deadline → post (-1) (nI nc, f_tasks, f_plannedCore, f_stretches, a_used, a_period, a_partCore, a_cost, a_deadline, a_endOf, a_taskIn, a_left, a_release, a_slowest)) : wpX_coreForRest post (nI nc, f_tasks, f_plannedCore, f_stretches, a_used, a_period, a_partCore, a_cost, a_deadline, a_endOf, a_taskIn, a_left, a_release, a_slowest) (nI id) (nI oth) (nI cc) (nI dd) :=
  ⟨nc + 1, x_rest_lp G hid h0 per c0 h1 h2 h3 ho hF p1 p0 nc 0 _ _ (by omega) (Nat.zero_le _) R⟩
theorem x_72n {post : Int32 → SX → Prop} {x1 x2 x3 x4 x5 : Int32} (h : post 0 (f_cores, f_tasks, f_plannedCore, f_stretches, a_used, a_period, a_partCore, a_cost, a_deadline, a_endOf, a_taskIn, a_left, a_release, a_slowest)) : wX_placeSplit_72 post x1 x2 x3 x4 x5 (-1) f_cores f_tasks f_plannedCore f_stretches a_used a_period a_partCore a_cost a_deadline a_endOf a_taskIn a_left a_release a_slowest := by
  unfold wX_placeSplit_72
  exact br_f (by decide) h
theorem x_72s {post : Int32 → SX → Prop} {id x c d w v : Nat} (hid : id < 13) (h1 : x ≤ c) (h2 : x ≤ d) (hw : w < 3) (h : post 1 (f_cores, f_tasks, f_plannedCore, f_stretches, a_used, a_period, upd (upd a_partCore (2 * id) (nI w)) (2 * id + 1) (nI v), upd (upd a_cost (2 * id) (nI x)) (2 * id + 1) (nI (c - x)), upd (upd a_deadline (2 * id) (nI x)) (2 * id + 1) (nI (d - x)), a_endOf, a_taskIn, a_left, a_release, a_slowest)) : wX_placeSplit_72 post (nI id) (nI x) (nI c) (nI d) (nI v) (nI w) f_cores f_tasks f_plannedCore f_stretches a_used a_period a_partCore a_cost a_deadline a_endOf a_taskIn a_left a_release a_slowest := by
  unfold wX_placeSplit_72
  rw [x_2m, nI_1 (2 * id), pk_sub h1, pk_sub h2]
  exact br_t (nI_pos' (by omega)) (x_setPart (by omega) (x_setPart (by omega) h))
theorem x_split_e {post : Int32 → SX → Prop} {x1 x2 x3 x4 x5 x7 : Int32} {w : Nat} (hw : w < 3) (h : wX_placeSplit_72 post x1 x2 x3 x4 x5 (nI w) f_cores f_tasks f_plannedCore f_stretches a_used a_period a_partCore a_cost a_deadline a_endOf a_taskIn a_left a_release a_slowest) (n : Nat) : wX_placeSplit_9 post x1 x2 x3 x4 (n + 1) x5 (nI w) x7 f_cores f_tasks f_plannedCore f_stretches a_used a_period a_partCore a_cost a_deadline a_endOf a_taskIn a_left a_release a_slowest :=
  br_c (fun _ => h) (fun _ => br_t (nI_pos' (by omega)) h)
theorem x_split_lp (G : g_ok nc P C D F K S) {id c d pp x w v : Nat} (hid : id < 13) (h0 : P id = 0) (per : a_period id = nI pp) (x0 : 0 < x) (xc : x < c) (h1 : c ≤ d) (h2 : d ≤ pp) (h3 : sd_pok pp) (hF : g_F (g_T nc P C D F K S id pp c d x) nc w) (hv : w < nc → g_F (fun j => j ≠ w ∧ g_S P C D F K S id pp j (c - x) (d - x)) nc v) {post : Int32 → SX → Prop}
    (p1 : w < nc → v < nc → ∀ a_cost a_deadline, x_R P C D F K S a_used a_period a_partCore a_cost a_deadline → post 1 (nI nc, f_tasks, f_plannedCore, f_stretches, a_used, a_period, upd (upd a_partCore (2 * id) (nI w)) (2 * id + 1) (nI v), upd (upd a_cost (2 * id) (nI x)) (2 * id + 1) (nI (c - x)), upd (upd a_deadline (2 * id) (nI x)) (2 * id + 1) (nI (d - x)), a_endOf, a_taskIn, a_left, a_release, a_slowest))
    (p0 : w = nc → ∀ a_cost a_deadline, x_R P C D F K S a_used a_period a_partCore a_cost a_deadline → post 0 (nI nc, f_tasks, f_plannedCore, f_stretches, a_used, a_period, a_partCore, a_cost, a_deadline, a_endOf, a_taskIn, a_left, a_release, a_slowest)) (m : Nat) : ∀ i sec a_cost a_deadline, i + m = nc → i ≤ w → x_R P C D F K S a_used a_period a_partCore a_cost a_deadline → wX_placeSplit_9 post (nI id) (nI x) (nI c) (nI d) (m + 2) sec (-1) (nI i) (nI nc) f_tasks f_plannedCore f_stretches a_used a_period a_partCore a_cost a_deadline a_endOf a_taskIn a_left a_release a_slowest := by
  obtain ⟨f1, f2, f3⟩ := hF
  have n3 := G.2.1
  have p60 := h3.2.1
  induction m with
  | zero =>
    intro i sec a_cost a_deadline hi hw R
    have e : i = nc := by omega
    subst e
    exact br_t (nI_le (Nat.le_refl _) (by omega)) (x_72n (p0 (by omega) _ _ R))
  | succ m ih =>
    intro i sec a_cost a_deadline hi hw R
    unfold wX_placeSplit_9
    rw [x_2m, pk_sub (show x ≤ c by omega), pk_sub (show x ≤ d by omega)]
    refine br_f (nI_ge (by omega) (by omega)) (br_f (by decide) (x_pw G R (by omega) hid h0 (Or.inl rfl) per x0 (Nat.le_refl _) (by omega) h3 (fun r a_cost a_deadline R' hr => ?_)))
    rcases hr with ⟨rfl, s⟩ | ⟨rfl, s⟩
    · obtain ⟨v', hv'⟩ := g_F_ex (fun j => j ≠ i ∧ g_S P C D F K S id pp j (c - x) (d - x)) nc
      refine br_f (by decide) (x_coreForRest G R' hid h0 per (by omega) (by omega) (by omega) h3 (show i < nc by omega) hv' (fun l a_cost a_deadline R2 => ?_) (fun l a_cost a_deadline R2 => ?_))
      · have q := hv'.2.2 l
        have e : i = w := by
          by_cases z : i < w
          · exact absurd ⟨s, v', l, q⟩ (f2 i z)
          · omega
        subst e
        have e2 : v' = v := g_F_un hv' (hv (by omega))
        subst e2
        exact br_f (nI_pos (by omega)) (nm_e (x_split_e (by omega) (x_72s hid (by omega) (by omega) (by omega) (p1 (by omega) l _ _ R2)) _))
      · refine br_t (by decide) (nm_r (nI_1 i) (ih (i + 1) _ _ _ (by omega) ?_ R2))
        by_cases z : i = w
        · subst z
          obtain ⟨-, j, j1, j2⟩ := f3 (by omega)
          exact absurd j2 (hv'.2.1 j (by omega))
        · omega
    · refine br_t rfl (nm_r (nI_1 i) (ih (i + 1) _ _ _ (by omega) ?_ R'))
      by_cases z : i = w
      · subst z; exact absurd (f3 (by omega)).1 s
      · omega
theorem x_placeSplit (G : g_ok nc P C D F K S) (R : x_R P C D F K S a_used a_period a_partCore a_cost a_deadline) {id c d pp x w v : Nat} (hid : id < 13) (h0 : P id = 0) (per : a_period id = nI pp) (x0 : 0 < x) (xc : x < c) (h1 : c ≤ d) (h2 : d ≤ pp) (h3 : sd_pok pp) (hF : g_F (g_T nc P C D F K S id pp c d x) nc w) (hv : w < nc → g_F (fun j => j ≠ w ∧ g_S P C D F K S id pp j (c - x) (d - x)) nc v) {post : Int32 → SX → Prop}
    (p1 : w < nc → v < nc → ∀ a_cost a_deadline, x_R P C D F K S a_used a_period a_partCore a_cost a_deadline → post 1 (nI nc, f_tasks, f_plannedCore, f_stretches, a_used, a_period, upd (upd a_partCore (2 * id) (nI w)) (2 * id + 1) (nI v), upd (upd a_cost (2 * id) (nI x)) (2 * id + 1) (nI (c - x)), upd (upd a_deadline (2 * id) (nI x)) (2 * id + 1) (nI (d - x)), a_endOf, a_taskIn, a_left, a_release, a_slowest))
    (p0 : w = nc → ∀ a_cost a_deadline, x_R P C D F K S a_used a_period a_partCore a_cost a_deadline → post 0 (nI nc, f_tasks, f_plannedCore, f_stretches, a_used, a_period, a_partCore, a_cost, a_deadline, a_endOf, a_taskIn, a_left, a_release, a_slowest)) : wpX_placeSplit post (nI nc, f_tasks, f_plannedCore, f_stretches, a_used, a_period, a_partCore, a_cost, a_deadline, a_endOf, a_taskIn, a_left, a_release, a_slowest) (nI id) (nI x) (nI c) (nI d) :=
  ⟨nc + 2, x_split_lp G hid h0 per x0 xc h1 h2 h3 hF hv p1 p0 nc 0 _ _ _ (by omega) (Nat.zero_le _) R⟩
theorem x_78_e {post : Int32 → SX → Prop} {x1 x2 x4 x6 : Int32} (h : wX_admit_107 post x4 1 f_cores f_tasks f_plannedCore f_stretches a_used a_period a_partCore a_cost a_deadline a_endOf a_taskIn a_left a_release a_slowest) (n : Nat) : wX_admit_78 post x1 x2 x4 (n + 1) 1 x6 f_cores f_tasks f_plannedCore f_stretches a_used a_period a_partCore a_cost a_deadline a_endOf a_taskIn a_left a_release a_slowest :=
  br_c (fun _ => h) (fun _ => br_f (by decide) h)
theorem x_admit_lp (G : g_ok nc P C D F K S) {id c d pp W w v : Nat} (hid : id < 13) (h0 : P id = 0) (per : a_period id = nI pp) (h1 : c ≤ d) (h2 : d ≤ pp) (h3 : sd_pok pp) (hW : g_W nc P C D F K S id pp c d W w v) {post : Int32 → SX → Prop}
    (p1 : 0 < W → ∀ a_cost a_deadline, x_R P C D F K S a_used a_period a_partCore a_cost a_deadline → wX_admit_107 post (nI id) 1 (nI nc) f_tasks f_plannedCore f_stretches a_used a_period (upd (upd a_partCore (2 * id) (nI w)) (2 * id + 1) (nI v)) (upd (upd a_cost (2 * id) (nI W)) (2 * id + 1) (nI (c - W))) (upd (upd a_deadline (2 * id) (nI W)) (2 * id + 1) (nI (d - W))) a_endOf a_taskIn a_left a_release a_slowest)
    (p0 : W = 0 → ∀ a_cost a_deadline, x_R P C D F K S a_used a_period a_partCore a_cost a_deadline → wX_admit_107 post (nI id) 0 (nI nc) f_tasks f_plannedCore f_stretches a_used a_period a_partCore a_cost a_deadline a_endOf a_taskIn a_left a_release a_slowest) (x : Nat) : ∀ a_cost a_deadline, W ≤ x → x ≤ c - 1 → x_R P C D F K S a_used a_period a_partCore a_cost a_deadline → wX_admit_78 post (nI c) (nI d) (nI id) (x + 2) 0 (nI x) (nI nc) f_tasks f_plannedCore f_stretches a_used a_period a_partCore a_cost a_deadline a_endOf a_taskIn a_left a_release a_slowest := by
  obtain ⟨⟨m1, m2, m3⟩, hwv⟩ := hW
  have p60 := h3.2.1
  induction x with
  | zero =>
    intro a_cost a_deadline l1 l2 R
    exact br_t (by decide) (p0 (by omega) _ _ R)
  | succ x ih =>
    intro a_cost a_deadline l1 l2 R
    obtain ⟨w', hw'⟩ := g_F_ex (g_T nc P C D F K S id pp c d (x + 1)) nc
    obtain ⟨v', hv'⟩ := g_F_ex (fun j => j ≠ w' ∧ g_S P C D F K S id pp j (c - (x + 1)) (d - (x + 1))) nc
    refine br_f (nI_nlt (a := x + 1) (b := 1) (by omega) (by omega)) (br_t rfl (x_placeSplit G R hid h0 per (by omega) (by omega) h1 h2 h3 hw' (fun _ => hv') (fun l l' a_cost a_deadline R' => ?_) (fun l a_cost a_deadline R' => ?_)))
    · have e : W = x + 1 := by
        by_cases z : W < x + 1
        · exact absurd ⟨w', l, hw'.2.2 l⟩ (m3 _ z l2)
        · omega
      subst e
      obtain ⟨q1, q2, q3, q4⟩ := hwv (by omega)
      have e1 : w' = w := g_F_un hw' q2
      subst e1
      have e2 : v' = v := g_F_un hv' q4
      subst e2
      exact nm_r (pk_m1 x) (x_78_e (p1 (by omega) _ _ R') _)
    · refine nm_r (pk_m1 x) (ih _ _ ?_ (by omega) R')
      by_cases z : W = x + 1
      · subst z
        rcases m2 with m2 | ⟨i, i1, i2⟩
        · omega
        · exact absurd i2 (hw'.2.1 i (by omega))
      · omega
end
end
section
/-! the reference's placing -/
section
variable {nc : Nat} {P C D F K S : Nat → Nat}
variable {f_cores : Int32} {a_periods a_costs a_deadlines a_firsts a_coreOf a_secondOf a_c a_d a_p a_left a_due a_ran a_responses : Nat → Int32}
variable {J117 : Int32 → Int32 → Int32 → (Nat → Int32) → (Nat → Int32) → (Nat → Int32) → (Nat → Int32) → (Nat → Int32) → (Nat → Int32) → (Nat → Int32) → (Nat → Int32) → (Nat → Int32) → (Nat → Int32) → (Nat → Int32) → (Nat → Int32) → (Nat → Int32) → Prop}
theorem y_place {post : Int32 → SY → Prop} {id : Nat} {x y z : Int32} (hid : id < 12) (h : post (nI id) (f_cores, a_periods, a_costs, a_deadlines, upd a_firsts id x, upd a_coreOf id y, upd a_secondOf id z, a_c, a_d, a_p, a_left, a_due, a_ran, a_responses)) : wpY_place post (f_cores, a_periods, a_costs, a_deadlines, a_firsts, a_coreOf, a_secondOf, a_c, a_d, a_p, a_left, a_due, a_ran, a_responses) (nI id) x y z := by
  have vi : vp_in (nI id) 12 := vp_in_nI hid (by omega)
  unfold wpY_place
  rw [nI_clamp (n := id) (by omega)]
  exact ⟨vi, nm_e ⟨vi, nm_e ⟨vi, nm_e h⟩⟩⟩
theorem y_second_lp (G : g_ok nc P C D F K S) (R : y_R P C D F K S a_periods a_costs a_deadlines a_firsts a_coreOf a_secondOf) {id cc dd pp v oth : Nat} (hid : id < 13) (h1 : cc ≤ dd) (h2 : dd ≤ pp) (h3 : sd_pok pp) (ho : oth < nc) (hF : g_F (fun j => j ≠ oth ∧ g_S P C D F K S id pp j cc dd) nc v) {post : Int32 → SY → Prop}
    (p1 : v < nc → ∀ a_c a_d a_p a_left a_due a_ran a_responses, post (nI v) (nI nc, a_periods, a_costs, a_deadlines, a_firsts, a_coreOf, a_secondOf, a_c, a_d, a_p, a_left, a_due, a_ran, a_responses))
    (p0 : v = nc → ∀ a_c a_d a_p a_left a_due a_ran a_responses, post (-4) (nI nc, a_periods, a_costs, a_deadlines, a_firsts, a_coreOf, a_secondOf, a_c, a_d, a_p, a_left, a_due, a_ran, a_responses)) (m : Nat) : ∀ i a_c a_d a_p a_left a_due a_ran a_responses, i + m = nc → i ≤ v → wY_second_3 post (nI oth) (nI id) (nI cc) (nI dd) (nI pp) (m + 1) (nI i) (nI nc) a_periods a_costs a_deadlines a_firsts a_coreOf a_secondOf a_c a_d a_p a_left a_due a_ran a_responses := by
  obtain ⟨f1, f2, f3⟩ := hF
  have n3 := G.2.1
  induction m with
  | zero =>
    intro i a_c a_d a_p a_left a_due a_ran a_responses hi hw
    have e : i = nc := by omega
    subst e
    exact br_t (nI_le (Nat.le_refl _) (by omega)) (p0 (by omega) _ _ _ _ _ _ _)
  | succ m ih =>
    intro i a_c a_d a_p a_left a_due a_ran a_responses hi hw
    refine br_f (nI_ge (by omega) (by omega)) (pk_eq i oth (fun g => nm_r (nI_1 i) (ih (i + 1) _ _ _ _ _ _ _ (by omega) ?_)) (fun g => y_takes G R (by omega) hid h1 h2 h3 (fun r a_c a_d a_p a_left a_due a_ran a_responses hr => ?_)))
    · by_cases l : i = v
      · subst l; exact absurd g (f3 (by omega)).1
      · omega
    · rcases hr with ⟨rfl, s⟩ | ⟨rfl, s⟩
      · have e : i = v := by
          by_cases l : i < v
          · exact absurd ⟨g, s⟩ (f2 i l)
          · omega
        subst e
        exact br_f (by decide) (p1 (by omega) _ _ _ _ _ _ _)
      · refine br_t rfl (nm_r (nI_1 i) (ih (i + 1) _ _ _ _ _ _ _ (by omega) ?_))
        by_cases l : i = v
        · subst l; exact absurd (f3 (by omega)).2 s
        · omega
theorem y_second (G : g_ok nc P C D F K S) (R : y_R P C D F K S a_periods a_costs a_deadlines a_firsts a_coreOf a_secondOf) {id cc dd pp v oth : Nat} (hid : id < 13) (h1 : cc ≤ dd) (h2 : dd ≤ pp) (h3 : sd_pok pp) (ho : oth < nc) (hF : g_F (fun j => j ≠ oth ∧ g_S P C D F K S id pp j cc dd) nc v) {post : Int32 → SY → Prop}
    (p1 : v < nc → ∀ a_c a_d a_p a_left a_due a_ran a_responses, post (nI v) (nI nc, a_periods, a_costs, a_deadlines, a_firsts, a_coreOf, a_secondOf, a_c, a_d, a_p, a_left, a_due, a_ran, a_responses))
    (p0 : v = nc → ∀ a_c a_d a_p a_left a_due a_ran a_responses, post (-4) (nI nc, a_periods, a_costs, a_deadlines, a_firsts, a_coreOf, a_secondOf, a_c, a_d, a_p, a_left, a_due, a_ran, a_responses)) : wpY_second post (nI nc, a_periods, a_costs, a_deadlines, a_firsts, a_coreOf, a_secondOf, a_c, a_d, a_p, a_left, a_due, a_ran, a_responses) (nI oth) (nI id) (nI cc) (nI dd) (nI pp) :=
  ⟨nc + 1, y_second_lp G R hid h1 h2 h3 ho hF p1 p0 nc 0 _ _ _ _ _ _ _ (by omega) (Nat.zero_le _)⟩
theorem y_125d {post : Int32 → SY → Prop} {x1 x2 x3 x4 : Int32} {id x : Nat} (n3 : nc ≤ 3) (hid : id < 13) (J : J117 (nI id) (nI x) (nI nc) a_periods a_costs a_deadlines a_firsts a_coreOf a_secondOf a_c a_d a_p a_left a_due a_ran a_responses) (m : Nat) : ∀ i, i + m = nc → wY_admit_125 post J117 x1 x2 x3 x4 (nI (x + 1)) (m + 1) (nI id) (nI i) (nI nc) a_periods a_costs a_deadlines a_firsts a_coreOf a_secondOf a_c a_d a_p a_left a_due a_ran a_responses := by
  induction m with
  | zero =>
    intro i hi
    have e : i = nc := by omega
    subst e
    exact br_t (nI_le (Nat.le_refl _) (by omega)) (nm_r (pk_m1 x) J)
  | succ m ih =>
    intro i hi
    exact br_f (nI_ge (by omega) (by omega)) (br_f (nI_m4 (by omega)) (nm_r (nI_1 i) (ih (i + 1) (by omega))))
theorem y_117d {post : Int32 → SY → Prop} {id c d pp : Nat} (n3 : nc ≤ 3) (hid : id < 12) (h : post (nI id) (nI nc, upd a_periods id (nI pp), upd a_costs id (nI c), upd a_deadlines id (nI d), a_firsts, a_coreOf, a_secondOf, a_c, a_d, a_p, a_left, a_due, a_ran, a_responses)) (x : Nat) (hx : x ≤ 60) : wY_admit_117 post (nI c) (nI d) (nI pp) (nI id) (x + 1) (nI id) (nI x) (nI nc) a_periods a_costs a_deadlines a_firsts a_coreOf a_secondOf a_c a_d a_p a_left a_due a_ran a_responses := by
  have vi : vp_in (nI id) 12 := vp_in_nI hid (by omega)
  induction x with
  | zero =>
    unfold wY_admit_117
    rw [nI_clamp (n := id) (by omega)]
    exact br_t (by decide) (br_f (nI_m4 (by omega)) ⟨vi, nm_e ⟨vi, nm_e ⟨vi, nm_e h⟩⟩⟩)
  | succ x ih =>
    exact br_f (nI_nle (by omega) (by omega)) ⟨nc + 1, y_125d n3 (by omega) (ih (by omega)) nc 0 (by omega)⟩
theorem y_125_lp (G : g_ok nc P C D F K S) (R : y_R P C D F K S a_periods a_costs a_deadlines a_firsts a_coreOf a_secondOf) {id c d pp x w v : Nat} (hid : id < 12) (xc : x + 1 < c) (h1 : c ≤ d) (h2 : d ≤ pp) (h3 : sd_pok pp) (hF : g_F (g_T nc P C D F K S id pp c d (x + 1)) nc w) (hv : w < nc → g_F (fun j => j ≠ w ∧ g_S P C D F K S id pp j (c - (x + 1)) (d - (x + 1))) nc v) {post : Int32 → SY → Prop}
    (p1 : w < nc → v < nc → ∀ a_c a_d a_p a_left a_due a_ran a_responses, J117 (nI id) (nI x) (nI nc) a_periods a_costs a_deadlines (upd a_firsts id (nI (x + 1))) (upd a_coreOf id (nI w)) (upd a_secondOf id (nI v)) a_c a_d a_p a_left a_due a_ran a_responses)
    (p0 : w = nc → ∀ a_c a_d a_p a_left a_due a_ran a_responses, J117 (-4) (nI x) (nI nc) a_periods a_costs a_deadlines a_firsts a_coreOf a_secondOf a_c a_d a_p a_left a_due a_ran a_responses) (m : Nat) : ∀ i a_c a_d a_p a_left a_due a_ran a_responses, i + m = nc → i ≤ w → wY_admit_125 post J117 (nI c) (nI d) (nI pp) (nI id) (nI (x + 1)) (m + 1) (-4) (nI i) (nI nc) a_periods a_costs a_deadlines a_firsts a_coreOf a_secondOf a_c a_d a_p a_left a_due a_ran a_responses := by
  obtain ⟨f1, f2, f3⟩ := hF
  have n3 := G.2.1
  have p60 := h3.2.1
  induction m with
  | zero =>
    intro i a_c a_d a_p a_left a_due a_ran a_responses hi hw
    have e : i = nc := by omega
    subst e
    exact br_t (nI_le (Nat.le_refl _) (by omega)) (nm_r (pk_m1 x) (p0 (by omega) _ _ _ _ _ _ _))
  | succ m ih =>
    intro i a_c a_d a_p a_left a_due a_ran a_responses hi hw
    unfold wY_admit_125
    rw [pk_sub (show x + 1 ≤ c by omega), pk_sub (show x + 1 ≤ d by omega)]
    refine br_f (nI_ge (by omega) (by omega)) (br_t rfl (y_takes G R (by omega) (by omega) (Nat.le_refl _) (by omega) h3 (fun r a_c a_d a_p a_left a_due a_ran a_responses hr => ?_)))
    rcases hr with ⟨rfl, s⟩ | ⟨rfl, s⟩
    · obtain ⟨v', hv'⟩ := g_F_ex (fun j => j ≠ i ∧ g_S P C D F K S id pp j (c - (x + 1)) (d - (x + 1))) nc
      refine br_f (by decide) (y_second G R (by omega) (by omega) (by omega) h3 (show i < nc by omega) hv' (fun l a_c a_d a_p a_left a_due a_ran a_responses => ?_) (fun l a_c a_d a_p a_left a_due a_ran a_responses => ?_))
      · have q := hv'.2.2 l
        have e : i = w := by
          by_cases z : i < w
          · exact absurd ⟨s, v', l, q⟩ (f2 i z)
          · omega
        subst e
        have e2 : v' = v := g_F_un hv' (hv (by omega))
        subst e2
        exact br_f (nI_m4 (by omega)) (y_place hid (nm_r (nI_1 i) (y_125d n3 (by omega) (p1 (by omega) l _ _ _ _ _ _ _) m (i + 1) (by omega))))
      · refine br_t rfl (nm_r (nI_1 i) (ih (i + 1) _ _ _ _ _ _ _ (by omega) ?_))
        by_cases z : i = w
        · subst z
          obtain ⟨-, j, j1, j2⟩ := f3 (by omega)
          exact absurd j2 (hv'.2.1 j (by omega))
        · omega
    · refine br_t rfl (nm_r (nI_1 i) (ih (i + 1) _ _ _ _ _ _ _ (by omega) ?_))
      by_cases z : i = w
      · subst z; exact absurd (f3 (by omega)).1 s
      · omega
theorem y_117_lp (G : g_ok nc P C D F K S) (R : y_R P C D F K S a_periods a_costs a_deadlines a_firsts a_coreOf a_secondOf) {id c d pp W w v : Nat} (hid : id < 12) (h1 : c ≤ d) (h2 : d ≤ pp) (h3 : sd_pok pp) (hW : g_W nc P C D F K S id pp c d W w v) {post : Int32 → SY → Prop}
    (p1 : 0 < W → ∀ a_c a_d a_p a_left a_due a_ran a_responses, post (nI id) (nI nc, upd a_periods id (nI pp), upd a_costs id (nI c), upd a_deadlines id (nI d), upd a_firsts id (nI W), upd a_coreOf id (nI w), upd a_secondOf id (nI v), a_c, a_d, a_p, a_left, a_due, a_ran, a_responses))
    (p0 : W = 0 → ∀ a_c a_d a_p a_left a_due a_ran a_responses, post (-4) (nI nc, a_periods, a_costs, a_deadlines, a_firsts, a_coreOf, a_secondOf, a_c, a_d, a_p, a_left, a_due, a_ran, a_responses)) (x : Nat) : ∀ a_c a_d a_p a_left a_due a_ran a_responses, W ≤ x → x ≤ c - 1 → wY_admit_117 post (nI c) (nI d) (nI pp) (nI id) (x + 1) (-4) (nI x) (nI nc) a_periods a_costs a_deadlines a_firsts a_coreOf a_secondOf a_c a_d a_p a_left a_due a_ran a_responses := by
  obtain ⟨⟨m1, m2, m3⟩, hwv⟩ := hW
  have n3 := G.2.1
  have p60 := h3.2.1
  induction x with
  | zero =>
    intro a_c a_d a_p a_left a_due a_ran a_responses l1 l2
    exact br_t (by decide) (br_t rfl (p0 (by omega) _ _ _ _ _ _ _))
  | succ x ih =>
    intro a_c a_d a_p a_left a_due a_ran a_responses l1 l2
    obtain ⟨w', hw'⟩ := g_F_ex (g_T nc P C D F K S id pp c d (x + 1)) nc
    obtain ⟨v', hv'⟩ := g_F_ex (fun j => j ≠ w' ∧ g_S P C D F K S id pp j (c - (x + 1)) (d - (x + 1))) nc
    refine br_f (nI_nle (by omega) (by omega)) ⟨nc + 1, y_125_lp G R hid (by omega) h1 h2 h3 hw' (fun _ => hv') (fun l l' a_c a_d a_p a_left a_due a_ran a_responses => ?_) (fun l a_c a_d a_p a_left a_due a_ran a_responses => ?_) nc 0 _ _ _ _ _ _ _ (by omega) (Nat.zero_le _)⟩
    · have e : W = x + 1 := by
        by_cases z : W < x + 1
        · exact absurd ⟨w', l, hw'.2.2 l⟩ (m3 _ z l2)
        · omega
      subst e
      obtain ⟨q1, q2, q3, q4⟩ := hwv (by omega)
      have e1 : w' = w := g_F_un hw' q2
      subst e1
      have e2 : v' = v := g_F_un hv' q4
      subst e2
      exact y_117d n3 hid (p1 (by omega) _ _ _ _ _ _ _) x (by omega)
    · refine ih _ _ _ _ _ _ _ ?_ (by omega)
      by_cases z : W = x + 1
      · subst z
        rcases m2 with m2 | ⟨i, i1, i2⟩
        · omega
        · exact absurd i2 (hw'.2.1 i (by omega))
      · omega
theorem y_63d {post : Int32 → SY → Prop} {id c d pp : Nat} (n3 : nc ≤ 3) (hid : id < 13) (c0 : 0 < c) (h : ∃ n, wY_admit_117 post (nI c) (nI d) (nI pp) (nI id) n (nI id) (nI (c - 1)) (nI nc) a_periods a_costs a_deadlines a_firsts a_coreOf a_secondOf a_c a_d a_p a_left a_due a_ran a_responses) (m : Nat) : ∀ i, i + m = nc → wY_admit_63 post (nI c) (nI d) (nI pp) (nI id) (m + 1) (nI id) (nI i) (nI nc) a_periods a_costs a_deadlines a_firsts a_coreOf a_secondOf a_c a_d a_p a_left a_due a_ran a_responses := by
  induction m with
  | zero =>
    intro i hi
    have e : i = nc := by omega
    subst e
    exact br_t (nI_le (Nat.le_refl _) (by omega)) (nm_r (pk_sub (b := 1) c0) h)
  | succ m ih =>
    intro i hi
    exact br_f (nI_ge (by omega) (by omega)) (br_f (nI_m4 (by omega)) (nm_r (nI_1 i) (ih (i + 1) (by omega))))
theorem y_63_lp (G : g_ok nc P C D F K S) (R : y_R P C D F K S a_periods a_costs a_deadlines a_firsts a_coreOf a_secondOf) {id c d pp w : Nat} (hid : id < 12) (c0 : 0 < c) (h1 : c ≤ d) (h2 : d ≤ pp) (h3 : sd_pok pp) (hF : g_F (fun k => g_S P C D F K S id pp k c d) nc w) {post : Int32 → SY → Prop}
    (p1 : w < nc → ∀ a_c a_d a_p a_left a_due a_ran a_responses, ∃ n, wY_admit_117 post (nI c) (nI d) (nI pp) (nI id) n (nI id) (nI (c - 1)) (nI nc) a_periods a_costs a_deadlines (upd a_firsts id (nI c)) (upd a_coreOf id (nI w)) (upd a_secondOf id (-4)) a_c a_d a_p a_left a_due a_ran a_responses)
    (p0 : w = nc → ∀ a_c a_d a_p a_left a_due a_ran a_responses, ∃ n, wY_admit_117 post (nI c) (nI d) (nI pp) (nI id) n (-4) (nI (c - 1)) (nI nc) a_periods a_costs a_deadlines a_firsts a_coreOf a_secondOf a_c a_d a_p a_left a_due a_ran a_responses) (m : Nat) : ∀ i a_c a_d a_p a_left a_due a_ran a_responses, i + m = nc → i ≤ w → wY_admit_63 post (nI c) (nI d) (nI pp) (nI id) (m + 1) (-4) (nI i) (nI nc) a_periods a_costs a_deadlines a_firsts a_coreOf a_secondOf a_c a_d a_p a_left a_due a_ran a_responses := by
  obtain ⟨f1, f2, f3⟩ := hF
  have n3 := G.2.1
  induction m with
  | zero =>
    intro i a_c a_d a_p a_left a_due a_ran a_responses hi hw
    have e : i = nc := by omega
    subst e
    exact br_t (nI_le (Nat.le_refl _) (by omega)) (nm_r (pk_sub (b := 1) c0) (p0 (by omega) _ _ _ _ _ _ _))
  | succ m ih =>
    intro i a_c a_d a_p a_left a_due a_ran a_responses hi hw
    refine br_f (nI_ge (by omega) (by omega)) (br_t rfl (y_takes G R (by omega) (by omega) h1 h2 h3 (fun r a_c a_d a_p a_left a_due a_ran a_responses hr => ?_)))
    rcases hr with ⟨rfl, s⟩ | ⟨rfl, s⟩
    · have e : i = w := by
        by_cases z : i < w
        · exact absurd s (f2 i z)
        · omega
      subst e
      exact br_f (by decide) (y_place hid (nm_r (nI_1 i) (y_63d n3 (by omega) c0 (p1 (by omega) _ _ _ _ _ _ _) m (i + 1) (by omega))))
    · refine br_t rfl (nm_r (nI_1 i) (ih (i + 1) _ _ _ _ _ _ _ (by omega) ?_))
      by_cases z : i = w
      · subst z; exact absurd (f3 (by omega)) s
      · omega
end
end
section
/-! the component's plan of a core is the schedule by unit slots -/
def x_A (k : Nat) (c d p : Nat → Nat) (t : Nat) (a_partCore a_left a_release a_slowest : Nat → Int32) : Prop := ∀ i, i < 26 → a_partCore i = nI k → a_left i = nI (sd_L c d p t (i / 2)) ∧ a_release i = nI (sd_R c d p t (i / 2)) ∧ a_slowest i = nI (sd_Z c d p t (i / 2))
/-- q stretches up to time t -/
def x_E (c d p : Nat → Nat) (q t : Nat) (E : Nat → Nat) (a_endOf a_taskIn : Nat → Int32) : Prop := (q = 0 → t = 0) ∧ (0 < q → E (q - 1) = t) ∧ ∀ j, j < q → a_endOf j = nI (E j) ∧ E j ≤ 60 ∧ ∀ s, (j = 0 ∨ E (j - 1) ≤ s) → s < E j → a_taskIn j = e5 (sd_O c d p s)
def x_P (k : Nat) (c d p : Nat → Nat) (f_stretches : Int32) (a_partCore a_endOf a_taskIn a_slowest : Nat → Int32) : Prop := ∃ q E, 0 < q ∧ q ≤ 60 ∧ f_stretches = nI q ∧ x_E c d p q 60 E a_endOf a_taskIn ∧ ∀ i, i < 26 → a_partCore i = nI k → a_slowest i = nI (sd_Z c d p 60 (i / 2))
section
variable {k : Nat} {c d p : Nat → Nat}
variable {f_cores f_tasks f_plannedCore f_stretches : Int32} {a_used a_period a_partCore a_cost a_deadline a_endOf a_taskIn a_left a_release a_slowest : Nat → Int32}
theorem x_51 {post : SX → Prop} {b r pp cc : Nat} (hb : b < 26) (hr : a_release b = nI r) (hp : a_period (b / 2) = nI pp) (hc : a_cost b = nI cc) (r60 : r ≤ 60) (p60 : pp ≤ 60)
    (h : ∀ a_left' a_release', (∀ j, j ≠ b → a_left' j = a_left j ∧ a_release' j = a_release j) → a_left' b = nI (if r + pp < 60 then cc else 0) → a_release' b = nI (r + pp) → post (f_cores, f_tasks, f_plannedCore, f_stretches, a_used, a_period, a_partCore, a_cost, a_deadline, a_endOf, a_taskIn, a_left', a_release', a_slowest)) : wX_advance_51 post (nI b) f_cores f_tasks f_plannedCore f_stretches a_used a_period a_partCore a_cost a_deadline a_endOf a_taskIn a_left a_release a_slowest := by
  have vb : vp_in (nI b) 26 := vp_in_nI hb (by omega)
  have vh : vp_in (nI b / 2) 13 := by rw [x_half (by omega)]; exact vp_in_nI (by omega) (by omega)
  unfold wX_advance_51
  rw [x_halfc (by omega), nI_clamp (n := b) (by omega), hr, hp, hc, nI_add]
  refine ⟨vb, x_2, vh, vb, nm_e ⟨vb, ?_⟩⟩
  rw [pk_us]
  refine pk_le 60 (r + pp) (fun g => ⟨vb, nm_e (h _ _ (fun j hj => ⟨pk_un hj, pk_un hj⟩) ?_ pk_us)⟩) (fun g => ⟨vb, vb, nm_e (h _ _ (fun j hj => ⟨pk_un hj, pk_un hj⟩) ?_ pk_us)⟩)
  · rw [pk_us, if_neg (by omega)]; exact nI_0.symm
  · rw [pk_us, if_pos g]
theorem x_advance {post : SX → Prop} {b l r z pp cc t e : Nat} (hb : b < 26) (hl : a_left b = nI l) (hr : a_release b = nI r) (hz : a_slowest b = nI z) (hp : a_period (b / 2) = nI pp) (hc : a_cost b = nI cc) (p60 : pp ≤ 60) (l60 : l ≤ 60) (z60 : z ≤ 60) (rt : r ≤ t) (te : t < e) (e60 : e ≤ 60) (el : e - t ≤ l)
    (h : ∀ a_left' a_release' a_slowest', (∀ j, j ≠ b → a_left' j = a_left j ∧ a_release' j = a_release j ∧ a_slowest' j = a_slowest j) → (l = e - t → a_left' b = nI (if r + pp < 60 then cc else 0) ∧ a_release' b = nI (r + pp) ∧ a_slowest' b = nI (if z < e - r then e - r else z)) → (e - t < l → a_left' b = nI (l - (e - t)) ∧ a_release' b = nI r ∧ a_slowest' b = nI z) → post (f_cores, f_tasks, f_plannedCore, f_stretches, a_used, a_period, a_partCore, a_cost, a_deadline, a_endOf, a_taskIn, a_left', a_release', a_slowest')) : wpX_advance post (f_cores, f_tasks, f_plannedCore, f_stretches, a_used, a_period, a_partCore, a_cost, a_deadline, a_endOf, a_taskIn, a_left, a_release, a_slowest) (nI b) (nI t) (nI e) := by
  have vb : vp_in (nI b) 26 := vp_in_nI hb (by omega)
  unfold wpX_advance
  dsimp only
  rw [nI_clamp (n := b) (by omega), hl, hr, hz, pk_sub (show t ≤ e by omega), pk_sub el, pk_sub (show r ≤ e by omega)]
  refine ⟨vb, vb, nm_e ⟨vb, ?_⟩⟩
  rw [pk_us]
  refine pk_le (l - (e - t)) 0 (fun g => ⟨vb, nm_e ⟨vb, pk_le (e - r) z (fun g2 => ?_) (fun g2 => ⟨vb, nm_e ?_⟩)⟩⟩) (fun g => h _ _ _ (fun j hj => ⟨pk_un hj, rfl, rfl⟩) (fun y => by omega) (fun _ => ⟨pk_us, hr, hz⟩))
  · refine x_51 hb hr hp hc (by omega) p60 (fun a_left' a_release' q1 q2 q3 => h _ _ _ (fun j hj => ⟨?_, (q1 j hj).2, rfl⟩) (fun _ => ⟨q2, q3, ?_⟩) (fun y => by omega))
    · rw [(q1 j hj).1, pk_un hj]
    · rw [hz, if_neg (by omega)]
  · refine x_51 hb hr hp hc (by omega) p60 (fun a_left' a_release' q1 q2 q3 => h _ _ _ (fun j hj => ⟨?_, (q1 j hj).2, pk_un hj⟩) (fun _ => ⟨q2, q3, ?_⟩) (fun y => by omega))
    · rw [(q1 j hj).1, pk_un hj]
    · rw [pk_us, if_pos g2]
/-- the best part of the core is the best id -/
theorem x_Bn (V : x_V k c d p a_period a_partCore a_cost a_deadline) (ok : sd_ok c d p) {t : Nat} (B : sd_B (fun j => a_partCore j = nI k ∧ sd_pd t (sd_L c d p t) (sd_R c d p t) (j / 2)) (fun j => sd_du d (sd_R c d p t) (j / 2)) 26 none) : sd_O c d p t = none := by
  refine sd_pick_u fun j hj pj => ?_
  have c0 := ((y_bd ok t hj).2 pj.1).1
  rcases V.2.1 j hj c0 with h | h
  · exact B (2 * j) (by omega) ⟨h, by rw [show 2 * j / 2 = j by omega]; exact pj⟩
  · exact B (2 * j + 1) (by omega) ⟨h, by rw [show (2 * j + 1) / 2 = j by omega]; exact pj⟩
theorem x_Bs (V : x_V k c d p a_period a_partCore a_cost a_deadline) (ok : sd_ok c d p) {t b : Nat} (B : sd_B (fun j => a_partCore j = nI k ∧ sd_pd t (sd_L c d p t) (sd_R c d p t) (j / 2)) (fun j => sd_du d (sd_R c d p t) (j / 2)) 26 (some b)) : sd_O c d p t = some (b / 2) := by
  obtain ⟨b1, ⟨b2, b3⟩, b4⟩ := B
  refine sd_pick_u ⟨by omega, b3, fun j hj pj => ?_⟩
  have c0 := ((y_bd ok t hj).2 pj.1).1
  rcases V.2.1 j hj c0 with h | h
  · have := b4 (2 * j) (by omega) ⟨h, by rw [show 2 * j / 2 = j by omega]; exact pj⟩
    dsimp only at this
    rw [show 2 * j / 2 = j by omega] at this
    omega
  · have := b4 (2 * j + 1) (by omega) ⟨h, by rw [show (2 * j + 1) / 2 = j by omega]; exact pj⟩
    dsimp only at this
    rw [show (2 * j + 1) / 2 = j by omega] at this
    omega
theorem x_one (V : x_V k c d p a_period a_partCore a_cost a_deadline) {i j : Nat} (hi : i < 26) (hj : j < 26) (h1 : a_partCore i = nI k) (h2 : a_partCore j = nI k) (e : i / 2 = j / 2) : i = j := by
  by_cases z : i = j
  · exact z
  · have v := V.2.2 (i / 2) (by omega)
    rcases (show (i = 2 * (i / 2) ∧ j = 2 * (i / 2) + 1) ∨ (j = 2 * (i / 2) ∧ i = 2 * (i / 2) + 1) by omega) with ⟨q1, q2⟩ | ⟨q1, q2⟩
    · rw [← q2, ← q1] at v; exact absurd ⟨h1, h2⟩ v
    · rw [← q2, ← q1] at v; exact absurd ⟨h2, h1⟩ v
theorem x_218n {post : Int32 → SX → Prop} {t e q : Nat} (hq : q < 60) (h : post (nI e) (f_cores, f_tasks, f_plannedCore, nI (q + 1), a_used, a_period, a_partCore, a_cost, a_deadline, a_endOf, upd a_taskIn q (-5), a_left, a_release, a_slowest)) : wX_stretch_218 post (nI t) (-1) (nI e) (-5) (nI q) f_cores f_tasks f_plannedCore (nI q) a_used a_period a_partCore a_cost a_deadline a_endOf a_taskIn a_left a_release a_slowest := by
  unfold wX_stretch_218
  rw [nI_clamp (n := q) (by omega)]
  exact ⟨vp_in_nI (by omega) (by omega), nm_e (nm_r (nI_1 q) (br_t (by decide) h))⟩
theorem x_187n {post : Int32 → SX → Prop} {t e q : Nat} (hq : q < 60) (h : post (nI e) (f_cores, f_tasks, f_plannedCore, nI (q + 1), a_used, a_period, a_partCore, a_cost, a_deadline, upd a_endOf q (nI e), upd a_taskIn q (-5), a_left, a_release, a_slowest)) : wX_stretch_187 post (nI t) (-1) (nI e) f_cores f_tasks f_plannedCore (nI q) a_used a_period a_partCore a_cost a_deadline a_endOf a_taskIn a_left a_release a_slowest := by
  unfold wX_stretch_187
  rw [nI_clamp (n := q) (by omega)]
  exact ⟨vp_in_nI (by omega) (by omega), nm_e (br_f (by decide) (x_218n hq h))⟩
theorem x_187s {post : Int32 → SX → Prop} {t e q b : Nat} (hq : q < 60) (hb : b < 26) (h : wpX_advance (fun u => post (nI e) u) (f_cores, f_tasks, f_plannedCore, nI (q + 1), a_used, a_period, a_partCore, a_cost, a_deadline, upd a_endOf q (nI e), upd a_taskIn q (nI (b / 2)), a_left, a_release, a_slowest) (nI b) (nI t) (nI e)) : wX_stretch_187 post (nI t) (nI b) (nI e) f_cores f_tasks f_plannedCore (nI q) a_used a_period a_partCore a_cost a_deadline a_endOf a_taskIn a_left a_release a_slowest := by
  unfold wX_stretch_187
  rw [nI_clamp (n := q) (by omega), x_half (by omega)]
  refine ⟨vp_in_nI (by omega) (by omega), nm_e (br_t (nI_pos' (by omega)) ⟨x_2, ?_⟩)⟩
  unfold wX_stretch_218
  rw [nI_clamp (n := q) (by omega)]
  exact ⟨vp_in_nI (by omega) (by omega), nm_e (nm_r (nI_1 q) (br_f (nI_pos (by omega)) h))⟩
theorem x_str_end (ok : sd_ok c d p) (V : x_V k c d p a_period a_partCore a_cost a_deadline) {t q : Nat} (ht : t < 60) (hq : q < 60) (A : x_A k c d p t a_partCore a_left a_release a_slowest) {post : Int32 → SX → Prop}
    (hp : ∀ e a_left' a_release' a_slowest', t < e → e ≤ 60 → (∀ s, t ≤ s → s < e → sd_O c d p s = sd_O c d p t) → x_A k c d p e a_partCore a_left' a_release' a_slowest' → post (nI e) (f_cores, f_tasks, f_plannedCore, nI (q + 1), a_used, a_period, a_partCore, a_cost, a_deadline, upd a_endOf q (nI e), upd a_taskIn q (e5 (sd_O c d p t)), a_left', a_release', a_slowest'))
    {o : Option Nat} {nx : Nat} (B : sd_B (fun j => a_partCore j = nI k ∧ sd_pd t (sd_L c d p t) (sd_R c d p t) (j / 2)) (fun j => sd_du d (sd_R c d p t) (j / 2)) 26 o) (n1 : t < nx) (n2 : nx ≤ 60) (n3 : ∀ j, j < 13 → 0 < sd_L c d p t j → sd_R c d p t j ≤ t ∨ nx ≤ sd_R c d p t j) :
    ((e1 o < 0 → wX_stretch_187 post (nI t) (e1 o) (nI nx) f_cores f_tasks f_plannedCore (nI q) a_used a_period a_partCore a_cost a_deadline a_endOf a_taskIn a_left a_release a_slowest) ∧ (¬ e1 o < 0 → (vp_in (e1 o) 26 ∧ ((nI nx ≤ nI t + a_left (e1 o).toNatClampNeg → wX_stretch_187 post (nI t) (e1 o) (nI nx) f_cores f_tasks f_plannedCore (nI q) a_used a_period a_partCore a_cost a_deadline a_endOf a_taskIn a_left a_release a_slowest) ∧ (¬ nI nx ≤ nI t + a_left (e1 o).toNatClampNeg → (vp_in (e1 o) 26 ∧ ∀ x5_29 : Int32, x5_29 = nI t + a_left (e1 o).toNatClampNeg → wX_stretch_187 post (nI t) (e1 o) x5_29 f_cores f_tasks f_plannedCore (nI q) a_used a_period a_partCore a_cost a_deadline a_endOf a_taskIn a_left a_release a_slowest)))))) := by
  cases o with
  | none =>
    have eo := x_Bn V ok B
    have id := sd_idle eo
    rw [eo] at hp
    refine br_t (show (-1 : Int32) < 0 by decide) (x_187n hq (hp nx _ _ _ n1 n2 (fun s s1 s2 => ?_) ?_))
    · obtain ⟨j, rfl⟩ : ∃ j, s = t + j := ⟨s - t, by omega⟩
      exact (sd_str_n eo (e := nx) (fun i hi h => by have := n3 i hi h; have := id i hi h; omega) j (by omega)).2 s2
    · obtain ⟨j, rfl⟩ : ∃ j, nx = t + j := ⟨nx - t, by omega⟩
      have z := (sd_str_n eo (e := t + j) (fun i hi h => by have := n3 i hi h; have := id i hi h; omega) j (Nat.le_refl _)).1
      have eL : sd_L c d p (t + j) = sd_L c d p t := congrArg (fun s : sd_T => s.1) z
      have eR : sd_R c d p (t + j) = sd_R c d p t := congrArg (fun s : sd_T => s.2.1) z
      have eZ : sd_Z c d p (t + j) = sd_Z c d p t := congrArg (fun s : sd_T => s.2.2) z
      intro i hi h
      rw [eL, eR, eZ]
      exact A i hi h
  | some b =>
    have eo := x_Bs V ok B
    obtain ⟨b1, ⟨b2, -⟩, -⟩ := B
    obtain ⟨hb, cb, lb, rb, r60, -⟩ := sd_run ok eo
    obtain ⟨k1, k2, k3, k4, k5⟩ := ok (b / 2) hb cb
    obtain ⟨v1, v2, v3, v4⟩ := V.1 b b1 b2
    obtain ⟨a1, a2, a3⟩ := A b b1 b2
    have bd := (y_bd ok t hb).1
    have zb := sd_Z_le c d p t (b / 2)
    rw [eo] at hp
    rw [show (e1 (some b)).toNatClampNeg = b from nI_clamp (by omega), a1, nI_add]
    have vb : vp_in (nI b) 26 := vp_in_nI b1 (by omega)
    have M : ∀ e, t < e → e ≤ nx → e ≤ t + sd_L c d p t (b / 2) → wX_stretch_187 post (nI t) (nI b) (nI e) f_cores f_tasks f_plannedCore (nI q) a_used a_period a_partCore a_cost a_deadline a_endOf a_taskIn a_left a_release a_slowest := by
      intro e e1' e2 e3
      have hn : ∀ i, i < 13 → 0 < sd_L c d p t i → sd_R c d p t i ≤ t ∨ e ≤ sd_R c d p t i := fun i hi h => by have := n3 i hi h; omega
      obtain ⟨s1, s2⟩ := sd_str_e eo e1' e3 hn
      refine x_187s hq b1 (x_advance b1 a1 a2 a3 v4 v2 k4 bd (by omega) rb e1' (by omega) (by omega) (fun a_left' a_release' a_slowest' q1 q2 q3 => hp e _ _ _ e1' (by omega) (fun s w1 w2 => ?_) (fun i hi h => ?_)))
      · obtain ⟨j, rfl⟩ : ∃ j, s = t + j := ⟨s - t, by omega⟩
        exact (sd_str eo e3 hn j w2).1
      · by_cases ib : i = b
        · subst ib
          by_cases y : sd_L c d p t (i / 2) = e - t
          · obtain ⟨z1, z2, z3⟩ := s1 y
            obtain ⟨y1, y2, y3⟩ := q2 y
            rw [z1, z2, z3, sd_us, sd_us, sd_us]
            exact ⟨y1, y2, y3⟩
          · obtain ⟨z1, z2, z3⟩ := s2 (by omega)
            obtain ⟨y1, y2, y3⟩ := q3 (by omega)
            rw [z1, z2, z3, sd_us]
            exact ⟨y1, y2, y3⟩
        · have ne : i / 2 ≠ b / 2 := fun z => ib (x_one V hi b1 h b2 z)
          obtain ⟨x1, x2, x3⟩ := q1 i ib
          rw [x1, x2, x3]
          by_cases y : sd_L c d p t (b / 2) = e - t
          · obtain ⟨z1, z2, z3⟩ := s1 y
            rw [z1, z2, z3, sd_un ne, sd_un ne, sd_un ne]
            exact A i hi h
          · obtain ⟨z1, z2, z3⟩ := s2 (by omega)
            rw [z1, z2, z3, sd_un ne]
            exact A i hi h
    exact br_f (nI_pos (n := b) (by omega)) ⟨vb, pk_le nx (t + sd_L c d p t (b / 2)) (fun g => M nx n1 (Nat.le_refl _) g) (fun g => ⟨vb, nm_e (M _ (by omega) (by omega) (Nat.le_refl _))⟩)⟩
end
end
section
/-! the scan of a stretch, the plan, the look-up -/
section
variable {k : Nat} {c d p : Nat → Nat}
variable {f_cores f_tasks f_plannedCore f_stretches : Int32} {a_used a_period a_partCore a_cost a_deadline a_endOf a_taskIn a_left a_release a_slowest : Nat → Int32}
theorem x_91 (ok : sd_ok c d p) (V : x_V k c d p a_period a_partCore a_cost a_deadline) {t : Nat} (A : x_A k c d p t a_partCore a_left a_release a_slowest) (ht : t < 60) {post : Int32 → SX → Prop} {J9 : Int32 → Int32 → Int32 → Prop} {o : Option Nat} {i : Nat} {y : Int32} (hi : i < 26) (h : a_partCore i = nI k)
    (B : sd_B (fun j => a_partCore j = nI k ∧ sd_pd t (sd_L c d p t) (sd_R c d p t) (j / 2)) (fun j => sd_du d (sd_R c d p t) (j / 2)) i o)
    (J : ∀ o', sd_B (fun j => a_partCore j = nI k ∧ sd_pd t (sd_L c d p t) (sd_R c d p t) (j / 2)) (fun j => sd_du d (sd_R c d p t) (j / 2)) (i + 1) o' → J9 (e1 o') y (nI (i + 1))) : wX_stretch_91 post J9 (nI k) (nI t) (e1 o) y (nI i) f_cores f_tasks f_plannedCore f_stretches a_used a_period a_partCore a_cost a_deadline a_endOf a_taskIn a_left a_release a_slowest := by
  have vi : vp_in (nI i) 26 := vp_in_nI hi (by omega)
  obtain ⟨a1, a2, a3⟩ := A i hi h
  obtain ⟨v1, v2, v3, v4⟩ := V.1 i hi h
  obtain ⟨b1, b2⟩ := y_bd ok t (show i / 2 < 13 by omega)
  obtain ⟨k1, k2, k3, k4, k5⟩ := ok (i / 2) (by omega) v1
  have I := (sd_inv ok t (i / 2) (by omega)).2 v1
  unfold wX_stretch_91
  rw [nI_clamp (n := i) (by omega), a1, a2, v3]
  refine ⟨vi, pk_le (sd_L c d p t (i / 2)) 0 (fun g => nm_r (nI_1 i) (J o (sd_B_no B fun z => ?_))) (fun g => ⟨vi, pk_lt t (sd_R c d p t (i / 2)) (fun g2 => nm_r (nI_1 i) (J o (sd_B_no B fun z => ?_))) (fun g2 => ?_)⟩)⟩
  · have := z.2.1; omega
  · have := z.2.2; omega
  · have Pi : a_partCore i = nI k ∧ sd_pd t (sd_L c d p t) (sd_R c d p t) (i / 2) := ⟨h, g, g2⟩
    cases o with
    | none => exact br_t (show (-1 : Int32) < 0 by decide) (nm_r (nI_1 i) (J (some i) (sd_B_first B Pi)))
    | some b =>
      have hb := B.1
      obtain ⟨pb0, pb1, pb2⟩ := B.2.1
      have vb : vp_in (nI b) 26 := vp_in_nI (by omega) (by omega)
      obtain ⟨c1, c2, c3⟩ := A b (by omega) pb0
      obtain ⟨w1, w2, w3, w4⟩ := V.1 b (by omega) pb0
      obtain ⟨l1, l2, l3, l4, l5⟩ := ok (b / 2) (by omega) w1
      rw [show (e1 (some b)).toNatClampNeg = b from nI_clamp (by omega), c2, w3, nI_add, nI_add]
      have R60 := I.2.1
      exact br_f (nI_pos (n := b) (by omega)) ⟨vi, vi, vb, vb, pk_le (sd_R c d p t (b / 2) + d (b / 2)) (sd_R c d p t (i / 2) + d (i / 2)) (fun g3 => nm_r (nI_1 i) (J (some b) (sd_B_keep B g3))) (fun g3 => nm_r (nI_1 i) (J (some i) (sd_B_new B Pi g3)))⟩
theorem x_str_lp (ok : sd_ok c d p) (V : x_V k c d p a_period a_partCore a_cost a_deadline) {t q : Nat} (ht : t < 60) (hq : q < 60) (nm : ¬ sd_ms c d p t) (A : x_A k c d p t a_partCore a_left a_release a_slowest) {post : Int32 → SX → Prop}
    (hp : ∀ e a_left' a_release' a_slowest', t < e → e ≤ 60 → (∀ s, t ≤ s → s < e → sd_O c d p s = sd_O c d p t) → x_A k c d p e a_partCore a_left' a_release' a_slowest' → post (nI e) (f_cores, f_tasks, f_plannedCore, nI (q + 1), a_used, a_period, a_partCore, a_cost, a_deadline, upd a_endOf q (nI e), upd a_taskIn q (e5 (sd_O c d p t)), a_left', a_release', a_slowest')) (m : Nat) :
    ∀ i o nx, i + m = 26 → sd_B (fun j => a_partCore j = nI k ∧ sd_pd t (sd_L c d p t) (sd_R c d p t) (j / 2)) (fun j => sd_du d (sd_R c d p t) (j / 2)) i o → t < nx → nx ≤ 60 → (∀ j, j < i → a_partCore j = nI k → 0 < sd_L c d p t (j / 2) → sd_R c d p t (j / 2) ≤ t ∨ nx ≤ sd_R c d p t (j / 2)) → wX_stretch_9 post (nI k) (nI t) f_cores f_tasks f_plannedCore (nI q) a_used a_period a_partCore a_cost a_deadline a_endOf a_taskIn a_left a_release a_slowest (m + 1) (e1 o) (nI nx) (nI i) := by
  induction m with
  | zero =>
    intro i o nx hi B n1 n2 n3
    have e : i = 26 := by omega
    subst e
    refine br_t (nI_le (a := 26) (b := 26) (by omega) (by omega)) (x_str_end ok V ht hq A hp B n1 n2 (fun j hj h => ?_))
    have c0 := ((y_bd ok t hj).2 h).1
    rcases V.2.1 j hj c0 with g | g
    · have := n3 (2 * j) (by omega) g
      rw [show 2 * j / 2 = j by omega] at this
      exact this h
    · have := n3 (2 * j + 1) (by omega) g
      rw [show (2 * j + 1) / 2 = j by omega] at this
      exact this h
  | succ m ih =>
    intro i o nx hi B n1 n2 n3
    have vi : vp_in (nI i) 26 := vp_in_nI (by omega) (by omega)
    have vh : vp_in (nI i / 2) 13 := by rw [x_half (by omega)]; exact vp_in_nI (by omega) (by omega)
    refine br_f (nI_ge (b := 26) (by omega) (by omega)) ⟨vi, ?_⟩
    rw [nI_clamp (n := i) (by omega)]
    by_cases h : a_partCore i = nI k
    · obtain ⟨a1, a2, a3⟩ := A i (by omega) h
      obtain ⟨v1, v2, v3, v4⟩ := V.1 i (by omega) h
      obtain ⟨b1, b2⟩ := y_bd ok t (show i / 2 < 13 by omega)
      obtain ⟨k1, k2, k3, k4, k5⟩ := ok (i / 2) (by omega) v1
      obtain ⟨i1, i2, i3, i4, i5, i6, i7⟩ := (sd_inv ok t (i / 2) (by omega)).2 v1
      have Q : ∀ z, t < z → z < 200 → (0 < sd_L c d p t (i / 2) → sd_R c d p t (i / 2) ≤ t ∨ z ≤ sd_R c d p t (i / 2)) → wX_stretch_78 post (wX_stretch_9 post (nI k) (nI t) f_cores f_tasks f_plannedCore (nI q) a_used a_period a_partCore a_cost a_deadline a_endOf a_taskIn a_left a_release a_slowest (m + 1)) (nI k) (nI t) (e1 o) (nI nx) (nI i) (nI z) f_cores f_tasks f_plannedCore (nI q) a_used a_period a_partCore a_cost a_deadline a_endOf a_taskIn a_left a_release a_slowest := by
        intro z z1 z2 z3
        unfold wX_stretch_78
        refine pk_le nx z (fun g => x_91 ok V A ht (by omega) h B (fun o' B' => ih (i + 1) o' nx (by omega) B' n1 n2 (fun j hj y w => ?_))) (fun g => x_91 ok V A ht (by omega) h B (fun o' B' => ih (i + 1) o' z (by omega) B' z1 (by omega) (fun j hj y w => ?_)))
        · by_cases ji : j = i
          · subst ji; have := z3 w; omega
          · exact n3 j (by omega) y w
        · by_cases ji : j = i
          · subst ji; exact z3 w
          · have := n3 j (by omega) y w
            omega
      have Q2 : (sd_R c d p t (i / 2) ≤ t ∨ sd_L c d p t (i / 2) = 0) → wX_stretch_61 post (wX_stretch_9 post (nI k) (nI t) f_cores f_tasks f_plannedCore (nI q) a_used a_period a_partCore a_cost a_deadline a_endOf a_taskIn a_left a_release a_slowest (m + 1)) (nI k) (nI t) (e1 o) (nI nx) (nI i) f_cores f_tasks f_plannedCore (nI q) a_used a_period a_partCore a_cost a_deadline a_endOf a_taskIn a_left a_release a_slowest := by
        intro y
        unfold wX_stretch_61
        rw [x_halfc (by omega), nI_clamp (n := i) (by omega), a2, v4, nI_add]
        refine ⟨vi, x_2, vh, Q _ ?_ (by omega) (fun w => Or.inl (by omega))⟩
        by_cases z : sd_L c d p t (i / 2) = 0
        · by_cases r : sd_R c d p t (i / 2) < 60
          · have := i4 r; omega
          · omega
        · by_cases w : t < sd_R c d p t (i / 2) + d (i / 2)
          · omega
          · exact absurd ⟨i / 2, by omega, by omega, by omega⟩ nm
      refine br_t h ⟨vi, ?_⟩
      rw [a1, a2]
      refine pk_le (sd_L c d p t (i / 2)) 0 (fun g => Q2 (Or.inr (by omega))) (fun g => ⟨vi, pk_le (sd_R c d p t (i / 2)) t (fun g2 => Q2 (Or.inl g2)) (fun g2 => ⟨vi, Q _ g2 (by omega) (fun _ => Or.inr (Nat.le_refl _))⟩)⟩)
    · refine br_f h (nm_r (nI_1 i) (ih (i + 1) o nx (by omega) (sd_B_no B fun z => h z.1) n1 n2 (fun j hj y w => ?_)))
      by_cases ji : j = i
      · subst ji; exact absurd y h
      · exact n3 j (by omega) y w
theorem x_stretch (ok : sd_ok c d p) (V : x_V k c d p a_period a_partCore a_cost a_deadline) {t q : Nat} (ht : t < 60) (hq : q < 60) (nm : ¬ sd_ms c d p t) (A : x_A k c d p t a_partCore a_left a_release a_slowest) {post : Int32 → SX → Prop}
    (hp : ∀ e a_left' a_release' a_slowest', t < e → e ≤ 60 → (∀ s, t ≤ s → s < e → sd_O c d p s = sd_O c d p t) → x_A k c d p e a_partCore a_left' a_release' a_slowest' → post (nI e) (f_cores, f_tasks, f_plannedCore, nI (q + 1), a_used, a_period, a_partCore, a_cost, a_deadline, upd a_endOf q (nI e), upd a_taskIn q (e5 (sd_O c d p t)), a_left', a_release', a_slowest')) : wpX_stretch post (f_cores, f_tasks, f_plannedCore, nI q, a_used, a_period, a_partCore, a_cost, a_deadline, a_endOf, a_taskIn, a_left, a_release, a_slowest) (nI k) (nI t) :=
  ⟨27, x_str_lp ok V ht hq nm A hp 26 0 none 60 rfl sd_B_0 ht (Nat.le_refl _) (fun j hj => absurd hj (Nat.not_lt_zero j))⟩
theorem x_E_add {q t e : Nat} {E : Nat → Nat} (H : x_E c d p q t E a_endOf a_taskIn) (he : e ≤ 60) (hs : ∀ s, t ≤ s → s < e → sd_O c d p s = sd_O c d p t) : x_E c d p (q + 1) e (sd_u E q e) (upd a_endOf q (nI e)) (upd a_taskIn q (e5 (sd_O c d p t))) := by
  obtain ⟨h1, h2, h3⟩ := H
  refine ⟨fun z => by omega, fun _ => sd_us, fun j hj => ?_⟩
  by_cases jq : j = q
  · subst jq
    rw [pk_us, pk_us, sd_us]
    refine ⟨rfl, he, fun s s1 s2 => ?_⟩
    rw [hs s ?_ s2]
    rcases s1 with s1 | s1
    · have := h1 s1; omega
    · by_cases z : j = 0
      · have := h1 z; omega
      · rw [sd_un (by omega), h2 (by omega)] at s1
        exact s1
  · obtain ⟨a1, a2, a3⟩ := h3 j (by omega)
    rw [pk_un jq, pk_un jq, sd_un jq]
    refine ⟨a1, a2, fun s s1 s2 => a3 s ?_ s2⟩
    rw [sd_un (by omega)] at s1
    exact s1
theorem x_plan_lp (ok : sd_ok c d p) (V : x_V k c d p a_period a_partCore a_cost a_deadline) (Sc : sd_Sc c d p) {post : SX → Prop}
    (hp : ∀ f_stretches a_endOf a_taskIn a_left a_release a_slowest, x_P k c d p f_stretches a_partCore a_endOf a_taskIn a_slowest → post (f_cores, f_tasks, f_plannedCore, f_stretches, a_used, a_period, a_partCore, a_cost, a_deadline, a_endOf, a_taskIn, a_left, a_release, a_slowest)) (n : Nat) :
    ∀ t q E a_endOf a_taskIn a_left a_release a_slowest, 60 - t < n → q ≤ t → t ≤ 60 → x_A k c d p t a_partCore a_left a_release a_slowest → x_E c d p q t E a_endOf a_taskIn → wX_plan_77 post (nI k) n (nI t) (nI q) f_cores f_tasks f_plannedCore (nI q) a_used a_period a_partCore a_cost a_deadline a_endOf a_taskIn a_left a_release a_slowest := by
  induction n with
  | zero => intro t q E a_endOf a_taskIn a_left a_release a_slowest h; omega
  | succ n ih =>
    intro t q E a_endOf a_taskIn a_left a_release a_slowest h1 h2 h3 A H
    have fin : t = 60 → post (f_cores, f_tasks, f_plannedCore, nI q, a_used, a_period, a_partCore, a_cost, a_deadline, a_endOf, a_taskIn, a_left, a_release, a_slowest) := by
      intro e
      subst e
      refine hp _ _ _ _ _ _ ⟨q, E, Nat.pos_of_ne_zero fun z => ?_, h2, rfl, H, fun i hi h => (A i hi h).2.2⟩
      have := H.1 z
      omega
    exact pk_le 60 q (fun g => fin (by omega)) (fun g => pk_le 60 t (fun g2 => fin (by omega)) (fun g2 => x_stretch ok V g2 g (sd_nomiss ok Sc h3) A (fun e a_left' a_release' a_slowest' e1 e2 e3 A' => nm_r (nI_1 q) (ih e (q + 1) _ _ _ _ _ _ (by omega) (by omega) e2 A' (x_E_add H e2 e3)))))
theorem x_plan_i (ok : sd_ok c d p) (V : x_V k c d p a_period a_partCore a_cost a_deadline) (Sc : sd_Sc c d p) {post : SX → Prop}
    (hp : ∀ f_stretches a_endOf a_taskIn a_left a_release a_slowest, x_P k c d p f_stretches a_partCore a_endOf a_taskIn a_slowest → post (f_cores, f_tasks, f_plannedCore, f_stretches, a_used, a_period, a_partCore, a_cost, a_deadline, a_endOf, a_taskIn, a_left, a_release, a_slowest)) (m : Nat) :
    ∀ i a_left a_release a_slowest, i + m = 26 → (∀ j, j < i → a_partCore j = nI k → a_left j = nI (c (j / 2)) ∧ a_release j = 0 ∧ a_slowest j = 0) → wX_plan_21 post (nI k) f_cores f_tasks f_plannedCore 0 (m + 1) (nI i) a_used a_period a_partCore a_cost a_deadline a_endOf a_taskIn a_left a_release a_slowest := by
  induction m with
  | zero =>
    intro i a_left a_release a_slowest hi I
    have e : i = 26 := by omega
    subst e
    refine br_t (nI_le (a := 26) (b := 26) (by omega) (by omega)) ⟨61, x_plan_lp ok V Sc hp 61 0 0 (fun _ => 0) _ _ _ _ _ (by omega) (Nat.le_refl _) (by omega) (fun j hj h => ?_) ⟨fun _ => rfl, fun z => absurd z (Nat.lt_irrefl 0), fun j hj => absurd hj (Nat.not_lt_zero j)⟩⟩
    obtain ⟨i1, i2, i3⟩ := I j hj h
    exact ⟨i1, i2.trans nI_0.symm, i3.trans nI_0.symm⟩
  | succ m ih =>
    intro i a_left a_release a_slowest hi I
    have vi : vp_in (nI i) 26 := vp_in_nI (by omega) (by omega)
    have Q : ∀ z : Int32, (a_partCore i = nI k → z = nI (c (i / 2))) → wX_plan_52 post (wX_plan_21 post (nI k) f_cores f_tasks f_plannedCore 0 (m + 1)) (nI k) (nI i) z (nI i) f_cores f_tasks f_plannedCore 0 a_used a_period a_partCore a_cost a_deadline a_endOf a_taskIn a_left a_release a_slowest := by
      intro z hz
      unfold wX_plan_52
      rw [nI_clamp (n := i) (by omega)]
      refine ⟨vi, nm_e ⟨vi, nm_e ⟨vi, nm_e (nm_r (nI_1 i) (ih (i + 1) _ _ _ (by omega) (fun j hj h => ?_)))⟩⟩⟩
      by_cases ji : j = i
      · subst ji
        rw [pk_us, pk_us, pk_us]
        exact ⟨hz h, rfl, rfl⟩
      · rw [pk_un ji, pk_un ji, pk_un ji]
        exact I j (by omega) h
    refine br_f (nI_ge (b := 26) (by omega) (by omega)) ⟨vi, ?_⟩
    rw [nI_clamp (n := i) (by omega)]
    exact br_c (fun h => ⟨vi, Q _ (fun _ => (V.1 i (by omega) h).2.1)⟩) (fun h => Q _ (fun y => absurd y h))
theorem x_plan (ok : sd_ok c d p) (V : x_V k c d p a_period a_partCore a_cost a_deadline) (Sc : sd_Sc c d p) (h : f_plannedCore = nI k → x_P k c d p f_stretches a_partCore a_endOf a_taskIn a_slowest) {post : SX → Prop}
    (hp : ∀ f_stretches a_endOf a_taskIn a_left a_release a_slowest, x_P k c d p f_stretches a_partCore a_endOf a_taskIn a_slowest → post (f_cores, f_tasks, nI k, f_stretches, a_used, a_period, a_partCore, a_cost, a_deadline, a_endOf, a_taskIn, a_left, a_release, a_slowest)) : wpX_plan post (f_cores, f_tasks, f_plannedCore, f_stretches, a_used, a_period, a_partCore, a_cost, a_deadline, a_endOf, a_taskIn, a_left, a_release, a_slowest) (nI k) := by
  unfold wpX_plan
  refine br_c (fun e => ?_) (fun _ => ⟨27, x_plan_i ok V Sc hp 26 0 _ _ _ rfl (fun j hj => absurd hj (Nat.not_lt_zero j))⟩)
  subst e
  exact hp _ _ _ _ _ _ (h rfl)
theorem x_look {q : Nat} {E : Nat → Nat} (q0 : 0 < q) (q60 : q ≤ 60) (H : x_E c d p q 60 E a_endOf a_taskIn) {s : Nat} (hs : s < 60) {post : Int32 → SX → Prop} (hp : post (e5 (sd_O c d p s)) (f_cores, f_tasks, f_plannedCore, nI q, a_used, a_period, a_partCore, a_cost, a_deadline, a_endOf, a_taskIn, a_left, a_release, a_slowest)) (m : Nat) : ∀ j, j + m = q - 1 → (j = 0 ∨ E (j - 1) ≤ s) → wX_running_31 post (nI s) f_cores f_tasks f_plannedCore (nI q) a_used a_period a_partCore a_cost a_deadline a_endOf a_taskIn a_left a_release a_slowest (m + 1) (nI j) := by
  obtain ⟨h1, h2, h3⟩ := H
  induction m with
  | zero =>
    intro j hj I
    have e : j = q - 1 := by omega
    subst e
    obtain ⟨a1, a2, a3⟩ := h3 (q - 1) (by omega)
    unfold wX_running_31
    rw [nI_clamp (n := q - 1) (by omega), show (1 : Int32) = nI 1 from rfl, pk_sub (show 1 ≤ q by omega), a3 s I (by rw [h2 q0]; exact hs)]
    exact br_t (nI_le (Nat.le_refl _) (by omega)) ⟨vp_in_nI (by omega) (by omega), hp⟩
  | succ m ih =>
    intro j hj I
    obtain ⟨a1, a2, a3⟩ := h3 j (by omega)
    have vj : vp_in (nI j) 64 := vp_in_nI (by omega) (by omega)
    unfold wX_running_31
    rw [nI_clamp (n := j) (by omega), a1]
    refine br_f ?_ ⟨vj, pk_lt s (E j) (fun g => ⟨vj, ?_⟩) (fun g => nm_r (nI_1 j) (ih (j + 1) (by omega) (Or.inr g)))⟩
    · rw [show (1 : Int32) = nI 1 from rfl, pk_sub (show 1 ≤ q by omega)]
      exact nI_ge (by omega) (by omega)
    · rw [a3 s I g]; exact hp
end
end
section
/-! what a placing and a removal do to the tasks -/
section
variable {nc : Nat} {P C D F K S : Nat → Nat} {id pp c d f a b : Nat}
theorem g_ok_new (G : g_ok nc P C D F K S) (hid : id < 12) (hp : sd_pok pp) (ha : a < nc) (hf : 0 < f) (h1 : c ≤ d) (h2 : d ≤ pp) (hb : (b = 3 ∧ f = c) ∨ (b < nc ∧ b ≠ a ∧ f < c)) : g_ok nc (sd_u P id pp) (sd_u C id c) (sd_u D id d) (sd_u F id f) (sd_u K id a) (sd_u S id b) := by
  obtain ⟨g1, g2, g3⟩ := G
  refine ⟨g1, g2, fun i hi => ?_⟩
  by_cases e : i = id
  · subst e
    rw [sd_us, sd_us, sd_us, sd_us, sd_us, sd_us]
    exact Or.inr ⟨hid, hp, ha, hf, h1, h2, hb⟩
  · rw [sd_un e, sd_un e, sd_un e, sd_un e, sd_un e, sd_un e]
    exact g3 i hi
theorem g_cn {k i : Nat} (e : i ≠ id) : g_c (sd_u C id c) (sd_u F id f) (sd_u K id a) (sd_u S id b) k i = g_c C F K S k i := by
  unfold g_c
  rw [sd_un e, sd_un e, sd_un e, sd_un e]
theorem g_dn {k i : Nat} (e : i ≠ id) : g_d (sd_u D id d) (sd_u F id f) (sd_u K id a) (sd_u S id b) k i = g_d D F K S k i := by
  unfold g_d
  rw [sd_un e, sd_un e, sd_un e, sd_un e]
theorem g_cs {k : Nat} : g_c (sd_u C id c) (sd_u F id f) (sd_u K id a) (sd_u S id b) k id = if a = k then f else if b = k then c - f else 0 := by
  unfold g_c
  rw [sd_us, sd_us, sd_us, sd_us]
theorem g_ds {k : Nat} : g_d (sd_u D id d) (sd_u F id f) (sd_u K id a) (sd_u S id b) k id = if a = k then (if b = 3 then d else f) else d - f := by
  unfold g_d
  rw [sd_us, sd_us, sd_us, sd_us]
theorem g_Sc_new (n3 : nc ≤ 3) (H : ∀ k, k < nc → sd_Sc (g_c C F K S k) (g_d D F K S k) P) (hab : a ≠ b) (h1 : g_S P C D F K S id pp a f (if b = 3 then d else f)) (h2 : b < nc → g_S P C D F K S id pp b (c - f) (d - f)) : ∀ k, k < nc → sd_Sc (g_c (sd_u C id c) (sd_u F id f) (sd_u K id a) (sd_u S id b) k) (g_d (sd_u D id d) (sd_u F id f) (sd_u K id a) (sd_u S id b) k) (sd_u P id pp) := by
  intro k hk
  by_cases ka : a = k
  · subst ka
    refine sd_Sc_mono (fun i hi => ?_) h1
    by_cases e : i = id
    · subst e
      rw [g_cs, g_ds, if_pos rfl, if_pos rfl, sd_us, sd_us]
      exact ⟨Nat.le_refl _, fun _ => ⟨rfl, rfl⟩⟩
    · rw [g_cn e, g_dn e, sd_un e, sd_un e]
      exact ⟨Nat.le_refl _, fun _ => ⟨rfl, rfl⟩⟩
  · by_cases kb : b = k
    · subst kb
      refine sd_Sc_mono (fun i hi => ?_) (h2 hk)
      by_cases e : i = id
      · subst e
        rw [g_cs, g_ds, if_neg ka, if_neg ka, if_pos rfl, sd_us, sd_us]
        exact ⟨Nat.le_refl _, fun _ => ⟨rfl, rfl⟩⟩
      · rw [g_cn e, g_dn e, sd_un e, sd_un e]
        exact ⟨Nat.le_refl _, fun _ => ⟨rfl, rfl⟩⟩
    · refine sd_Sc_mono (fun i hi => ?_) (H k hk)
      by_cases e : i = id
      · subst e
        rw [g_cs, if_neg ka, if_neg kb]
        exact ⟨Nat.zero_le _, fun z => absurd z (Nat.lt_irrefl 0)⟩
      · rw [g_cn e, g_dn e, sd_un e]
        exact ⟨Nat.le_refl _, fun _ => ⟨rfl, rfl⟩⟩
theorem g_ok_del (G : g_ok nc P C D F K S) : g_ok nc (sd_u P id 0) C D F (sd_u K id 3) (sd_u S id 3) := by
  obtain ⟨g1, g2, g3⟩ := G
  refine ⟨g1, g2, fun i hi => ?_⟩
  by_cases e : i = id
  · subst e
    rw [sd_us, sd_us, sd_us]
    exact Or.inl ⟨rfl, rfl, rfl⟩
  · rw [sd_un e, sd_un e, sd_un e]
    exact g3 i hi
theorem g_Sc_del (n3 : nc ≤ 3) (H : ∀ k, k < nc → sd_Sc (g_c C F K S k) (g_d D F K S k) P) : ∀ k, k < nc → sd_Sc (g_c C F (sd_u K id 3) (sd_u S id 3) k) (g_d D F (sd_u K id 3) (sd_u S id 3) k) (sd_u P id 0) := by
  intro k hk
  refine sd_Sc_mono (fun i hi => ?_) (H k hk)
  unfold g_c g_d
  by_cases e : i = id
  · subst e
    rw [sd_us, sd_us, if_neg (show ¬ 3 = k by omega), if_neg (show ¬ 3 = k by omega)]
    exact ⟨Nat.zero_le _, fun z => absurd z (Nat.lt_irrefl 0)⟩
  · rw [sd_un e, sd_un e, sd_un e]
    exact ⟨Nat.le_refl _, fun _ => ⟨rfl, rfl⟩⟩
section
variable {f_cores f_tasks f_plannedCore f_stretches : Int32} {a_used a_period a_partCore a_cost a_deadline a_endOf a_taskIn a_left a_release a_slowest : Nat → Int32}
theorem x_R_new {a_partCore' a_cost' a_deadline' : Nat → Int32} (R : x_R P C D F K S a_used a_period a_partCore a_cost a_deadline) (hid : id < 12) (p0 : pp ≠ 0) (per : a_period id = nI pp) (q : ∀ j, j ≠ 2 * id → j ≠ 2 * id + 1 → a_partCore' j = a_partCore j ∧ a_cost' j = a_cost j ∧ a_deadline' j = a_deadline j)
    (h1 : a_partCore' (2 * id) = sx a) (h2 : a_partCore' (2 * id + 1) = sx b) (h3 : a_cost' (2 * id) = nI f) (h4 : a_deadline' (2 * id) = nI (if b = 3 then d else f)) (h5 : b ≠ 3 → a_cost' (2 * id + 1) = nI (c - f) ∧ a_deadline' (2 * id + 1) = nI (d - f)) : x_R (sd_u P id pp) (sd_u C id c) (sd_u D id d) (sd_u F id f) (sd_u K id a) (sd_u S id b) (upd a_used id 1) a_period a_partCore' a_cost' a_deadline' := by
  intro i hi
  by_cases e : i = id
  · subst e
    rw [sd_us, sd_us, sd_us, sd_us, sd_us, sd_us, pk_us, if_neg p0]
    exact ⟨rfl, h1, h2, fun _ => ⟨per, h3, h4, h5⟩⟩
  · rw [sd_un e, sd_un e, sd_un e, sd_un e, sd_un e, sd_un e, pk_un e]
    obtain ⟨e1, e2, e3⟩ := q (2 * i) (by omega) (by omega)
    obtain ⟨o1, o2, o3⟩ := q (2 * i + 1) (by omega) (by omega)
    rw [e1, e2, e3, o1, o2, o3]
    exact R i hi
theorem x_R_del (R : x_R P C D F K S a_used a_period a_partCore a_cost a_deadline) : x_R (sd_u P id 0) C D F (sd_u K id 3) (sd_u S id 3) (upd a_used id 0) a_period (upd (upd a_partCore (2 * id) (-1)) (2 * id + 1) (-1)) a_cost a_deadline := by
  intro i hi
  by_cases e : i = id
  · subst e
    rw [sd_us, sd_us, sd_us, pk_us, pk_us, pk_un (by omega), pk_us, if_pos rfl]
    exact ⟨rfl, rfl, rfl, fun z => absurd rfl z⟩
  · rw [sd_un e, sd_un e, sd_un e, pk_un e, pk_un (by omega), pk_un (by omega), pk_un (by omega), pk_un (by omega)]
    exact R i hi
end
section
variable {f_cores : Int32} {a_periods a_costs a_deadlines a_firsts a_coreOf a_secondOf a_c a_d a_p a_left a_due a_ran a_responses : Nat → Int32}
theorem y_R_new (R : y_R P C D F K S a_periods a_costs a_deadlines a_firsts a_coreOf a_secondOf) : y_R (sd_u P id pp) (sd_u C id c) (sd_u D id d) (sd_u F id f) (sd_u K id a) (sd_u S id b) (upd a_periods id (nI pp)) (upd a_costs id (nI c)) (upd a_deadlines id (nI d)) (upd a_firsts id (nI f)) (upd a_coreOf id (nI a)) (upd a_secondOf id (sy b)) := by
  intro i hi
  by_cases e : i = id
  · subst e
    rw [sd_us, sd_us, sd_us, sd_us, sd_us, sd_us, pk_us, pk_us, pk_us, pk_us, pk_us, pk_us]
    exact ⟨rfl, fun _ => ⟨rfl, rfl, rfl, rfl, rfl⟩⟩
  · rw [sd_un e, sd_un e, sd_un e, sd_un e, sd_un e, sd_un e, pk_un e, pk_un e, pk_un e, pk_un e, pk_un e, pk_un e]
    exact R i hi
theorem y_R_del (R : y_R P C D F K S a_periods a_costs a_deadlines a_firsts a_coreOf a_secondOf) : y_R (sd_u P id 0) C D F (sd_u K id 3) (sd_u S id 3) (upd a_periods id 0) a_costs a_deadlines a_firsts a_coreOf a_secondOf := by
  intro i hi
  by_cases e : i = id
  · subst e
    rw [sd_us, sd_us, sd_us, pk_us]
    exact ⟨nI_0.symm, fun z => absurd rfl z⟩
  · rw [sd_un e, sd_un e, sd_un e, pk_un e]
    exact R i hi
end
end
end
section
/-! the taking of a task by either side, by its outcome -/
section
variable {nc : Nat} {P C D F K S : Nat → Nat} {id c d pp w W w2 v2 : Nat}
section
variable {f_cores f_tasks f_plannedCore f_stretches : Int32} {a_used a_period a_partCore a_cost a_deadline a_endOf a_taskIn a_left a_release a_slowest : Nat → Int32}
theorem x_107_1 {post : Int32 → SX → Prop} {n : Nat} (hid : id < 13) (h : post (nI id) (f_cores, nI (n + 1), -1, f_stretches, upd a_used id 1, a_period, a_partCore, a_cost, a_deadline, a_endOf, a_taskIn, a_left, a_release, a_slowest)) : wX_admit_107 post (nI id) 1 f_cores (nI n) f_plannedCore f_stretches a_used a_period a_partCore a_cost a_deadline a_endOf a_taskIn a_left a_release a_slowest := by
  unfold wX_admit_107
  rw [nI_clamp (n := id) (by omega)]
  exact br_f (by decide) ⟨vp_in_nI hid (by omega), nm_e (nm_r (nI_1 n) h)⟩
theorem x_admit (G : g_ok nc P C D F K S) (R : x_R P C D F K S a_used a_period a_partCore a_cost a_deadline) (hid : id < 12) (hI : g_F (fun i => P i = 0) 12 id) (c0 : 0 < c) (h1 : c ≤ d) (h2 : d ≤ pp) (h3 : sd_pok pp) (hF : g_F (fun k => g_S P C D F K S id pp k c d) nc w) (hW : g_W nc P C D F K S id pp c d W w2 v2) {post : Int32 → SX → Prop}
    (p1 : w < nc → ∀ a_cost a_deadline, x_R P C D F K S a_used (upd a_period id (nI pp)) a_partCore a_cost a_deadline → post (nI id) (nI nc, nI (g_n P + 1), -1, f_stretches, upd a_used id 1, upd a_period id (nI pp), upd a_partCore (2 * id) (nI w), upd a_cost (2 * id) (nI c), upd a_deadline (2 * id) (nI d), a_endOf, a_taskIn, a_left, a_release, a_slowest))
    (p2 : w = nc → 0 < W → ∀ a_cost a_deadline, x_R P C D F K S a_used (upd a_period id (nI pp)) a_partCore a_cost a_deadline → post (nI id) (nI nc, nI (g_n P + 1), -1, f_stretches, upd a_used id 1, upd a_period id (nI pp), upd (upd a_partCore (2 * id) (nI w2)) (2 * id + 1) (nI v2), upd (upd a_cost (2 * id) (nI W)) (2 * id + 1) (nI (c - W)), upd (upd a_deadline (2 * id) (nI W)) (2 * id + 1) (nI (d - W)), a_endOf, a_taskIn, a_left, a_release, a_slowest))
    (p3 : w = nc → W = 0 → ∀ a_cost a_deadline, x_R P C D F K S a_used (upd a_period id (nI pp)) a_partCore a_cost a_deadline → post (-4) (nI nc, nI (g_n P), f_plannedCore, f_stretches, a_used, upd a_period id (nI pp), a_partCore, a_cost, a_deadline, a_endOf, a_taskIn, a_left, a_release, a_slowest)) : wpX_admit post (nI nc, nI (g_n P), f_plannedCore, f_stretches, a_used, a_period, a_partCore, a_cost, a_deadline, a_endOf, a_taskIn, a_left, a_release, a_slowest) (nI c) (nI d) (nI pp) := by
  have p60 := h3.2.1
  have h0 : P id = 0 := hI.2.2 hid
  have gn := g_n_lt hid h0
  have wm := hW.1.1
  unfold wpX_admit
  refine x_badPeriod0 h3 (br_t rfl (br_f (nI_nlt (a := c) (b := 1) (by omega) (by omega)) (br_f (nI_nlt (by omega) (by omega)) (br_f (nI_nlt (a := d) (b := 1) (by omega) (by omega)) (br_f (nI_nlt (by omega) (by omega)) (br_t (nI_le h1 (by omega)) (br_t (nI_lt (b := 12) gn (by omega)) (x_freeId R hI ⟨vp_in_nI (by omega) (by omega), ?_⟩))))))))
  rw [nI_clamp (n := id) (by omega)]
  refine nm_e (x_placeWhole G (x_Rper R h0) (by omega) h0 pk_us c0 h1 h2 h3 hF (fun l a_cost a_deadline R' => nm_r (pk_sub (b := 1) c0) ⟨1, x_78_e (x_107_1 (by omega) (p1 l _ _ R')) 0⟩) (fun l a_cost a_deadline R' => nm_r (pk_sub (b := 1) c0) ⟨c - 1 + 2, x_admit_lp G (by omega) h0 pk_us h1 h2 h3 hW (fun y a_cost a_deadline R2 => x_107_1 (by omega) (p2 l y _ _ R2)) (fun y a_cost a_deadline R2 => ?_) (c - 1) _ _ wm (Nat.le_refl _) R'⟩))
  unfold wX_admit_107
  exact br_t rfl (p3 l y _ _ R2)
end
section
variable {f_cores : Int32} {a_periods a_costs a_deadlines a_firsts a_coreOf a_secondOf a_c a_d a_p a_left a_due a_ran a_responses : Nat → Int32}
theorem y_admit (G : g_ok nc P C D F K S) (R : y_R P C D F K S a_periods a_costs a_deadlines a_firsts a_coreOf a_secondOf) (hid : id < 12) (hI : g_F (fun i => P i = 0) 12 id) (c0 : 0 < c) (h1 : c ≤ d) (h2 : d ≤ pp) (h3 : sd_pok pp) (hF : g_F (fun k => g_S P C D F K S id pp k c d) nc w) (hW : g_W nc P C D F K S id pp c d W w2 v2) {post : Int32 → SY → Prop}
    (p1 : w < nc → ∀ a_c a_d a_p a_left a_due a_ran a_responses, post (nI id) (nI nc, upd a_periods id (nI pp), upd a_costs id (nI c), upd a_deadlines id (nI d), upd a_firsts id (nI c), upd a_coreOf id (nI w), upd a_secondOf id (-4), a_c, a_d, a_p, a_left, a_due, a_ran, a_responses))
    (p2 : w = nc → 0 < W → ∀ a_c a_d a_p a_left a_due a_ran a_responses, post (nI id) (nI nc, upd a_periods id (nI pp), upd a_costs id (nI c), upd a_deadlines id (nI d), upd a_firsts id (nI W), upd a_coreOf id (nI w2), upd a_secondOf id (nI v2), a_c, a_d, a_p, a_left, a_due, a_ran, a_responses))
    (p3 : w = nc → W = 0 → ∀ a_c a_d a_p a_left a_due a_ran a_responses, post (-4) (nI nc, a_periods, a_costs, a_deadlines, a_firsts, a_coreOf, a_secondOf, a_c, a_d, a_p, a_left, a_due, a_ran, a_responses)) : wpY_admit post (nI nc, a_periods, a_costs, a_deadlines, a_firsts, a_coreOf, a_secondOf, a_c, a_d, a_p, a_left, a_due, a_ran, a_responses) (nI c) (nI d) (nI pp) := by
  have p60 := h3.2.1
  have n3 := G.2.1
  have h0 : P id = 0 := hI.2.2 hid
  have gn := g_n_lt hid h0
  have wm := hW.1.1
  have hP : ∀ i, i < 12 → a_periods i = nI (P i) ∧ P i ≤ 60 := by
    intro i hi
    refine ⟨(R i hi).1, ?_⟩
    by_cases z : P i = 0
    · omega
    · exact (g_used G (show i < 13 by omega) z).2.1.2.1
  unfold wpY_admit
  refine y_badPeriod0 h3 (br_t rfl (br_f (nI_nlt (a := c) (b := 1) (by omega) (by omega)) (br_f (nI_nlt (by omega) (by omega)) (br_f (nI_nlt (a := d) (b := 1) (by omega) (by omega)) (br_f (nI_nlt (by omega) (by omega)) (br_t (nI_le h1 (by omega)) (y_count hP (br_f ?_ (y_freeId R G hI ⟨nc + 1, ?_⟩)))))))))
  · intro e
    have := (nI_eq (b := 12) (by omega) (by omega)).mp e
    omega
  · exact y_63_lp G R hid c0 h1 h2 h3 hF (fun l a_c a_d a_p a_left a_due a_ran a_responses => ⟨c - 1 + 1, y_117d n3 hid (p1 l _ _ _ _ _ _ _) (c - 1) (by omega)⟩) (fun l a_c a_d a_p a_left a_due a_ran a_responses => ⟨c - 1 + 1, y_117_lp G R hid h1 h2 h3 hW (p2 l) (p3 l) (c - 1) _ _ _ _ _ _ _ wm (Nat.le_refl _)⟩) nc 0 _ _ _ _ _ _ _ (by omega) (Nat.zero_le _)
end
end
end
section
/-! the relation; the walks of the questions -/
def x_pl (nc : Nat) (P C D F K S : Nat → Nat) (f_plannedCore f_stretches : Int32) (a_partCore a_endOf a_taskIn a_slowest : Nat → Int32) : Prop := f_plannedCore = -1 ∨ ∃ k, k < nc ∧ f_plannedCore = nI k ∧ x_P k (g_c C F K S k) (g_d D F K S k) P f_stretches a_partCore a_endOf a_taskIn a_slowest
def x_S (nc : Nat) (P C D F K S : Nat → Nat) (u : SX) : Prop := match u with
  | (f_cores, f_tasks, f_plannedCore, f_stretches, a_used, a_period, a_partCore, a_cost, a_deadline, a_endOf, a_taskIn, a_left, a_release, a_slowest) => f_cores = nI nc ∧ f_tasks = nI (g_n P) ∧ x_R P C D F K S a_used a_period a_partCore a_cost a_deadline ∧ x_pl nc P C D F K S f_plannedCore f_stretches a_partCore a_endOf a_taskIn a_slowest
def y_S (nc : Nat) (P C D F K S : Nat → Nat) (v : SY) : Prop := match v with
  | (f_cores, a_periods, a_costs, a_deadlines, a_firsts, a_coreOf, a_secondOf, _, _, _, _, _, _, _) => f_cores = nI nc ∧ y_R P C D F K S a_periods a_costs a_deadlines a_firsts a_coreOf a_secondOf
def g_H (nc : Nat) (P C D F K S : Nat → Nat) : Prop := ∀ k, k < nc → sd_Sc (g_c C F K S k) (g_d D F K S k) P
/-- the relation: one list of tasks stands behind both states, every core keeps its deadlines, and a plan that is kept is the schedule of its core -/
def i_Rel (k : Nat) (u : SX) (v : SY) : Prop := ∃ (nc : Nat) (P C D F K S : Nat → Nat), g_ok nc P C D F K S ∧ g_H nc P C D F K S ∧ x_S nc P C D F K S u ∧ y_S nc P C D F K S v
theorem i_up {k : Nat} {u : SX} {v : SY} (h : i_Rel k u v) : i_Rel (k + 4) u v := h
theorem i_el {k : Nat} {u : SX} {v : SY} (I : i_Rel k u v) {Q : SX → SY → Prop}
    (h : ∀ (nc : Nat) (P C D F K S : Nat → Nat) (f_plannedCore f_stretches : Int32) (a_used a_period a_partCore a_cost a_deadline a_endOf a_taskIn a_left a_release a_slowest : Nat → Int32) (a_periods a_costs a_deadlines a_firsts a_coreOf a_secondOf a_c a_d a_p b_left a_due a_ran a_responses : Nat → Int32), g_ok nc P C D F K S → g_H nc P C D F K S → x_R P C D F K S a_used a_period a_partCore a_cost a_deadline → x_pl nc P C D F K S f_plannedCore f_stretches a_partCore a_endOf a_taskIn a_slowest → y_R P C D F K S a_periods a_costs a_deadlines a_firsts a_coreOf a_secondOf → Q (nI nc, nI (g_n P), f_plannedCore, f_stretches, a_used, a_period, a_partCore, a_cost, a_deadline, a_endOf, a_taskIn, a_left, a_release, a_slowest) (nI nc, a_periods, a_costs, a_deadlines, a_firsts, a_coreOf, a_secondOf, a_c, a_d, a_p, b_left, a_due, a_ran, a_responses)) : Q u v := by
  obtain ⟨nc, P, C, D, F, K, S, G, H, X, Y⟩ := I
  obtain ⟨f_cores, f_tasks, f_plannedCore, f_stretches, a_used, a_period, a_partCore, a_cost, a_deadline, a_endOf, a_taskIn, a_left, a_release, a_slowest⟩ := u
  obtain ⟨g_cores, a_periods, a_costs, a_deadlines, a_firsts, a_coreOf, a_secondOf, a_c, a_d, a_p, b_left, a_due, a_ran, a_responses⟩ := v
  obtain ⟨rfl, rfl, R, L⟩ := X
  obtain ⟨rfl, R'⟩ := Y
  exact h nc P C D F K S _ _ _ _ _ _ _ _ _ _ _ _ _ _ _ _ _ _ _ _ _ _ _ _ _ G H R L R'
section
variable {nc : Nat} {P C D F K S : Nat → Nat}
section
variable {f_cores f_tasks f_plannedCore f_stretches : Int32} {a_used a_period a_partCore a_cost a_deadline a_endOf a_taskIn a_left a_release a_slowest : Nat → Int32} {a_periods a_costs a_deadlines a_firsts a_coreOf a_secondOf a_c a_d a_p b_left a_due a_ran a_responses : Nat → Int32}
theorem i_mk {k n : Nat} (G : g_ok nc P C D F K S) (H : g_H nc P C D F K S) (hn : n = g_n P) (R : x_R P C D F K S a_used a_period a_partCore a_cost a_deadline) (L : x_pl nc P C D F K S f_plannedCore f_stretches a_partCore a_endOf a_taskIn a_slowest) (R' : y_R P C D F K S a_periods a_costs a_deadlines a_firsts a_coreOf a_secondOf) : i_Rel k (nI nc, nI n, f_plannedCore, f_stretches, a_used, a_period, a_partCore, a_cost, a_deadline, a_endOf, a_taskIn, a_left, a_release, a_slowest) (nI nc, a_periods, a_costs, a_deadlines, a_firsts, a_coreOf, a_secondOf, a_c, a_d, a_p, b_left, a_due, a_ran, a_responses) :=
  ⟨nc, P, C, D, F, K, S, G, H, ⟨rfl, by rw [hn], R, L⟩, ⟨rfl, R'⟩⟩
theorem i_0 {k : Nat} (h1 : 1 ≤ nc) (h3 : nc ≤ 3) (h : ∀ j, j < 26 → a_partCore j = -1) : i_Rel k (nI nc, 0, -1, 0, (fun _ => 0), (fun _ => 0), a_partCore, (fun _ => 0), (fun _ => 0), (fun _ => 0), (fun _ => 0), (fun _ => 0), (fun _ => 0), (fun _ => 0)) (nI nc, (fun _ => 0), (fun _ => 0), (fun _ => 0), (fun _ => 0), (fun _ => 0), (fun _ => 0), (fun _ => 0), (fun _ => 0), (fun _ => 0), (fun _ => 0), (fun _ => 0), (fun _ => 0), (fun _ => 0)) := by
  refine i_mk (P := fun _ => 0) (C := fun _ => 0) (D := fun _ => 0) (F := fun _ => 0) (K := fun _ => 3) (S := fun _ => 3) (n := 0) ⟨h1, h3, fun i hi => Or.inl ⟨rfl, rfl, rfl⟩⟩ (fun k hk t ht => ?_) rfl (fun i hi => ⟨rfl, h _ (by omega), h _ (by omega), fun z => absurd rfl z⟩) (Or.inl rfl) (fun i hi => ⟨nI_0.symm, fun z => absurd rfl z⟩)
  rw [show sd_D (g_c (fun _ => 0) (fun _ => 0) (fun _ => 3) (fun _ => 3) k) (g_d (fun _ => 0) (fun _ => 0) (fun _ => 3) (fun _ => 3) k) (fun _ => 0) t = 0 from sd_s_0 13 fun i hi => by
    have z : g_c (fun _ => 0) (fun _ => 0) (fun _ => 3) (fun _ => 3) k i = 0 := by
      unfold g_c
      rw [if_neg (show ¬ 3 = k by omega), if_neg (show ¬ 3 = k by omega)]
    show sd_dm (g_c (fun _ => 0) (fun _ => 0) (fun _ => 3) (fun _ => 3) k i) _ _ t = 0
    rw [z, sd_dm_c0]]
  exact Nat.zero_le t
end
section
variable {f_cores f_tasks f_plannedCore f_stretches : Int32} {a_used a_period a_partCore a_cost a_deadline a_endOf a_taskIn a_left a_release a_slowest : Nat → Int32}
theorem x_init_lp {post : SX → Prop} (hp : ∀ a_partCore : Nat → Int32, (∀ j, j < 26 → a_partCore j = -1) → post (f_cores, f_tasks, -1, f_stretches, a_used, a_period, a_partCore, a_cost, a_deadline, a_endOf, a_taskIn, a_left, a_release, a_slowest)) (m : Nat) : ∀ i a_partCore, i + m = 26 → (∀ j, j < i → a_partCore j = -1) → wX_init_107 post f_cores f_tasks f_plannedCore f_stretches (m + 1) (nI i) a_used a_period a_partCore a_cost a_deadline a_endOf a_taskIn a_left a_release a_slowest := by
  induction m with
  | zero =>
    intro i a_partCore hi I
    have e : i = 26 := by omega
    subst e
    exact br_t (nI_le (a := 26) (b := 26) (by omega) (by omega)) (hp _ I)
  | succ m ih =>
    intro i a_partCore hi I
    refine br_f (nI_ge (b := 26) (by omega) (by omega)) ⟨vp_in_nI (by omega) (by omega), ?_⟩
    rw [nI_clamp (n := i) (by omega)]
    refine nm_e (nm_r (nI_1 i) (ih (i + 1) _ (by omega) fun j hj => ?_))
    by_cases ji : j = i
    · subst ji; exact pk_us
    · rw [pk_un ji]; exact I j (by omega)
end
end
theorem i_vc0 (k0 : Int32) : wpX_init (fun u => wpY_init (fun v => i_Rel 1 u v) k0) k0 := by
  by_cases h1 : (1 : Int32) ≤ k0
  · refine br_t h1 ?_
    by_cases h3 : k0 ≤ (3 : Int32)
    · obtain ⟨j, j1, j3, rfl⟩ : ∃ j, 1 ≤ j ∧ j ≤ 3 ∧ k0 = nI j := by
        rcases pk_ix k0 (n := 4) (by omega) with g | g | ⟨j, hj, rfl⟩
        · exact absurd (Int32.lt_of_le_of_lt h1 g) (by decide)
        · exact absurd (Int32.le_trans g h3) (by decide)
        · exact ⟨j, (nI_leI (a := 1) (by omega) (by omega)).mp h1, by omega, rfl⟩
      exact br_t h3 ⟨27, x_init_lp (fun a_partCore h => br_t h1 (br_t h3 (i_0 j1 j3 h))) 26 0 _ rfl (fun j hj => absurd hj (Nat.not_lt_zero j))⟩
    · exact br_f h3 ⟨27, x_init_lp (fun a_partCore h => br_t h1 (br_f h3 (i_0 (nc := 3) (by omega) (by omega) h))) 26 0 _ rfl (fun j hj => absurd hj (Nat.not_lt_zero j))⟩
  · exact br_f h1 (br_t (by decide) ⟨27, x_init_lp (fun a_partCore h => br_f h1 (br_t (by decide) (i_0 (nc := 1) (by omega) (by omega) h))) 26 0 _ rfl (fun j hj => absurd hj (Nat.not_lt_zero j))⟩)
theorem i_vc_core {k : Nat} {u : SX} {v : SY} (I : i_Rel k u v) (hk : k + 4 ≤ 2049) (v1 : Int32) : wpX_core (fun r => wpY_core (fun r' => r' = r ∧ i_Rel (k + 4) u v) v v1) u v1 := by
  refine i_el I (Q := fun u v => wpX_core (fun r => wpY_core (fun r' => r' = r ∧ i_Rel (k + 4) u v) v v1) u v1) ?_
  intro nc P C D F K S f_plannedCore f_stretches a_used a_period a_partCore a_cost a_deadline a_endOf a_taskIn a_left a_release a_slowest a_periods a_costs a_deadlines a_firsts a_coreOf a_secondOf a_c a_d a_p b_left a_due a_ran a_responses G H R L R'
  have n3 := G.2.1
  unfold wpX_core wpY_core
  rcases g_bad_c P v1 with b | ⟨i, hi, rfl, pn⟩
  · exact x_noTask1 R b (br_f (by decide) (y_none1 R' b (br_f (by decide) ⟨rfl, i_mk G H rfl R L R'⟩)))
  · obtain ⟨u1, ⟨q1, q2, q3⟩, u3, u4⟩ := g_used G (show i < 13 by omega) pn
    refine x_noTask0 R hi pn (br_t rfl ?_)
    rw [x_2m, nI_clamp (n := 2 * i) (by omega)]
    refine ⟨vp_in_nI (by omega) (by omega), y_none0 R' hi pn q2 (br_t rfl ?_)⟩
    rw [nI_clamp (n := i) (by omega)]
    refine ⟨vp_in_nI hi (by omega), ?_, i_mk G H rfl R L R'⟩
    rw [(R i (by omega)).2.1, ((R' i hi).2 pn).2.2.2.1, sx_l (by omega)]
theorem i_vc_secondCore {k : Nat} {u : SX} {v : SY} (I : i_Rel k u v) (hk : k + 4 ≤ 2049) (v1 : Int32) : wpX_secondCore (fun r => wpY_secondCore (fun r' => r' = r ∧ i_Rel (k + 4) u v) v v1) u v1 := by
  refine i_el I (Q := fun u v => wpX_secondCore (fun r => wpY_secondCore (fun r' => r' = r ∧ i_Rel (k + 4) u v) v v1) u v1) ?_
  intro nc P C D F K S f_plannedCore f_stretches a_used a_period a_partCore a_cost a_deadline a_endOf a_taskIn a_left a_release a_slowest a_periods a_costs a_deadlines a_firsts a_coreOf a_secondOf a_c a_d a_p b_left a_due a_ran a_responses G H R L R'
  have n3 := G.2.1
  unfold wpX_secondCore wpY_secondCore
  rcases g_bad_c P v1 with b | ⟨i, hi, rfl, pn⟩
  · exact x_noTask1 R b (br_f (by decide) (y_none1 R' b (br_f (by decide) ⟨rfl, i_mk G H rfl R L R'⟩)))
  · obtain ⟨u1, ⟨q1, q2, q3⟩, u3, u4, u5, u6, u7⟩ := g_used G (show i < 13 by omega) pn
    have Y : ∀ r, r = sy (S i) → wpY_none (fun r_1 => (r_1 = 0 → vp_in (nI i) 12 ∧ (a_secondOf (nI i).toNatClampNeg = r ∧ i_Rel (k + 4) (nI nc, nI (g_n P), f_plannedCore, f_stretches, a_used, a_period, a_partCore, a_cost, a_deadline, a_endOf, a_taskIn, a_left, a_release, a_slowest) (nI nc, a_periods, a_costs, a_deadlines, a_firsts, a_coreOf, a_secondOf, a_c, a_d, a_p, b_left, a_due, a_ran, a_responses))) ∧ (¬ r_1 = 0 → -5 = r ∧ i_Rel (k + 4) (nI nc, nI (g_n P), f_plannedCore, f_stretches, a_used, a_period, a_partCore, a_cost, a_deadline, a_endOf, a_taskIn, a_left, a_release, a_slowest) (nI nc, a_periods, a_costs, a_deadlines, a_firsts, a_coreOf, a_secondOf, a_c, a_d, a_p, b_left, a_due, a_ran, a_responses))) (nI nc, a_periods, a_costs, a_deadlines, a_firsts, a_coreOf, a_secondOf, a_c, a_d, a_p, b_left, a_due, a_ran, a_responses) (nI i) := by
      intro r hr
      refine y_none0 R' hi pn q2 (br_t rfl ?_)
      rw [nI_clamp (n := i) (by omega)]
      refine ⟨vp_in_nI hi (by omega), ?_, i_mk G H rfl R L R'⟩
      rw [((R' i hi).2 pn).2.2.2.2, hr]
    refine x_noTask0 R hi pn (br_t rfl ?_)
    rw [x_2m, nI_1 (2 * i), nI_clamp (n := 2 * i + 1) (by omega), (R i (by omega)).2.2.1]
    have vi : vp_in (nI (2 * i + 1)) 26 := vp_in_nI (by omega) (by omega)
    by_cases s : S i < 3
    · rw [sx_l s]
      exact ⟨vi, br_t (nI_pos' (by omega)) ⟨vi, Y _ (sy_l s).symm⟩⟩
    · have e : S i = 3 := by omega
      rw [e, sx_3]
      exact ⟨vi, br_f (by decide) (Y _ (by rw [e]; rfl))⟩
theorem i_vc_firstCost {k : Nat} {u : SX} {v : SY} (I : i_Rel k u v) (hk : k + 4 ≤ 2049) (v1 : Int32) : wpX_firstCost (fun r => wpY_firstCost (fun r' => r' = r ∧ i_Rel (k + 4) u v) v v1) u v1 := by
  refine i_el I (Q := fun u v => wpX_firstCost (fun r => wpY_firstCost (fun r' => r' = r ∧ i_Rel (k + 4) u v) v v1) u v1) ?_
  intro nc P C D F K S f_plannedCore f_stretches a_used a_period a_partCore a_cost a_deadline a_endOf a_taskIn a_left a_release a_slowest a_periods a_costs a_deadlines a_firsts a_coreOf a_secondOf a_c a_d a_p b_left a_due a_ran a_responses G H R L R'
  unfold wpX_firstCost wpY_firstCost
  rcases g_bad_c P v1 with b | ⟨i, hi, rfl, pn⟩
  · exact x_noTask1 R b (br_f (by decide) (y_none1 R' b (br_f (by decide) ⟨rfl, i_mk G H rfl R L R'⟩)))
  · obtain ⟨u1, ⟨q1, q2, q3⟩, u3, u4⟩ := g_used G (show i < 13 by omega) pn
    refine x_noTask0 R hi pn (br_t rfl ?_)
    rw [x_2m, nI_clamp (n := 2 * i) (by omega)]
    refine ⟨vp_in_nI (by omega) (by omega), y_none0 R' hi pn q2 (br_t rfl ?_)⟩
    rw [nI_clamp (n := i) (by omega)]
    refine ⟨vp_in_nI hi (by omega), ?_, i_mk G H rfl R L R'⟩
    rw [((R i (by omega)).2.2.2 pn).2.1, ((R' i hi).2 pn).2.2.1]
end
section
/-! remove, load, running, response, spare -/
theorem g_core_c (nc : Nat) (x : Int32) (h : nc < 2 ^ 31) : (x < 0 ∨ nI nc ≤ x) ∨ ∃ k, k < nc ∧ x = nI k := by
  rcases pk_ix x h with g | g | g
  · exact Or.inl (Or.inl g)
  · exact Or.inl (Or.inr g)
  · exact Or.inr g
theorem i_vc_remove {k : Nat} {u : SX} {v : SY} (I : i_Rel k u v) (hk : k + 4 ≤ 2049) (v1 : Int32) : wpX_remove (fun r u' => wpY_remove (fun r' v' => r' = r ∧ i_Rel (k + 4) u' v') v v1) u v1 := by
  refine i_el I (Q := fun u v => wpX_remove (fun r u' => wpY_remove (fun r' v' => r' = r ∧ i_Rel (k + 4) u' v') v v1) u v1) ?_
  intro nc P C D F K S f_plannedCore f_stretches a_used a_period a_partCore a_cost a_deadline a_endOf a_taskIn a_left a_release a_slowest a_periods a_costs a_deadlines a_firsts a_coreOf a_secondOf a_c a_d a_p b_left a_due a_ran a_responses G H R L R'
  have n3 := G.2.1
  unfold wpX_remove wpY_remove
  rcases g_bad_c P v1 with b | ⟨i, hi, rfl, pn⟩
  · exact x_noTask1 R b (br_f (by decide) (y_none1 R' b (br_f (by decide) ⟨rfl, i_mk G H rfl R L R'⟩)))
  · obtain ⟨u1, ⟨q1, q2, q3⟩, u3, u4⟩ := g_used G (show i < 13 by omega) pn
    have gd := g_n_del hi pn
    refine x_noTask0 R hi pn (br_t rfl ?_)
    rw [x_2m, nI_1 (2 * i), nI_clamp (n := 2 * i) (by omega), nI_clamp (n := 2 * i + 1) (by omega), nI_clamp (n := i) (by omega)]
    refine ⟨vp_in_nI (by omega) (by omega), nm_e ⟨vp_in_nI (by omega) (by omega), nm_e ⟨vp_in_nI (by omega) (by omega), nm_e (nm_r (e' := nI (g_n (sd_u P i 0))) ?_ (y_none0 R' hi pn q2 (br_t rfl ?_)))⟩⟩⟩
    · rw [show (1 : Int32) = nI 1 from rfl, pk_sub (show 1 ≤ g_n P by omega), ← gd, Nat.add_sub_cancel]
    · refine ⟨vp_in_nI hi (by omega), nm_e (y_count (P := sd_u P i 0) (fun j hj => ?_) ⟨rfl, i_mk (g_ok_del G) (g_Sc_del n3 H) rfl (x_R_del R) (Or.inl rfl) (y_R_del R')⟩)⟩
      by_cases ji : j = i
      · subst ji; rw [pk_us, sd_us]; exact ⟨nI_0.symm, by omega⟩
      · rw [pk_un ji, sd_un ji]
        refine ⟨(R' j hj).1, ?_⟩
        by_cases z : P j = 0
        · omega
        · exact (g_used G (show j < 13 by omega) z).2.1.2.1
section
variable {c d p : Nat → Nat}
variable {f_cores : Int32} {a_periods a_costs a_deadlines a_firsts a_coreOf a_secondOf a_c a_d a_p a_left a_due a_ran a_responses : Nat → Int32}
theorem y_load_lp (ok : sd_ok c d p) (V : y_V c d p a_c a_d a_p) (z : c 12 = 0) {post : Int32 → SY → Prop} (hp : post (nI (sd_D c d p 60)) (f_cores, a_periods, a_costs, a_deadlines, a_firsts, a_coreOf, a_secondOf, a_c, a_d, a_p, a_left, a_due, a_ran, a_responses)) (m : Nat) : ∀ i, i + m = 12 → wY_load_20 post f_cores a_periods a_costs a_deadlines a_firsts a_coreOf a_secondOf a_c a_d a_p a_left a_due a_ran a_responses (m + 1) (nI (sd_s (fun i => c i * (60 / p i)) i)) (nI i) := by
  induction m with
  | zero =>
    intro i hi
    have e : i = 12 := by omega
    subst e
    refine br_t (nI_le (a := 12) (b := 12) (by omega) (by omega)) ?_
    have q : sd_s (fun i => c i * (60 / p i)) 13 = sd_s (fun i => c i * (60 / p i)) 12 + c 12 * (60 / p 12) := rfl
    rw [z, Nat.zero_mul, Nat.add_zero] at q
    rw [← q, sd_D_60 ok]
    exact hp
  | succ m ih =>
    intro i hi
    have vi : vp_in (nI i) 13 := vp_in_nI (by omega) (by omega)
    have N := ih (i + 1) (by omega)
    have q : sd_s (fun i => c i * (60 / p i)) (i + 1) = sd_s (fun i => c i * (60 / p i)) i + c i * (60 / p i) := rfl
    obtain ⟨v1, v2⟩ := V i (by omega)
    refine br_f (nI_ge (b := 12) (by omega) (by omega)) ⟨vi, ?_⟩
    rw [nI_clamp (n := i) (by omega), v1]
    by_cases y : c i = 0
    · rw [y] at q ⊢
      rw [q, Nat.zero_mul, Nat.add_zero] at N
      exact br_t (by decide) (nm_r (nI_1 i) N)
    · obtain ⟨w1, w2⟩ := v2 (by omega)
      obtain ⟨k1, k2, k3, k4, k5⟩ := ok i (by omega) (by omega)
      rw [w2]
      refine br_f (nI_nle (by omega) (by omega)) ⟨vi, br_f (nI_nle (by omega) (by omega)) ⟨vi, vi, nI_ne0 (by omega) (by omega), nm_r (e' := nI (sd_s (fun i => c i * (60 / p i)) (i + 1))) ?_ (nm_r (nI_1 i) N)⟩⟩
      rw [q, show (60 : Int32) = nI 60 from rfl, pk_div (by omega) (by omega) (by omega), pk_mul, nI_add]
end
theorem i_vc_load {k : Nat} {u : SX} {v : SY} (I : i_Rel k u v) (hk : k + 4 ≤ 2049) (v1 : Int32) : wpX_load (fun r => wpY_load (fun r' v' => r' = r ∧ i_Rel (k + 4) u v') v v1) u v1 := by
  refine i_el I (Q := fun u v => wpX_load (fun r => wpY_load (fun r' v' => r' = r ∧ i_Rel (k + 4) u v') v v1) u v1) ?_
  intro nc P C D F K S f_plannedCore f_stretches a_used a_period a_partCore a_cost a_deadline a_endOf a_taskIn a_left a_release a_slowest a_periods a_costs a_deadlines a_firsts a_coreOf a_secondOf a_c a_d a_p b_left a_due a_ran a_responses G H R L R'
  have n3 := G.2.1
  have p12 : P 12 = 0 := by
    rcases G.2.2 12 (by omega) with g | g
    · exact g.1
    · omega
  unfold wpX_load wpY_load
  rcases g_core_c nc v1 (by omega) with b | ⟨kk, hkk, rfl⟩
  · exact x_badCore1 b (br_f (by decide) (y_badCore1 b (br_f (by decide) ⟨rfl, i_mk G H rfl R L R'⟩)))
  · exact x_badCore0 hkk n3 (br_t rfl (x_loadOf (g_view G hkk) (x_Vg G R hkk) (y_badCore0 hkk n3 (br_t rfl (y_parts G R' hkk (fun a_c a_d a_p V => ⟨13, y_load_lp (g_view G hkk) V (g_c0 G hkk (by omega) p12) ⟨rfl, i_mk G H rfl R L R'⟩ 12 0 rfl⟩))))))
theorem x_plg {nc : Nat} {P C D F K S : Nat → Nat} {f_plannedCore f_stretches : Int32} {a_partCore a_endOf a_taskIn a_slowest : Nat → Int32} (L : x_pl nc P C D F K S f_plannedCore f_stretches a_partCore a_endOf a_taskIn a_slowest) (n3 : nc ≤ 3) {k : Nat} (hk : k < nc) (e : f_plannedCore = nI k) : x_P k (g_c C F K S k) (g_d D F K S k) P f_stretches a_partCore a_endOf a_taskIn a_slowest := by
  rcases L with h | ⟨j, hj, h1, h2⟩
  · rw [h] at e
    exact absurd e.symm (nI_m1' (by omega))
  · rw [h1] at e
    have := (nI_eq (by omega) (by omega)).mp e
    subst this
    exact h2
theorem i_vc_running {k : Nat} {u : SX} {v : SY} (I : i_Rel k u v) (hk : k + 4 ≤ 2049) (v1 : Int32) (v2 : Int32) : wpX_running (fun r u' => wpY_running (fun r' v' => r' = r ∧ i_Rel (k + 4) u' v') v v1 v2) u v1 v2 := by
  refine i_el I (Q := fun u v => wpX_running (fun r u' => wpY_running (fun r' v' => r' = r ∧ i_Rel (k + 4) u' v') v v1 v2) u v1 v2) ?_
  intro nc P C D F K S f_plannedCore f_stretches a_used a_period a_partCore a_cost a_deadline a_endOf a_taskIn a_left a_release a_slowest a_periods a_costs a_deadlines a_firsts a_coreOf a_secondOf a_c a_d a_p b_left a_due a_ran a_responses G H R L R'
  have n3 := G.2.1
  unfold wpX_running wpY_running
  rcases g_core_c nc v1 (by omega) with b | ⟨kk, hkk, rfl⟩
  · exact x_badCore1 b (br_f (by decide) (y_badCore1 b (br_f (by decide) ⟨rfl, i_mk G H rfl R L R'⟩)))
  · refine x_badCore0 hkk n3 (br_t rfl ?_)
    rcases pk_ix v2 (n := 60) (by omega) with b | b | ⟨s, hs, rfl⟩
    · exact br_t b (y_badCore0 hkk n3 (br_t rfl (br_t b ⟨rfl, i_mk G H rfl R L R'⟩)))
    · have b0 : ¬ v2 < 0 := Int32.not_lt.mpr (Int32.le_trans (by decide) b)
      exact br_f b0 (br_f (Int32.not_lt.mpr b) (y_badCore0 hkk n3 (br_t rfl (br_f b0 (br_f (Int32.not_le.mpr (Int32.lt_of_lt_of_le (by decide) b)) ⟨rfl, i_mk G H rfl R L R'⟩)))))
    · refine br_f (nI_pos (by omega)) (br_t (nI_lt (b := 60) hs (by omega)) (x_plan (g_view G hkk) (x_Vg G R hkk) (H kk hkk) (x_plg L n3 hkk) (fun f_stretches a_endOf a_taskIn a_left a_release a_slowest PL => ?_)))
      obtain ⟨q, E, q0, q60, rfl, HE, HS⟩ := PL
      refine ⟨q - 1 + 1, x_look q0 q60 HE hs ?_ (q - 1) 0 (by omega) (Or.inl rfl)⟩
      refine y_badCore0 hkk n3 (br_t rfl (br_f (nI_pos (by omega)) (br_t (nI_le (b := 59) (by omega) (by omega)) (y_parts G R' hkk (fun a_c a_d a_p V => y_runs (g_view G hkk) V (fun a_left' a_due a_ran a_responses _ r1 r2 => ⟨vp_in_nI hs (by omega), ?_, i_mk G H rfl R (Or.inr ⟨kk, hkk, rfl, q, E, q0, q60, rfl, HE, HS⟩) R'⟩) (fun _ _ _ _ ns => absurd (H kk hkk) ns))))))
      rw [nI_clamp (n := s) (by omega)]
      exact r1 s hs
theorem i_vc_response {k : Nat} {u : SX} {v : SY} (I : i_Rel k u v) (hk : k + 4 ≤ 2049) (v1 : Int32) (v2 : Int32) : wpX_response (fun r u' => wpY_response (fun r' v' => r' = r ∧ i_Rel (k + 4) u' v') v v1 v2) u v1 v2 := by
  refine i_el I (Q := fun u v => wpX_response (fun r u' => wpY_response (fun r' v' => r' = r ∧ i_Rel (k + 4) u' v') v v1 v2) u v1 v2) ?_
  intro nc P C D F K S f_plannedCore f_stretches a_used a_period a_partCore a_cost a_deadline a_endOf a_taskIn a_left a_release a_slowest a_periods a_costs a_deadlines a_firsts a_coreOf a_secondOf a_c a_d a_p b_left a_due a_ran a_responses G H R L R'
  have n3 := G.2.1
  unfold wpX_response wpY_response
  rcases g_core_c nc v1 (by omega) with b | ⟨kk, hkk, rfl⟩
  · exact x_badCore1 b (br_f (by decide) (y_badCore1 b (br_f (by decide) ⟨rfl, i_mk G H rfl R L R'⟩)))
  · refine x_badCore0 hkk n3 (br_t rfl ?_)
    rcases g_bad_c P v2 with b | ⟨i, hi, rfl, pn⟩
    · exact x_noTask1 R b (br_f (by decide) (y_badCore0 hkk n3 (br_t rfl (y_none1 R' b (br_f (by decide) ⟨rfl, i_mk G H rfl R L R'⟩)))))
    · obtain ⟨u1, ⟨q1, q2, q3⟩, u3, u4, u5, u6, u7⟩ := g_used G (show i < 13 by omega) pn
      refine x_noTask0 R hi pn (br_t rfl (x_plan (g_view G hkk) (x_Vg G R hkk) (H kk hkk) (x_plg L n3 hkk) (fun f_stretches a_endOf a_taskIn a_left a_release a_slowest PL => ?_)))
      have L' : x_pl nc P C D F K S (nI kk) f_stretches a_partCore a_endOf a_taskIn a_slowest := Or.inr ⟨kk, hkk, rfl, PL⟩
      obtain ⟨q, E, q0, q60, e, HE, HS⟩ := PL
      rw [x_2m, nI_1 (2 * i), nI_clamp (n := 2 * i) (by omega), nI_clamp (n := 2 * i + 1) (by omega)]
      have ve : vp_in (nI (2 * i)) 26 := vp_in_nI (by omega) (by omega)
      have vo : vp_in (nI (2 * i + 1)) 26 := vp_in_nI (by omega) (by omega)
      obtain ⟨r1, r2, r3, r4⟩ := R i (by omega)
      have Y : ∀ r, (0 < g_c C F K S kk i → r = nI (sd_Z (g_c C F K S kk) (g_d D F K S kk) P 60 i)) → (g_c C F K S kk i = 0 → r = -5) → wpY_response (fun r' v' => r' = r ∧ i_Rel (k + 4) (nI nc, nI (g_n P), nI kk, f_stretches, a_used, a_period, a_partCore, a_cost, a_deadline, a_endOf, a_taskIn, a_left, a_release, a_slowest) v') (nI nc, a_periods, a_costs, a_deadlines, a_firsts, a_coreOf, a_secondOf, a_c, a_d, a_p, b_left, a_due, a_ran, a_responses) (nI kk) (nI i) := by
        intro r h1 h2
        unfold wpY_response
        refine y_badCore0 hkk n3 (br_t rfl (y_none0 R' hi pn q2 (br_t rfl (y_parts G R' hkk (fun a_c a_d a_p V => ⟨vp_in_nI (by omega) (by omega), ?_⟩)))))
        rw [nI_clamp (n := i) (by omega), (V i (by omega)).1]
        by_cases z : g_c C F K S kk i = 0
        · rw [z]
          exact br_t nI_0 ⟨(h2 z).symm, i_mk G H rfl R L' R'⟩
        · have ci := g_view G hkk i (by omega) (by omega)
          refine br_f (nI_ne0 (by omega) (by omega)) (y_runs (g_view G hkk) V (fun a_left' a_due a_ran a_responses _ t1 t2 => ⟨vp_in_nI (by omega) (by omega), ?_, i_mk G H rfl R L' R'⟩) (fun _ _ _ _ ns => absurd (H kk hkk) ns))
          rw [h1 (by omega)]
          exact t2 i (by omega)
      by_cases qk : K i = kk
      · have pe : a_partCore (2 * i) = nI kk := r2.trans ((sx_k (by omega)).mpr qk)
        have gc : g_c C F K S kk i = F i := if_pos qk
        refine ⟨ve, br_t pe ⟨ve, Y _ (fun _ => ?_) (fun z => by omega)⟩⟩
        rw [HS (2 * i) (by omega) pe, show 2 * i / 2 = i by omega]
      · have pe : ¬ a_partCore (2 * i) = nI kk := by rw [r2]; intro e; exact qk ((sx_k (by omega)).mp e)
        refine ⟨ve, br_f pe ⟨vo, ?_⟩⟩
        by_cases qs : S i = kk
        · have po : a_partCore (2 * i + 1) = nI kk := r3.trans ((sx_k (by omega)).mpr qs)
          have gc : g_c C F K S kk i = C i - F i := by unfold g_c; rw [if_neg qk, if_pos qs]
          refine br_t po ⟨vo, Y _ (fun _ => ?_) (fun z => by omega)⟩
          rw [HS (2 * i + 1) (by omega) po, show (2 * i + 1) / 2 = i by omega]
        · have po : ¬ a_partCore (2 * i + 1) = nI kk := by rw [r3]; intro e; exact qs ((sx_k (by omega)).mp e)
          have gc : g_c C F K S kk i = 0 := by unfold g_c; rw [if_neg qk, if_neg qs]
          exact br_f po (Y _ (fun z => by omega) (fun _ => rfl))
theorem i_vc_spare {k : Nat} {u : SX} {v : SY} (I : i_Rel k u v) (hk : k + 4 ≤ 2049) (v1 : Int32) (v2 : Int32) : wpX_spare (fun r u' => wpY_spare (fun r' v' => r' = r ∧ i_Rel (k + 4) u' v') v v1 v2) u v1 v2 := by
  refine i_el I (Q := fun u v => wpX_spare (fun r u' => wpY_spare (fun r' v' => r' = r ∧ i_Rel (k + 4) u' v') v v1 v2) u v1 v2) ?_
  intro nc P C D F K S f_plannedCore f_stretches a_used a_period a_partCore a_cost a_deadline a_endOf a_taskIn a_left a_release a_slowest a_periods a_costs a_deadlines a_firsts a_coreOf a_secondOf a_c a_d a_p b_left a_due a_ran a_responses G H R L R'
  have n3 := G.2.1
  unfold wpX_spare wpY_spare
  rcases g_core_c nc v1 (by omega) with b | ⟨kk, hkk, rfl⟩
  · exact x_badCore1 b (br_f (by decide) (y_badCore1 b (br_f (by decide) ⟨rfl, i_mk G H rfl R L R'⟩)))
  · refine x_badCore0 hkk n3 (br_t rfl ?_)
    by_cases hp : ∃ p, sd_pok p ∧ v2 = nI p
    · obtain ⟨pp, pok, rfl⟩ := hp
      obtain ⟨id, hI⟩ := g_F_ex (fun i => P i = 0) 12
      have i12 := hI.1
      have h0 : P id = 0 := by
        by_cases l : id < 12
        · exact hI.2.2 l
        · have e : id = 12 := by omega
          subst e
          rcases G.2.2 12 (by omega) with g | g
          · exact g.1
          · omega
      obtain ⟨M, hM⟩ := g_M_ex (fun x => g_S P C D F K S id pp kk x pp) pp
      have m1 := hM.1
      refine x_badPeriod0 pok (br_t rfl (x_freeId R hI ⟨vp_in_nI (by omega) (by omega), ?_⟩))
      rw [nI_clamp (n := id) (by omega)]
      refine nm_e (nm_r (nI_1 pp) ⟨pp + 2, x_spare_lp G hkk (by omega) h0 pk_us pok hM (fun a_cost a_deadline R2 => ?_) (pp + 2) 0 (pp + 1) _ _ (Nat.zero_le _) (by omega) (Nat.le_refl _) (by omega) (x_Rper R h0)⟩)
      exact y_badCore0 hkk n3 (br_t rfl (y_badPeriod0 pok (br_t rfl (y_freeId R' G hI ⟨pp + 1, y_spare_lp G R' hkk (by omega) pok hM (fun a_c a_d a_p a_left' a_due a_ran a_responses => ⟨rfl, i_mk G H rfl R2 L R'⟩) pp _ _ _ _ _ _ _ m1 (Nat.le_refl _)⟩))))
    · exact x_badPeriod1 hp (br_f (by decide) (y_badCore0 hkk n3 (br_t rfl (y_badPeriod1 hp (br_f (by decide) ⟨rfl, i_mk G H rfl R L R'⟩)))))
end
section
/-! the taking of a task, both sides -/
theorem g_rng {x : Int32} {p : Nat} (h1 : ¬ x < 1) (h2 : ¬ nI p < x) (hp : p ≤ 60) : ∃ c, 0 < c ∧ c ≤ p ∧ x = nI c := by
  rcases pk_ix x (n := p + 1) (by omega) with g | g | ⟨j, hj, rfl⟩
  · exact absurd (Int32.lt_trans g (by decide)) h1
  · exact absurd (Int32.lt_of_lt_of_le (nI_lt (by omega) (by omega)) g) h2
  · refine ⟨j, ?_, by omega, rfl⟩
    by_cases z : j < 1
    · exact absurd (nI_lt (b := 1) z (by omega)) h1
    · omega
theorem i_vc_admit {k : Nat} {u : SX} {v : SY} (I : i_Rel k u v) (hk : k + 4 ≤ 2049) (v1 : Int32) (v2 : Int32) (v3 : Int32) : wpX_admit (fun r u' => wpY_admit (fun r' v' => r' = r ∧ i_Rel (k + 4) u' v') v v1 v2 v3) u v1 v2 v3 := by
  refine i_el I (Q := fun u v => wpX_admit (fun r u' => wpY_admit (fun r' v' => r' = r ∧ i_Rel (k + 4) u' v') v v1 v2 v3) u v1 v2 v3) ?_
  intro nc P C D F K S f_plannedCore f_stretches a_used a_period a_partCore a_cost a_deadline a_endOf a_taskIn a_left a_release a_slowest a_periods a_costs a_deadlines a_firsts a_coreOf a_secondOf a_c a_d a_p b_left a_due a_ran a_responses G H R L R'
  have n3 := G.2.1
  by_cases hp : ∃ p, sd_pok p ∧ v3 = nI p
  · obtain ⟨pp, pok, rfl⟩ := hp
    have p60 := pok.2.1
    by_cases b1 : v1 < 1
    · unfold wpX_admit wpY_admit
      exact x_badPeriod0 pok (br_t rfl (br_t b1 (y_badPeriod0 pok (br_t rfl (br_t b1 ⟨rfl, i_mk G H rfl R L R'⟩)))))
    by_cases b2 : nI pp < v1
    · unfold wpX_admit wpY_admit
      exact x_badPeriod0 pok (br_t rfl (br_f b1 (br_t b2 (y_badPeriod0 pok (br_t rfl (br_f b1 (br_t b2 ⟨rfl, i_mk G H rfl R L R'⟩)))))))
    by_cases b3 : v2 < 1
    · unfold wpX_admit wpY_admit
      exact x_badPeriod0 pok (br_t rfl (br_f b1 (br_f b2 (br_t b3 (y_badPeriod0 pok (br_t rfl (br_f b1 (br_f b2 (br_t b3 ⟨rfl, i_mk G H rfl R L R'⟩)))))))))
    by_cases b4 : nI pp < v2
    · unfold wpX_admit wpY_admit
      exact x_badPeriod0 pok (br_t rfl (br_f b1 (br_f b2 (br_f b3 (br_t b4 (y_badPeriod0 pok (br_t rfl (br_f b1 (br_f b2 (br_f b3 (br_t b4 ⟨rfl, i_mk G H rfl R L R'⟩)))))))))))
    by_cases b5 : v1 ≤ v2
    · obtain ⟨c, c0, c1, rfl⟩ := g_rng b1 b2 p60
      obtain ⟨d, d0, d1, rfl⟩ := g_rng b3 b4 p60
      have cd : c ≤ d := (nI_leI (by omega) (by omega)).mp b5
      have hP : ∀ i, i < 12 → a_periods i = nI (P i) ∧ P i ≤ 60 := by
        intro i hi
        refine ⟨(R' i hi).1, ?_⟩
        by_cases z : P i = 0
        · omega
        · exact (g_used G (show i < 13 by omega) z).2.1.2.1
      by_cases full : g_n P = 12
      · unfold wpX_admit wpY_admit
        exact x_badPeriod0 pok (br_t rfl (br_f b1 (br_f b2 (br_f b3 (br_f b4 (br_t b5 (br_f (by rw [full]; decide) (y_badPeriod0 pok (br_t rfl (br_f b1 (br_f b2 (br_f b3 (br_f b4 (br_t b5 (y_count hP (br_t (by rw [full]; rfl) ⟨rfl, i_mk G H rfl R L R'⟩))))))))))))))))
      · obtain ⟨id, hI⟩ := g_F_ex (fun i => P i = 0) 12
        have hid : id < 12 := by
          by_cases l : id < 12
          · exact l
          · have e : id = 12 := by have := hI.1; omega
            subst e
            exact absurd (g_n_12 fun i hi => hI.2.1 i hi) full
        have h0 : P id = 0 := hI.2.2 hid
        have fr := g_free G (show id < 13 by omega) h0
        have pp0 : pp ≠ 0 := by have := pok.1; omega
        have ga := g_n_add hid h0 pp0
        obtain ⟨w, hF⟩ := g_F_ex (fun k => g_S P C D F K S id pp k c d) nc
        obtain ⟨W, w2, v2, hW⟩ := g_W_ex (nc := nc) (P := P) (C := C) (D := D) (F := F) (K := K) (S := S) id pp c d
        have wm := hW.1.1
        refine x_admit G R hid hI c0 cd d1 pok hF hW (fun l a_cost a_deadline R2 => ?_) (fun l y a_cost a_deadline R2 => ?_) (fun l y a_cost a_deadline R2 => ?_)
        · refine y_admit G R' hid hI c0 cd d1 pok hF hW (fun _ a_c a_d a_p b_left a_due a_ran a_responses => ⟨rfl, i_mk (P := sd_u P id pp) (C := sd_u C id c) (D := sd_u D id d) (F := sd_u F id c) (K := sd_u K id w) (S := sd_u S id 3) (g_ok_new G hid pok l c0 cd d1 (Or.inl ⟨rfl, rfl⟩)) (g_Sc_new n3 H (by omega) (by rw [if_pos rfl]; exact hF.2.2 l) (fun z => by omega)) ga.symm (x_R_new R2 hid pp0 pk_us (fun j j1 j2 => ⟨pk_un j1, pk_un j1, pk_un j1⟩) ?_ ?_ pk_us ?_ (fun z => absurd rfl z)) (Or.inl rfl) (y_R_new R')⟩) (fun z => by omega) (fun z => by omega)
          · rw [pk_us, sx_l (by omega)]
          · rw [pk_un (by omega), (R2 id (by omega)).2.2.1, fr.2]
          · rw [pk_us, if_pos rfl]
        · obtain ⟨q1, q2, q3, q4⟩ := hW.2 y
          obtain ⟨s1, -⟩ := q2.2.2 q1
          obtain ⟨s2, s3⟩ := q4.2.2 q3
          have e1 : nI v2 = sy v2 := (sy_l (by omega)).symm
          refine y_admit G R' hid hI c0 cd d1 pok hF hW (fun z => by omega) (fun _ _ a_c a_d a_p b_left a_due a_ran a_responses => ⟨rfl, ?_⟩) (fun _ z => by omega)
          rw [e1]
          refine i_mk (P := sd_u P id pp) (C := sd_u C id c) (D := sd_u D id d) (F := sd_u F id W) (K := sd_u K id w2) (S := sd_u S id v2) (g_ok_new G hid pok q1 y cd d1 (Or.inr ⟨q3, s2, by omega⟩)) (g_Sc_new n3 H (fun z => s2 z.symm) (by rw [if_neg (by omega)]; exact s1) (fun _ => s3)) ga.symm (x_R_new R2 hid pp0 pk_us (fun j j1 j2 => ⟨?_, ?_, ?_⟩) ?_ ?_ ?_ ?_ (fun _ => ⟨pk_us, pk_us⟩)) (Or.inl rfl) (y_R_new R')
          · rw [pk_un j2, pk_un j1]
          · rw [pk_un j2, pk_un j1]
          · rw [pk_un j2, pk_un j1]
          · rw [pk_un (by omega), pk_us, sx_l (by omega)]
          · rw [← e1, pk_us, sx_l (by omega)]
          · rw [pk_un (by omega), pk_us]
          · rw [pk_un (by omega), pk_us, if_neg (by omega)]
        · exact y_admit G R' hid hI c0 cd d1 pok hF hW (fun z => by omega) (fun _ z => by omega) (fun _ _ a_c a_d a_p b_left a_due a_ran a_responses => ⟨rfl, i_mk G H rfl R2 L R'⟩)
    · unfold wpX_admit wpY_admit
      exact x_badPeriod0 pok (br_t rfl (br_f b1 (br_f b2 (br_f b3 (br_f b4 (br_f b5 (y_badPeriod0 pok (br_t rfl (br_f b1 (br_f b2 (br_f b3 (br_f b4 (br_f b5 ⟨rfl, i_mk G H rfl R L R'⟩)))))))))))))
  · unfold wpX_admit wpY_admit
    exact x_badPeriod1 hp (br_f (by decide) (y_badPeriod1 hp (br_f (by decide) ⟨rfl, i_mk G H rfl R L R'⟩)))
end
