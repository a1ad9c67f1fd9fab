section
theorem pk_us {f : Nat → Int32} {k : Nat} {x : Int32} : upd f k x k = x := if_pos rfl
theorem pk_un {f : Nat → Int32} {k j : Nat} {x : Int32} (h : j ≠ k) : upd f k x j = f j := if_neg h
theorem pk_sub {a b : Nat} (h : b ≤ a) : nI a - nI b = nI (a - b) := by
  obtain ⟨c, rfl⟩ : ∃ c, a = c + b := ⟨a - b, by omega⟩
  rw [← nI_add, Int32.add_sub_cancel, Nat.add_sub_cancel]
theorem pk_m1 (n : Nat) : nI (n + 1) + (-1) = nI n := by
  rw [← nI_1, Int32.add_assoc, show (1 : Int32) + (-1) = 0 from rfl, Int32.add_zero]
theorem pk_mul (a b : Nat) : nI a * nI b = nI (a * b) := (Int32.ofNat_mul a b).symm
theorem pk_div {a d : Nat} (ha : a < 2 ^ 31) (h0 : 0 < d) (hd : d < 2 ^ 31) : nI a / nI d = nI (a / d) := by
  apply Int32.toInt_inj.mp
  rw [lg_idiv_nonneg (by rw [nI_toInt ha]; omega) (by rw [nI_toInt hd]; omega), nI_toInt ha, nI_toInt hd, nI_toInt (Nat.lt_of_le_of_lt (Nat.div_le_self a d) ha)]
  first | rfl | exact (Int.natCast_ediv _ _).symm
theorem pk_rem {a d : Nat} (ha : a < 2 ^ 31) (h0 : 0 < d) (hd : d < 2 ^ 31) : nI a - nI a / nI d * nI d = nI (a % d) := by
  rw [pk_div ha h0 hd, pk_mul, pk_sub (Nat.div_mul_le_self a d)]
  exact congrArg nI (by have := Nat.div_add_mod' a d; omega)
theorem pk_ix (x : Int32) {n : Nat} (hn : n < 2 ^ 31) : x < 0 ∨ nI n ≤ x ∨ ∃ j : Nat, j < n ∧ x = nI j := by
  by_cases h : x < 0
  · exact Or.inl h
  · obtain ⟨j, hj, rfl⟩ := nI_of h
    by_cases h2 : j < n
    · exact Or.inr (Or.inr ⟨j, h2, rfl⟩)
    · exact Or.inr (Or.inl (nI_le (by omega) hj))
theorem pk_le {x y : Int32} {A B : Prop} (a b : Nat) (f : a ≤ b → A) (g : b < a → B) (hx : x = nI a := by rfl) (hy : y = nI b := by rfl) (ha : a < 2 ^ 31 := by omega) (hb : b < 2 ^ 31 := by omega) : (x ≤ y → A) ∧ (¬ x ≤ y → B) := by
  subst hx hy
  rw [nI_leI ha hb]
  exact ⟨f, fun z => g (by omega)⟩
theorem pk_lt {x y : Int32} {A B : Prop} (a b : Nat) (f : a < b → A) (g : b ≤ a → B) (hx : x = nI a := by rfl) (hy : y = nI b := by rfl) (ha : a < 2 ^ 31 := by omega) (hb : b < 2 ^ 31 := by omega) : (x < y → A) ∧ (¬ x < y → B) := by
  subst hx hy
  rw [nI_ltI ha hb]
  exact ⟨f, fun z => g (by omega)⟩
theorem pk_eq {x y : Int32} {A B : Prop} (a b : Nat) (f : a = b → A) (g : a ≠ b → B) (hx : x = nI a := by rfl) (hy : y = nI b := by rfl) (ha : a < 2 ^ 31 := by omega) (hb : b < 2 ^ 31 := by omega) : (x = y → A) ∧ (¬ x = y → B) := by
  subst hx hy
  rw [nI_eq ha hb]
  exact ⟨f, g⟩
theorem pk_in {x : Int32} (n N : Nat) (h : n < N) (hx : x = nI n := by rfl) (hN : N < 2 ^ 31 := by omega) : vp_in x N := by
  subst hx
  exact vp_in_nI h hN
theorem pk_cl {x : Int32} (n : Nat) (hx : x = nI n := by rfl) (h : n < 2 ^ 31 := by omega) : x.toNatClampNeg = n := by
  subst hx
  exact nI_clamp h
/-! small rows on numbers -/
theorem ar_n6 (a : Nat) : nI a * 6 = nI (a * 6) := pk_mul a 6
theorem ar_p1 {n : Nat} (h : 0 < n) : nI n + (-1) = nI (n - 1) := by
  obtain ⟨m, rfl⟩ : ∃ m, n = m + 1 := ⟨n - 1, by omega⟩
  exact pk_m1 m
theorem ar_s1 {n : Nat} (h : 0 < n) : nI n - 1 = nI (n - 1) := by
  obtain ⟨m, rfl⟩ : ∃ m, n = m + 1 := ⟨n - 1, by omega⟩
  exact nI_pred m
theorem ar_0a (a : Nat) : 0 + nI a = nI a := by rw [Int32.zero_add]
theorem ar_24 (a : Nat) : 24 + nI a = nI (24 + a) := nI_add 24 a
theorem ar_144 (a : Nat) : 144 + nI a = nI (144 + a) := nI_add 144 a
theorem ar_inj {a b : Nat} (h : nI a = nI b) (ha : a < 2 ^ 31) (hb : b < 2 ^ 31) : a = b := (nI_eq ha hb).mp h
theorem ar_nb0 : vp_nar .boolean 0 = 0 := by decide
theorem ar_nb1 : vp_nar .boolean 1 = 1 := by decide
theorem ar_ns {n : Nat} (h : n < 2 ^ 31) : ¬ nI n = -1 := by
  intro e
  have := nI_pos (n := n) h
  rw [e] at this
  exact this (by decide)
theorem ar_ns4 {n : Nat} (h : n < 2 ^ 31) : ¬ nI n = -4 := by
  intro e
  have := nI_pos (n := n) h
  rw [e] at this
  exact this (by decide)
/-- an update of a function into the naturals -/
def ar_up (f : Nat → Nat) (k x : Nat) : Nat → Nat := fun j => if j = k then x else f j
theorem ar_us {f : Nat → Nat} {k x : Nat} : ar_up f k x k = x := if_pos rfl
theorem ar_un {f : Nat → Nat} {k x j : Nat} (h : j ≠ k) : ar_up f k x j = f j := if_neg h
end
section
/-! the terms, in plain numbers -/
/-- the sort of a kind -/
def ar_so (k : Nat) : Nat := if k = 3 then 1 else if k = 4 then 2 else k
theorem ar_so_le {k : Nat} (h : k ≤ 4) : ar_so k ≤ 2 := by
  unfold ar_so; split
  · omega
  · split <;> omega
theorem ar_so0 {k : Nat} : ar_so k = 0 ↔ k = 0 := by
  unfold ar_so; split
  · omega
  · split <;> omega
theorem ar_so1 {k : Nat} : ar_so k = 1 ↔ k = 1 ∨ k = 3 := by
  unfold ar_so; split
  · omega
  · split <;> omega
theorem ar_so2 {k : Nat} : ar_so k = 2 ↔ k = 2 ∨ k = 4 := by
  unfold ar_so; split
  · omega
  · split <;> omega
/-- arguments are older terms of the right sorts -/
def ar_tw (nt : Nat) (K A I E : Nat → Nat) : Prop :=
  ∀ t, t < nt → K t ≤ 4 ∧ (3 ≤ K t → A t < t ∧ ar_so (K (A t)) = 2 ∧ I t < t ∧ K (I t) = 0) ∧ (K t = 4 → E t < t ∧ ar_so (K (E t)) = 1)
/-- arrays of the machine hold them -/
def ar_tm (nt : Nat) (K A I E : Nat → Nat) (ak aa ai ae : Nat → Int32) : Prop :=
  ∀ t, t < nt → ak t = nI (K t) ∧ (3 ≤ K t → aa t = nI (A t) ∧ ai t = nI (I t)) ∧ (K t = 4 → ae t = nI (E t))
/-- the entry that decides t at x -/
def ar_lc (K A I E V : Nat → Nat) : Nat → Nat → Nat → Nat
  | 0, t, x => t * 6 + x
  | n + 1, t, x => if K t = 3 then ar_lc K A I E V n (A t) (V (I t)) else if K t = 4 then (if V (I t) = x then ar_lc K A I E V n (E t) 0 else ar_lc K A I E V n (A t) x) else if K t = 1 then t * 6 else t * 6 + x
theorem ar_lc_s {K A I E V : Nat → Nat} {n t x : Nat} : ar_lc K A I E V (n + 1) t x = if K t = 3 then ar_lc K A I E V n (A t) (V (I t)) else if K t = 4 then (if V (I t) = x then ar_lc K A I E V n (E t) 0 else ar_lc K A I E V n (A t) x) else if K t = 1 then t * 6 else t * 6 + x := rfl
def ar_en (K A I E V : Nat → Nat) (t x : Nat) : Nat := ar_lc K A I E V (t + 1) t x
theorem ar_lc_f {nt : Nat} {K A I E V : Nat → Nat} (hw : ar_tw nt K A I E) : ∀ n m t x, t < nt → t < n → t < m → ar_lc K A I E V n t x = ar_lc K A I E V m t x := by
  intro n
  induction n with
  | zero => intro m t x _ h; omega
  | succ n ih =>
    intro m t x ht hn hm
    obtain ⟨m, rfl⟩ : ∃ k, m = k + 1 := ⟨m - 1, by omega⟩
    obtain ⟨h4, ha, he⟩ := hw t ht
    rw [ar_lc_s, ar_lc_s]
    by_cases h3 : K t = 3
    · obtain ⟨a1, _, a3, _⟩ := ha (by omega)
      rw [if_pos h3, if_pos h3]
      exact ih m (A t) _ (by omega) (by omega) (by omega)
    · rw [if_neg h3, if_neg h3]
      by_cases h5 : K t = 4
      · obtain ⟨a1, _, a3, _⟩ := ha (by omega)
        obtain ⟨e1, _⟩ := he h5
        rw [if_pos h5, if_pos h5]
        by_cases hx : V (I t) = x
        · rw [if_pos hx, if_pos hx]
          exact ih m (E t) _ (by omega) (by omega) (by omega)
        · rw [if_neg hx, if_neg hx]
          exact ih m (A t) _ (by omega) (by omega) (by omega)
      · rw [if_neg h5, if_neg h5]
theorem ar_en3 {nt : Nat} {K A I E V : Nat → Nat} (hw : ar_tw nt K A I E) {t : Nat} (x : Nat) (ht : t < nt) (h : K t = 3) : ar_en K A I E V t x = ar_en K A I E V (A t) (V (I t)) := by
  obtain ⟨a1, _, a3, _⟩ := (hw t ht).2.1 (by omega)
  unfold ar_en
  rw [ar_lc_s, if_pos h]
  exact ar_lc_f hw _ _ _ _ (by omega) (by omega) (by omega)
theorem ar_en4h {nt : Nat} {K A I E V : Nat → Nat} (hw : ar_tw nt K A I E) {t x : Nat} (ht : t < nt) (h : K t = 4) (hx : V (I t) = x) : ar_en K A I E V t x = ar_en K A I E V (E t) 0 := by
  obtain ⟨e1, _⟩ := (hw t ht).2.2 h
  unfold ar_en
  rw [ar_lc_s, if_neg (by omega), if_pos h, if_pos hx]
  exact ar_lc_f hw _ _ _ _ (by omega) (by omega) (by omega)
theorem ar_en4m {nt : Nat} {K A I E V : Nat → Nat} (hw : ar_tw nt K A I E) {t x : Nat} (ht : t < nt) (h : K t = 4) (hx : V (I t) ≠ x) : ar_en K A I E V t x = ar_en K A I E V (A t) x := by
  obtain ⟨a1, _, a3, _⟩ := (hw t ht).2.1 (by omega)
  unfold ar_en
  rw [ar_lc_s, if_neg (by omega), if_pos h, if_neg hx]
  exact ar_lc_f hw _ _ _ _ (by omega) (by omega) (by omega)
theorem ar_en1 {K A I E V : Nat → Nat} {t : Nat} (x : Nat) (h : K t = 1) : ar_en K A I E V t x = t * 6 := by
  unfold ar_en
  rw [ar_lc_s, if_neg (by omega), if_neg (by omega), if_pos h]
theorem ar_enc {K A I E V : Nat → Nat} {t : Nat} (x : Nat) (h : K t = 0 ∨ K t = 2) : ar_en K A I E V t x = t * 6 + x := by
  unfold ar_en
  rw [ar_lc_s, if_neg (by omega), if_neg (by omega), if_neg (by omega)]
/-- an element is the same at every place -/
theorem ar_ene {nt : Nat} {K A I E V : Nat → Nat} (hw : ar_tw nt K A I E) {t : Nat} (x y : Nat) (ht : t < nt) (h : ar_so (K t) = 1) : ar_en K A I E V t x = ar_en K A I E V t y := by
  rcases ar_so1.mp h with h1 | h3
  · rw [ar_en1 x h1, ar_en1 y h1]
  · rw [ar_en3 hw x ht h3, ar_en3 hw y ht h3]
/-- where an entry lies -/
theorem ar_enf {nt : Nat} {K A I E V : Nat → Nat} (hw : ar_tw nt K A I E) {w : Nat} (hV : ∀ t, t < nt → K t = 0 → V t ≤ w) : ∀ m t x, t < m → t < nt → x ≤ w → ∃ c y, c < nt ∧ ar_en K A I E V t x = c * 6 + y ∧ y ≤ w ∧ K c ≤ 2 ∧ (K c = 1 → y = 0) ∧ (K c = 0 → c = t ∧ y = x) := by
  intro m
  induction m with
  | zero => intro t x h; omega
  | succ m ih =>
    intro t x hm ht hx
    obtain ⟨h4, ha, he⟩ := hw t ht
    by_cases h3 : K t = 3
    · obtain ⟨a1, a2, a3, a4⟩ := ha (by omega)
      obtain ⟨c, y, r1, r2, r3, r4, r5, r6⟩ := ih (A t) (V (I t)) (by omega) (by omega) (hV (I t) (by omega) a4)
      refine ⟨c, y, r1, (ar_en3 hw x ht h3).trans r2, r3, r4, r5, fun z => ?_⟩
      have := (r6 z).1
      rw [← this, z] at a2
      exact absurd a2 (by decide)
    · by_cases h5 : K t = 4
      · obtain ⟨a1, a2, a3, a4⟩ := ha (by omega)
        obtain ⟨e1, e2⟩ := he h5
        by_cases hh : V (I t) = x
        · obtain ⟨c, y, r1, r2, r3, r4, r5, r6⟩ := ih (E t) 0 (by omega) (by omega) (by omega)
          refine ⟨c, y, r1, (ar_en4h hw ht h5 hh).trans r2, r3, r4, r5, fun z => ?_⟩
          have := (r6 z).1
          rw [← this, z] at e2
          exact absurd e2 (by decide)
        · obtain ⟨c, y, r1, r2, r3, r4, r5, r6⟩ := ih (A t) x (by omega) (by omega) hx
          refine ⟨c, y, r1, (ar_en4m hw ht h5 hh).trans r2, r3, r4, r5, fun z => ?_⟩
          have := (r6 z).1
          rw [← this, z] at a2
          exact absurd a2 (by decide)
      · by_cases h1 : K t = 1
        · exact ⟨t, 0, ht, ar_en1 x h1, by omega, by omega, fun _ => rfl, fun z => by omega⟩
        · exact ⟨t, x, ht, ar_enc x (by omega), hx, by omega, fun z => absurd z h1, fun _ => ⟨rfl, rfl⟩⟩
theorem ar_enb {nt : Nat} {K A I E V : Nat → Nat} (hw : ar_tw nt K A I E) {w : Nat} (hV : ∀ t, t < nt → K t = 0 → V t ≤ w) (hw5 : w ≤ 5) {t x : Nat} (ht : t < nt) (hx : x ≤ w) : ar_en K A I E V t x < nt * 6 := by
  obtain ⟨c, y, r1, r2, r3, _⟩ := ar_enf hw hV (t + 1) t x (by omega) ht hx
  omega
end
section
/-! classes of entries -/
def ar_mg (P : Nat → Nat) (p q : Nat) : Nat → Nat := fun g => if P g = P p then P q else P g
theorem ar_mg_v {P : Nat → Nat} {p q g : Nat} : ar_mg P p q g = if P g = P p then P q else P g := rfl
theorem ar_mg_id {P : Nat → Nat} {p q : Nat} (h : P p = P q) : ar_mg P p q = P := by
  funext g
  rw [ar_mg_v]
  split <;> omega
theorem ar_mg_eq {P : Nat → Nat} {p q : Nat} : ar_mg P p q p = ar_mg P p q q := by
  rw [ar_mg_v, ar_mg_v, if_pos rfl]
  split <;> rfl
theorem ar_mg_k {P : Nat → Nat} {p q e f : Nat} (h : P e = P f) : ar_mg P p q e = ar_mg P p q f := by
  rw [ar_mg_v, ar_mg_v, h]
theorem ar_mg_iff {P : Nat → Nat} {p q e f : Nat} : ar_mg P p q e = ar_mg P p q f ↔ P e = P f ∨ (P e = P p ∧ P f = P q) ∨ (P e = P q ∧ P f = P p) := by
  rw [ar_mg_v, ar_mg_v]
  split <;> split <;> omega
def ar_jn (en : Nat → Nat → Nat) (t u : Nat) (P : Nat → Nat) : Nat → (Nat → Nat)
  | 0 => P
  | k + 1 => ar_mg (ar_jn en t u P k) (en t k) (en u k)
theorem ar_jn_s {en : Nat → Nat → Nat} {t u : Nat} {P : Nat → Nat} {k : Nat} : ar_jn en t u P (k + 1) = ar_mg (ar_jn en t u P k) (en t k) (en u k) := rfl
theorem ar_jn_k {en : Nat → Nat → Nat} {t u : Nat} {P : Nat → Nat} {e f : Nat} (h : P e = P f) : ∀ k, ar_jn en t u P k e = ar_jn en t u P k f := by
  intro k
  induction k with
  | zero => exact h
  | succ k ih => rw [ar_jn_s]; exact ar_mg_k ih
theorem ar_jn_eq {en : Nat → Nat → Nat} {t u : Nat} {P : Nat → Nat} : ∀ k x, x < k → ar_jn en t u P k (en t x) = ar_jn en t u P k (en u x) := by
  intro k
  induction k with
  | zero => intro x h; omega
  | succ k ih =>
    intro x h
    rw [ar_jn_s]
    by_cases hx : x = k
    · rw [hx]; exact ar_mg_eq
    · exact ar_mg_k (ih x (by omega))
theorem ar_jn_id {en : Nat → Nat → Nat} {t u : Nat} {P : Nat → Nat} : ∀ k, (∀ x, x < k → P (en t x) = P (en u x)) → ar_jn en t u P k = P := by
  intro k
  induction k with
  | zero => intro _; rfl
  | succ k ih =>
    intro h
    rw [ar_jn_s, ih (fun x hx => h x (by omega))]
    exact ar_mg_id (h k (by omega))
theorem ar_jn_1 {en : Nat → Nat → Nat} {t u : Nat} {P : Nat → Nat} (ht : ∀ x, en t x = en t 0) (hu : ∀ x, en u x = en u 0) : ∀ w, ar_jn en t u P (w + 1) = ar_jn en t u P 1 := by
  intro w
  induction w with
  | zero => rfl
  | succ w ih =>
    rw [ar_jn_s, ih, ht (w + 1), hu (w + 1)]
    exact ar_mg_id (ar_jn_eq 1 0 (by omega))
def ar_cl (en : Nat → Nat → Nat) (K : Nat → Nat) (w : Nat) (Lq Ll Lr : Nat → Nat) : Nat → (Nat → Nat)
  | 0 => fun g => g
  | n + 1 => if Lq n = 0 ∨ K (Ll n) = 0 then ar_cl en K w Lq Ll Lr n else ar_jn en (Ll n) (Lr n) (ar_cl en K w Lq Ll Lr n) (w + 1)
theorem ar_cl_s {en : Nat → Nat → Nat} {K : Nat → Nat} {w : Nat} {Lq Ll Lr : Nat → Nat} {n : Nat} : ar_cl en K w Lq Ll Lr (n + 1) = if Lq n = 0 ∨ K (Ll n) = 0 then ar_cl en K w Lq Ll Lr n else ar_jn en (Ll n) (Lr n) (ar_cl en K w Lq Ll Lr n) (w + 1) := rfl
theorem ar_cl_k {en : Nat → Nat → Nat} {K : Nat → Nat} {w : Nat} {Lq Ll Lr : Nat → Nat} {n e f : Nat} (h : ar_cl en K w Lq Ll Lr n e = ar_cl en K w Lq Ll Lr n f) : ar_cl en K w Lq Ll Lr (n + 1) e = ar_cl en K w Lq Ll Lr (n + 1) f := by
  rw [ar_cl_s]
  split
  · exact h
  · exact ar_jn_k h _
theorem ar_cl_eq {en : Nat → Nat → Nat} {K : Nat → Nat} {w : Nat} {Lq Ll Lr : Nat → Nat} {l x : Nat} (hq : Lq l ≠ 0) (hk : K (Ll l) ≠ 0) (hx : x ≤ w) : ∀ n, l < n → ar_cl en K w Lq Ll Lr n (en (Ll l) x) = ar_cl en K w Lq Ll Lr n (en (Lr l) x) := by
  intro n
  induction n with
  | zero => intro h; omega
  | succ n ih =>
    intro h
    by_cases hl : l = n
    · subst hl
      rw [ar_cl_s, if_neg (by omega)]
      exact ar_jn_eq (w + 1) x (by omega)
    · exact ar_cl_k (ih (by omega))
theorem ar_cl_cg {en : Nat → Nat → Nat} {K : Nat → Nat} {w : Nat} {Lq Ll Lr Mq Ml Mr : Nat → Nat} : ∀ n, (∀ l, l < n → Mq l = Lq l ∧ Ml l = Ll l ∧ Mr l = Lr l) → ar_cl en K w Mq Ml Mr n = ar_cl en K w Lq Ll Lr n := by
  intro n
  induction n with
  | zero => intro _; rfl
  | succ n ih =>
    intro h
    obtain ⟨h1, h2, h3⟩ := h n (by omega)
    rw [ar_cl_s, ar_cl_s, h1, h2, h3, ih (fun l hl => h l (by omega))]
theorem ar_mg_b {P : Nat → Nat} {p q M : Nat} (h : ∀ g, g < M → P g < M) (hq : q < M) : ∀ g, g < M → ar_mg P p q g < M := by
  intro g hg
  rw [ar_mg_v]
  split
  · exact h q hq
  · exact h g hg
theorem ar_jn_b {en : Nat → Nat → Nat} {t u M : Nat} {P : Nat → Nat} (h : ∀ g, g < M → P g < M) : ∀ k, (∀ x, x < k → en u x < M) → ∀ g, g < M → ar_jn en t u P k g < M := by
  intro k
  induction k with
  | zero => intro _; exact h
  | succ k ih =>
    intro hu
    rw [ar_jn_s]
    exact ar_mg_b (ih (fun x hx => hu x (by omega))) (hu k (by omega))
theorem ar_cl_b {en : Nat → Nat → Nat} {K : Nat → Nat} {w M : Nat} {Lq Ll Lr : Nat → Nat} : ∀ n, (∀ l, l < n → ∀ x, x ≤ w → en (Lr l) x < M) → ∀ g, g < M → ar_cl en K w Lq Ll Lr n g < M := by
  intro n
  induction n with
  | zero => intro _ g hg; exact hg
  | succ n ih =>
    intro h
    rw [ar_cl_s]
    split
    · exact ih (fun l hl => h l (by omega))
    · exact ar_jn_b (ih (fun l hl => h l (by omega))) (w + 1) (fun x hx => h n (by omega) x (by omega))
/-- the first n literals can be met -/
def ar_ft (en : Nat → Nat → Nat) (V K : Nat → Nat) (w : Nat) (Lq Ll Lr : Nat → Nat) (n : Nat) : Prop :=
  (∀ l, l < n → K (Ll l) = 0 → (V (Ll l) = V (Lr l) ↔ Lq l ≠ 0)) ∧
  (∀ l, l < n → K (Ll l) ≠ 0 → Lq l = 0 → ∃ x, x ≤ w ∧ ar_cl en K w Lq Ll Lr n (en (Ll l) x) ≠ ar_cl en K w Lq Ll Lr n (en (Lr l) x))
theorem ar_ft_dn {en : Nat → Nat → Nat} {V K : Nat → Nat} {w : Nat} {Lq Ll Lr : Nat → Nat} {n : Nat} (h : ar_ft en V K w Lq Ll Lr (n + 1)) : ar_ft en V K w Lq Ll Lr n := by
  refine ⟨fun l hl => h.1 l (by omega), fun l hl hk hq => ?_⟩
  obtain ⟨x, hx, hne⟩ := h.2 l (by omega) hk hq
  exact ⟨x, hx, fun z => hne (ar_cl_k z)⟩
theorem ar_ft_cg {en : Nat → Nat → Nat} {V K : Nat → Nat} {w : Nat} {Lq Ll Lr Mq Ml Mr : Nat → Nat} {n : Nat} (e : ∀ l, l < n → Mq l = Lq l ∧ Ml l = Ll l ∧ Mr l = Lr l) (h : ar_ft en V K w Lq Ll Lr n) : ar_ft en V K w Mq Ml Mr n := by
  refine ⟨fun l hl => ?_, fun l hl => ?_⟩
  · obtain ⟨h1, h2, h3⟩ := e l hl
    rw [h1, h2, h3]
    exact h.1 l hl
  · obtain ⟨h1, h2, h3⟩ := e l hl
    rw [h1, h2, h3, ar_cl_cg n e]
    exact h.2 l hl
theorem ar_up_cg {Lq Ll Lr : Nat → Nat} {n q t u : Nat} : ∀ l, l < n → ar_up Lq n q l = Lq l ∧ ar_up Ll n t l = Ll l ∧ ar_up Lr n u l = Lr l := fun _ hl => ⟨ar_un (by omega), ar_un (by omega), ar_un (by omega)⟩
theorem ar_ft_up {en : Nat → Nat → Nat} {V K : Nat → Nat} {w : Nat} {Lq Ll Lr : Nat → Nat} {n : Nat} (h : ar_ft en V K w Lq Ll Lr n) (t u : Nat) :
    ar_ft en V K w (ar_up Lq n 1) (ar_up Ll n t) (ar_up Lr n u) (n + 1) ∨ ar_ft en V K w (ar_up Lq n 0) (ar_up Ll n t) (ar_up Lr n u) (n + 1) := by
  by_cases hk : K t = 0
  · have hcl : ∀ q, ar_cl en K w (ar_up Lq n q) (ar_up Ll n t) (ar_up Lr n u) (n + 1) = ar_cl en K w Lq Ll Lr n := by
      intro q
      rw [ar_cl_s, if_pos (Or.inr (by rw [ar_us]; exact hk)), ar_cl_cg n ar_up_cg]
    have main : ∀ q, (V t = V u ↔ q ≠ 0) → ar_ft en V K w (ar_up Lq n q) (ar_up Ll n t) (ar_up Lr n u) (n + 1) := by
      intro q hq
      refine ⟨fun l hl => ?_, fun l hl => ?_⟩
      · by_cases hn : l = n
        · subst hn
          rw [ar_us, ar_us, ar_us]
          exact fun _ => hq
        · rw [ar_un hn, ar_un hn, ar_un hn]
          exact h.1 l (by omega)
      · rw [hcl q]
        by_cases hn : l = n
        · subst hn
          rw [ar_us]
          exact fun z => absurd hk z
        · rw [ar_un hn, ar_un hn, ar_un hn]
          exact h.2 l (by omega)
    by_cases hv : V t = V u
    · exact Or.inl (main 1 ⟨fun _ => by omega, fun _ => hv⟩)
    · exact Or.inr (main 0 ⟨fun z => absurd z hv, fun z => absurd rfl z⟩)
  · by_cases hall : ∀ x, x < w + 1 → ar_cl en K w Lq Ll Lr n (en t x) = ar_cl en K w Lq Ll Lr n (en u x)
    · refine Or.inl ⟨fun l hl => ?_, fun l hl => ?_⟩
      · by_cases hn : l = n
        · subst hn
          rw [ar_us]
          exact fun z => absurd z hk
        · rw [ar_un hn, ar_un hn, ar_un hn]
          exact h.1 l (by omega)
      · have hcl : ar_cl en K w (ar_up Lq n 1) (ar_up Ll n t) (ar_up Lr n u) (n + 1) = ar_cl en K w Lq Ll Lr n := by
          rw [ar_cl_s, if_neg (by rw [ar_us, ar_us]; omega), ar_us, ar_us, ar_cl_cg n ar_up_cg]
          exact ar_jn_id (w + 1) hall
        rw [hcl]
        by_cases hn : l = n
        · subst hn
          rw [ar_us]
          exact fun _ z => absurd (ar_us.symm.trans z) (by omega)
        · rw [ar_un hn, ar_un hn, ar_un hn]
          exact h.2 l (by omega)
    · refine Or.inr ⟨fun l hl => ?_, fun l hl => ?_⟩
      · by_cases hn : l = n
        · subst hn
          rw [ar_us]
          exact fun z => absurd z hk
        · rw [ar_un hn, ar_un hn, ar_un hn]
          exact h.1 l (by omega)
      · have hcl : ar_cl en K w (ar_up Lq n 0) (ar_up Ll n t) (ar_up Lr n u) (n + 1) = ar_cl en K w Lq Ll Lr n := by
          rw [ar_cl_s, if_pos (Or.inl ar_us), ar_cl_cg n ar_up_cg]
        rw [hcl]
        by_cases hn : l = n
        · subst hn
          rw [ar_us, ar_us, ar_us]
          intro _ _
          refine Classical.byContradiction fun hno => hall fun x hx => ?_
          exact Classical.byContradiction fun hne => hno ⟨x, by omega, hne⟩
        · rw [ar_un hn, ar_un hn, ar_un hn]
          exact h.2 l (by omega)
/-! union and find -/
def ar_ls (P : Nat → Nat) (r : Nat) : Prop := ∀ g, g < r → P g ≠ P r
theorem ar_ls_u {P : Nat → Nat} {r s : Nat} (h : ar_ls P r) (k : ar_ls P s) (e : P r = P s) : r = s := by
  rcases Nat.lt_trichotomy r s with a | a | a
  · exact absurd e (k r a)
  · exact a
  · exact absurd e.symm (h s a)
def ar_uf (M : Nat) (P : Nat → Nat) (a : Nat → Int32) : Prop :=
  ∀ e, e < M → (∃ d, d ≤ e ∧ a e = nI d ∧ P d = P e) ∧ (a e = nI e → ar_ls P e)
theorem ar_uf_0 {M : Nat} {a : Nat → Int32} (h : ∀ e, e < M → a e = nI e) : ar_uf M (fun g => g) a :=
  fun e he => ⟨⟨e, Nat.le_refl e, h e he, rfl⟩, fun _ g hg z => by dsimp only at z; omega⟩
theorem ar_uf_h {M : Nat} {P : Nat → Nat} {a : Nat → Int32} (hM : M ≤ 144) (h : ar_uf M P a) {e d c : Nat} (he : e < M) (hd : d < e) (h1 : P d = P e) (hc : c ≤ d) (h2 : P c = P d) : ar_uf M P (upd a e (nI c)) := by
  intro g hg
  by_cases hge : g = e
  · subst hge
    rw [pk_us]
    refine ⟨⟨c, by omega, rfl, h2.trans h1⟩, fun z => ?_⟩
    have := ar_inj z (by omega) (by omega)
    omega
  · rw [pk_un hge]
    exact h g hg
theorem ar_uf_j {M : Nat} {P : Nat → Nat} {a : Nat → Int32} (hM : M ≤ 144) (h : ar_uf M P a) {p q r s : Nat} (hr : r < M) (hs : s ≤ r) (lr : ar_ls P r) (lsn : ar_ls P s)
    (hm : (P r = P p ∧ P s = P q) ∨ (P r = P q ∧ P s = P p)) : ar_uf M (ar_mg P p q) (upd a r (nI s)) := by
  intro g hg
  by_cases hgr : g = r
  · subst hgr
    rw [pk_us]
    refine ⟨⟨s, hs, rfl, ar_mg_iff.mpr (by omega)⟩, fun z => ?_⟩
    have hsg := ar_inj z (by omega) (by omega)
    subst hsg
    rw [ar_mg_id (by omega)]
    exact lr
  · rw [pk_un hgr]
    obtain ⟨⟨d, d1, d2, d3⟩, hl⟩ := h g hg
    refine ⟨⟨d, d1, d2, ar_mg_k d3⟩, fun z => ?_⟩
    have hlg := hl z
    intro f hf hfe
    rcases ar_mg_iff.mp hfe with e | e | e
    · exact hlg f hf e
    · rcases hm with m | m
      · -- f goes with r, g goes with s
        have := ar_ls_u hlg lsn (by omega)
        have : P f ≠ P r := lr f (by omega)
        omega
      · have := ar_ls_u hlg lr (by omega)
        omega
    · rcases hm with m | m
      · have := ar_ls_u hlg lr (by omega)
        omega
      · have := ar_ls_u hlg lsn (by omega)
        have : P f ≠ P r := lr f (by omega)
        omega
end
section
/-! lists of index values: digits and codes -/
def ar_mx (D : Nat → Nat) : Nat → Nat
  | 0 => 0
  | r + 1 => if D r = ar_mx D r then ar_mx D r + 1 else ar_mx D r
theorem ar_mx_s {D : Nat → Nat} {r : Nat} : ar_mx D (r + 1) = if D r = ar_mx D r then ar_mx D r + 1 else ar_mx D r := rfl
theorem ar_mx_le {D : Nat → Nat} : ∀ r, ar_mx D r ≤ r := by
  intro r
  induction r with
  | zero => exact Nat.le_refl 0
  | succ r ih => rw [ar_mx_s]; split <;> omega
theorem ar_mx_cg {D D' : Nat → Nat} : ∀ r, (∀ j, j < r → D j = D' j) → ar_mx D r = ar_mx D' r := by
  intro r
  induction r with
  | zero => intro _; rfl
  | succ r ih =>
    intro h
    rw [ar_mx_s, ar_mx_s, ih (fun j hj => h j (by omega)), h r (by omega)]
theorem ar_mx_mo {D : Nat → Nat} {r : Nat} : ∀ s, r ≤ s → ar_mx D r ≤ ar_mx D s := by
  intro s
  induction s with
  | zero => intro h; rw [show r = 0 from by omega]; exact Nat.le_refl _
  | succ s ih =>
    intro h
    by_cases hs : r = s + 1
    · rw [hs]; exact Nat.le_refl _
    · have := ih (by omega)
      rw [ar_mx_s]; split <;> omega
def ar_ok (ni : Nat) (D : Nat → Nat) : Prop := (∀ r, r < ni → D r ≤ ar_mx D r) ∧ ∀ r, ni ≤ r → r < 5 → D r = 0
theorem ar_ok_lt {D : Nat → Nat} {ni r : Nat} (h : ∀ r, r < ni → D r ≤ ar_mx D r) (hr : r < ni) : D r < ar_mx D ni := by
  have h1 := h r hr
  have h2 := ar_mx_mo (D := D) (r := r + 1) ni (by omega)
  rw [ar_mx_s] at h2
  split at h2 <;> omega
def ar_dg (c r : Nat) : Nat := c / 5 ^ (4 - r) % 5
theorem ar_dg0 (c : Nat) : ar_dg c 0 = c / 625 % 5 := rfl
theorem ar_dg1 (c : Nat) : ar_dg c 1 = c / 125 % 5 := rfl
theorem ar_dg2 (c : Nat) : ar_dg c 2 = c / 25 % 5 := rfl
theorem ar_dg3 (c : Nat) : ar_dg c 3 = c / 5 % 5 := rfl
theorem ar_dg4 (c : Nat) : ar_dg c 4 = c % 5 := by
  show c / 1 % 5 = c % 5
  rw [Nat.div_one]
theorem ar_5 {P : Nat → Prop} (h0 : P 0) (h1 : P 1) (h2 : P 2) (h3 : P 3) (h4 : P 4) : ∀ r, r < 5 → P r := by
  intro r hr
  have : r = 0 ∨ r = 1 ∨ r = 2 ∨ r = 3 ∨ r = 4 := by omega
  rcases this with e | e | e | e | e <;> (subst e; assumption)
theorem ar_dg_b (c : Nat) : ∀ r, ar_dg c r < 5 := fun r => Nat.mod_lt _ (by decide)
def ar_cd (D : Nat → Nat) : Nat := D 0 * 625 + D 1 * 125 + D 2 * 25 + D 3 * 5 + D 4
theorem ar_cd_b {D : Nat → Nat} (h : ∀ r, r < 5 → D r < 5) : ar_cd D < 3125 := by
  have h0 := h 0 (by omega)
  have h1 := h 1 (by omega)
  have h2 := h 2 (by omega)
  have h3 := h 3 (by omega)
  have h4 := h 4 (by omega)
  unfold ar_cd
  omega
theorem ar_dg_cd {D : Nat → Nat} (h : ∀ r, r < 5 → D r < 5) : ∀ r, r < 5 → ar_dg (ar_cd D) r = D r := by
  have h0 := h 0 (by omega)
  have h1 := h 1 (by omega)
  have h2 := h 2 (by omega)
  have h3 := h 3 (by omega)
  have h4 := h 4 (by omega)
  refine ar_5 ?_ ?_ ?_ ?_ ?_
  · rw [ar_dg0]; unfold ar_cd; omega
  · rw [ar_dg1]; unfold ar_cd; omega
  · rw [ar_dg2]; unfold ar_cd; omega
  · rw [ar_dg3]; unfold ar_cd; omega
  · rw [ar_dg4]; unfold ar_cd; omega
theorem ar_cd_dg {c : Nat} (h : c < 3125) : c = ar_dg c 0 * 625 + ar_dg c 1 * 125 + ar_dg c 2 * 25 + ar_dg c 3 * 5 + ar_dg c 4 := by
  rw [ar_dg0, ar_dg1, ar_dg2, ar_dg3, ar_dg4]
  omega
theorem ar_lex {c d : Nat} (hc : c < 3125) (hd : d < 3125) (h : c < d) : ∃ s, s < 5 ∧ (∀ j, j < s → ar_dg c j = ar_dg d j) ∧ ar_dg c s < ar_dg d s := by
  have ec := ar_cd_dg hc
  have ed := ar_cd_dg hd
  have c0 := ar_dg_b c 0
  have c1 := ar_dg_b c 1
  have c2 := ar_dg_b c 2
  have c3 := ar_dg_b c 3
  have c4 := ar_dg_b c 4
  have d0 := ar_dg_b d 0
  have d1 := ar_dg_b d 1
  have d2 := ar_dg_b d 2
  have d3 := ar_dg_b d 3
  have d4 := ar_dg_b d 4
  by_cases e0 : ar_dg c 0 = ar_dg d 0
  · by_cases e1 : ar_dg c 1 = ar_dg d 1
    · by_cases e2 : ar_dg c 2 = ar_dg d 2
      · by_cases e3 : ar_dg c 3 = ar_dg d 3
        · refine ⟨4, by omega, fun j hj => ?_, by omega⟩
          have : j = 0 ∨ j = 1 ∨ j = 2 ∨ j = 3 := by omega
          rcases this with e | e | e | e <;> (subst e; assumption)
        · refine ⟨3, by omega, fun j hj => ?_, by omega⟩
          have : j = 0 ∨ j = 1 ∨ j = 2 := by omega
          rcases this with e | e | e <;> (subst e; assumption)
      · refine ⟨2, by omega, fun j hj => ?_, by omega⟩
        have : j = 0 ∨ j = 1 := by omega
        rcases this with e | e <;> (subst e; assumption)
    · refine ⟨1, by omega, fun j hj => ?_, by omega⟩
      have e : j = 0 := by omega
      subst e; assumption
  · exact ⟨0, by omega, fun j hj => absurd hj (by omega), by omega⟩
theorem ar_lex' {c d s : Nat} (hc : c < 3125) (hd : d < 3125) (hs : s < 5) (he : ∀ j, j < s → ar_dg c j = ar_dg d j) (h : ar_dg c s < ar_dg d s) : c < d := by
  have ec := ar_cd_dg hc
  have ed := ar_cd_dg hd
  have c0 := ar_dg_b c 0
  have c1 := ar_dg_b c 1
  have c2 := ar_dg_b c 2
  have c3 := ar_dg_b c 3
  have c4 := ar_dg_b c 4
  have hs' : s = 0 ∨ s = 1 ∨ s = 2 ∨ s = 3 ∨ s = 4 := by omega
  rcases hs' with e | e | e | e | e
  · subst e; omega
  · subst e
    have h0 := he 0 (by omega)
    omega
  · subst e
    have h0 := he 0 (by omega)
    have h1 := he 1 (by omega)
    omega
  · subst e
    have h0 := he 0 (by omega)
    have h1 := he 1 (by omega)
    have h2 := he 2 (by omega)
    omega
  · subst e
    have h0 := he 0 (by omega)
    have h1 := he 1 (by omega)
    have h2 := he 2 (by omega)
    have h3 := he 3 (by omega)
    omega
/-- fresh values from a rank on give the greatest list that begins so -/
theorem ar_frm {ni c d fr : Nat} (hc : c < 3125) (hd : d < 3125) (ok : ar_ok ni (ar_dg d)) (hp : ∀ j, j < fr → ar_dg c j = ar_dg d j) (hf : ∀ j, fr ≤ j → j < ni → ar_dg c j = ar_mx (ar_dg c) j) : d ≤ c := by
  refine Classical.byContradiction fun hn => ?_
  obtain ⟨s, s5, sp, sl⟩ := ar_lex hc hd (by omega)
  by_cases h1 : s < fr
  · have := hp s h1
    omega
  · by_cases h2 : s < ni
    · have a1 := ok.1 s h2
      have a2 := hf s (by omega) h2
      have a3 := ar_mx_cg s sp
      omega
    · have := ok.2 s (by omega) s5
      omega
theorem ar_adl {ni c c' r : Nat} (hc : c < 3125) (hc' : c' < 3125) (hr5 : r < 5) (hp : ∀ j, j < r → ar_dg c' j = ar_dg c j) (hr : ar_dg c' r = ar_dg c r - 1) (h0 : 0 < ar_dg c r) : c' < c :=
  ar_lex' hc' hc hr5 hp (by omega)
/-- what an advance jumps over begins alike -/
theorem ar_adv {ni c c' r lr : Nat} (hc : c < 3125) (hc' : c' < 3125) (hr5 : r < 5) (hp : ∀ j, j < r → ar_dg c' j = ar_dg c j) (hr : ar_dg c' r = ar_dg c r - 1) (h0 : 0 < ar_dg c r)
    (hf : ∀ j, r < j → j < ni → ar_dg c' j = ar_mx (ar_dg c') j) (hz : ∀ j, r < j → j ≤ lr → ar_dg c j = 0)
    {d : Nat} (ok : ar_ok ni (ar_dg d)) (h1 : c' < d) (h2 : d < c) : ∀ j, j ≤ lr → ar_dg d j = ar_dg c j := by
  obtain ⟨s, s5, sp, sl⟩ := ar_lex (by omega) hc h2
  by_cases hs : s ≤ lr
  · exfalso
    have hsr : s ≤ r := by
      refine Classical.byContradiction fun hn => ?_
      have := hz s (by omega) hs
      omega
    by_cases hse : s = r
    · subst hse
      by_cases he : ar_dg d s = ar_dg c' s
      · have := ar_frm (fr := s + 1) hc' (by omega) ok (fun j hj => by
          by_cases hjs : j = s
          · rw [hjs]; exact he.symm
          · rw [hp j (by omega)]; exact (sp j (by omega)).symm) (fun j hj hn => hf j (by omega) hn)
        omega
      · have := ar_lex' (by omega) hc' s5 (fun j hj => by rw [hp j hj]; exact sp j hj) (show ar_dg d s < ar_dg c' s by omega)
        omega
    · have := ar_lex' (c := d) (d := c') (s := s) (by omega) hc' s5 (fun j hj => by rw [hp j (by omega)]; exact sp j hj) (by rw [hp s (by omega)]; exact sl)
      omega
  · exact fun j hj => sp j (by omega)
theorem ar_adn {ni c lr : Nat} (hc : c < 3125) (ok : ar_ok ni (ar_dg c)) (hz : ∀ j, 0 < j → j ≤ lr → ar_dg c j = 0)
    {d : Nat} (h2 : d < c) : ∀ j, j ≤ lr → ar_dg d j = ar_dg c j := by
  obtain ⟨s, s5, sp, sl⟩ := ar_lex (by omega) hc h2
  by_cases hs : s ≤ lr
  · exfalso
    by_cases s0 : s = 0
    · subst s0
      by_cases hn : 0 < ni
      · have := ok.1 0 hn
        have e : ar_mx (ar_dg c) 0 = 0 := rfl
        omega
      · have := ok.2 0 (by omega) (by omega)
        omega
    · have := hz s (by omega) hs
      omega
  · exact fun j hj => sp j (by omega)
/-- the code of a list -/
theorem ar_mkc {ni : Nat} {D : Nat → Nat} (hn : ni ≤ 5) (h : ∀ j, j < ni → D j ≤ ar_mx D j) : ∃ c, c < 3125 ∧ (∀ j, j < ni → ar_dg c j = D j) ∧ ar_ok ni (ar_dg c) ∧ ∀ j, j ≤ ni → ar_mx (ar_dg c) j = ar_mx D j := by
  have hb : ∀ r, r < 5 → (fun j => if j < ni then D j else 0) r < 5 := by
    intro r hr
    dsimp only
    split
    · rename_i hrn
      have h1 := h r hrn
      have h2 := ar_mx_le (D := D) r
      omega
    · omega
  have hd := ar_dg_cd hb
  have h1 : ∀ j, j < ni → ar_dg (ar_cd fun j => if j < ni then D j else 0) j = D j := by
    intro j hj
    rw [hd j (by omega)]
    exact if_pos hj
  have hm : ∀ j, j ≤ ni → ar_mx (ar_dg (ar_cd fun j => if j < ni then D j else 0)) j = ar_mx D j := fun j hj => ar_mx_cg j (fun i hi => h1 i (by omega))
  refine ⟨_, ar_cd_b hb, h1, ⟨fun r hr => ?_, fun r hr h5 => ?_⟩, hm⟩
  · rw [h1 r hr, hm r (by omega)]
    exact h r hr
  · rw [hd r h5]
    exact if_neg (by omega)
/-! there are 52 lists -/
def ar_vl : List Nat := [0, 1, 5, 6, 7, 25, 26, 27, 30, 31, 32, 35, 36, 37, 38, 125, 126, 127, 130, 131, 132, 135, 136, 137, 138, 150, 151, 152, 155, 156, 157, 160, 161, 162, 163, 175, 176, 177, 178, 180, 181, 182, 183, 185, 186, 187, 188, 190, 191, 192, 193, 194]
def ar_cn (c : Nat) : List Nat → Nat
  | [] => 0
  | d :: l => (if d < c then 1 else 0) + ar_cn c l
theorem ar_cn_c {c d : Nat} {l : List Nat} : ar_cn c (d :: l) = (if d < c then 1 else 0) + ar_cn c l := rfl
theorem ar_cn_le {c : Nat} : ∀ l, ar_cn c l ≤ l.length := by
  intro l
  induction l with
  | nil => exact Nat.le_refl 0
  | cons d l ih => rw [ar_cn_c, List.length_cons]; split <;> omega
theorem ar_cn_mo {c d : Nat} (h : c ≤ d) : ∀ l, ar_cn c l ≤ ar_cn d l := by
  intro l
  induction l with
  | nil => exact Nat.le_refl 0
  | cons e l ih => rw [ar_cn_c, ar_cn_c]; split <;> split <;> omega
theorem ar_cn_s {c d : Nat} (h : c < d) : ∀ l, c ∈ l → ar_cn c l + 1 ≤ ar_cn d l := by
  intro l
  induction l with
  | nil => intro hm; exact absurd hm (List.not_mem_nil)
  | cons e l ih =>
    intro hm
    have hmo := ar_cn_mo (Nat.le_of_lt h) l
    rw [ar_cn_c, ar_cn_c]
    rcases List.mem_cons.mp hm with he | he
    · subst he
      rw [if_neg (by omega), if_pos h]
      omega
    · have := ih he
      split <;> split <;> omega
theorem ar_cn52 {c : Nat} : ar_cn c ar_vl ≤ 52 := ar_cn_le ar_vl
def ar_vb (d1 d2 d3 d4 : Nat) : Bool :=
  let k2 := if d1 = 1 then 2 else 1
  let k3 := if d2 = k2 then k2 + 1 else k2
  let k4 := if d3 = k3 then k3 + 1 else k3
  decide (d2 ≤ k2) && decide (d3 ≤ k3) && decide (d4 ≤ k4)
theorem ar_vl_all : ∀ d1 : Fin 2, ∀ d2 : Fin 3, ∀ d3 : Fin 4, ∀ d4 : Fin 5, ar_vb d1.val d2.val d3.val d4.val = true → (d1.val * 125 + d2.val * 25 + d3.val * 5 + d4.val) ∈ ar_vl := by decide +kernel
theorem ar_ok5 {ni : Nat} {D : Nat → Nat} (ok : ar_ok ni D) : ∀ r, r < 5 → D r ≤ ar_mx D r := by
  intro r hr
  by_cases h : r < ni
  · exact ok.1 r h
  · rw [ok.2 r (by omega) hr]; exact Nat.zero_le _
theorem ar_vm {ni c : Nat} (hc : c < 3125) (ok : ar_ok ni (ar_dg c)) : c ∈ ar_vl := by
  have h := ar_ok5 ok
  have ec := ar_cd_dg hc
  have h0 := h 0 (by omega)
  have h1 := h 1 (by omega)
  have h2 := h 2 (by omega)
  have h3 := h 3 (by omega)
  have h4 := h 4 (by omega)
  have l1 := ar_mx_le (D := ar_dg c) 1
  have l2 := ar_mx_le (D := ar_dg c) 2
  have l3 := ar_mx_le (D := ar_dg c) 3
  have l4 := ar_mx_le (D := ar_dg c) 4
  have m0 : ar_mx (ar_dg c) 0 = 0 := rfl
  have m1 : ar_mx (ar_dg c) 1 = 1 := by rw [ar_mx_s, if_pos (by omega)]; omega
  have m2 : ar_mx (ar_dg c) 2 = if ar_dg c 1 = 1 then 2 else 1 := by rw [ar_mx_s, m1]
  have m3 : ar_mx (ar_dg c) 3 = if ar_dg c 2 = ar_mx (ar_dg c) 2 then ar_mx (ar_dg c) 2 + 1 else ar_mx (ar_dg c) 2 := ar_mx_s
  have m4 : ar_mx (ar_dg c) 4 = if ar_dg c 3 = ar_mx (ar_dg c) 3 then ar_mx (ar_dg c) 3 + 1 else ar_mx (ar_dg c) 3 := ar_mx_s
  have key := ar_vl_all ⟨ar_dg c 1, by omega⟩ ⟨ar_dg c 2, by omega⟩ ⟨ar_dg c 3, by omega⟩ ⟨ar_dg c 4, by omega⟩ (by
    show ar_vb (ar_dg c 1) (ar_dg c 2) (ar_dg c 3) (ar_dg c 4) = true
    unfold ar_vb
    rw [m2] at m3
    rw [m3] at m4
    rw [m2] at h2
    rw [m3] at h3
    rw [m4] at h4
    simp only [Bool.and_eq_true, decide_eq_true_eq]
    exact ⟨⟨h2, h3⟩, h4⟩)
  have e : ar_dg c 1 * 125 + ar_dg c 2 * 25 + ar_dg c 3 * 5 + ar_dg c 4 = c := by omega
  rw [← e]
  exact key
/-! the index constants, counted -/
def ar_ci (K : Nat → Nat) : Nat → Nat
  | 0 => 0
  | t + 1 => if K t = 0 then ar_ci K t + 1 else ar_ci K t
theorem ar_ci_s {K : Nat → Nat} {t : Nat} : ar_ci K (t + 1) = if K t = 0 then ar_ci K t + 1 else ar_ci K t := rfl
theorem ar_ci_mo {K : Nat → Nat} {t : Nat} : ∀ s, t ≤ s → ar_ci K t ≤ ar_ci K s := by
  intro s
  induction s with
  | zero => intro h; rw [show t = 0 from by omega]; exact Nat.le_refl _
  | succ s ih =>
    intro h
    by_cases hs : t = s + 1
    · rw [hs]; exact Nat.le_refl _
    · have := ih (by omega)
      rw [ar_ci_s]; split <;> omega
theorem ar_ci_lt {K : Nat → Nat} {t s : Nat} (h : t < s) (hk : K t = 0) : ar_ci K t < ar_ci K s := by
  have := ar_ci_mo (K := K) (t := t + 1) s h
  rw [ar_ci_s, if_pos hk] at this
  omega
theorem ar_ci_su {K : Nat → Nat} {r : Nat} : ∀ m, r < ar_ci K m → ∃ t, t < m ∧ K t = 0 ∧ ar_ci K t = r := by
  intro m
  induction m with
  | zero => intro h; exact absurd h (Nat.not_lt_zero r)
  | succ m ih =>
    intro h
    by_cases hr : r < ar_ci K m
    · obtain ⟨t, h1, h2, h3⟩ := ih hr
      exact ⟨t, by omega, h2, h3⟩
    · rw [ar_ci_s] at h
      split at h
      · rename_i hk
        exact ⟨m, by omega, hk, by omega⟩
      · omega
theorem ar_ci_in {K : Nat → Nat} {t s : Nat} (ht : K t = 0) (hs : K s = 0) (h : ar_ci K t = ar_ci K s) : t = s := by
  rcases Nat.lt_trichotomy t s with a | a | a
  · have := ar_ci_lt a ht; omega
  · exact a
  · have := ar_ci_lt a hs; omega
theorem ar_ci_cg {K K' : Nat → Nat} : ∀ m, (∀ t, t < m → K t = K' t) → ar_ci K m = ar_ci K' m := by
  intro m
  induction m with
  | zero => intro _; rfl
  | succ m ih =>
    intro h
    rw [ar_ci_s, ar_ci_s, h m (by omega), ih (fun t ht => h t (by omega))]
end
section
/-! numbering the classes -/
def ar_vz (n : Nat) : Int32 := if n = 0 then -1 else nI (n - 1)
theorem ar_vz0 : ar_vz 0 = -1 := rfl
theorem ar_vzs {n : Nat} (h : n ≠ 0) : ar_vz n = nI (n - 1) := if_neg h
def ar_sc (P N : Nat → Nat) (e nx : Nat) : Nat → Nat
  | 0 => nx
  | g + 1 => if P g = P e ∧ N g ≠ 0 then N g - 1 else ar_sc P N e nx g
theorem ar_sc_s {P N : Nat → Nat} {e nx g : Nat} : ar_sc P N e nx (g + 1) = if P g = P e ∧ N g ≠ 0 then N g - 1 else ar_sc P N e nx g := rfl
theorem ar_sc_n {P N : Nat → Nat} {e nx : Nat} : ∀ k, (∀ g, g < k → P g = P e → N g = 0) → ar_sc P N e nx k = nx := by
  intro k
  induction k with
  | zero => intro _; rfl
  | succ k ih =>
    intro h
    rw [ar_sc_s, if_neg (fun z => z.2 (h k (by omega) z.1))]
    exact ih (fun g hg => h g (by omega))
theorem ar_sc_v {P N : Nat → Nat} {e nx v : Nat} : ∀ k, (∀ g, g < k → P g = P e → N g ≠ 0 → N g = v) → (∃ g, g < k ∧ P g = P e ∧ N g ≠ 0) → ar_sc P N e nx k = v - 1 := by
  intro k
  induction k with
  | zero => intro _ h; obtain ⟨g, hg, _⟩ := h; omega
  | succ k ih =>
    intro h hx
    rw [ar_sc_s]
    by_cases hk : P k = P e ∧ N k ≠ 0
    · rw [if_pos hk, h k (by omega) hk.1 hk.2]
    · rw [if_neg hk]
      refine ih (fun g hg => h g (by omega)) ?_
      obtain ⟨g, hg, hg2⟩ := hx
      refine ⟨g, ?_, hg2⟩
      by_cases e : g = k
      · rw [e] at hg2; exact absurd hg2 hk
      · omega
theorem ar_sc_b {P N : Nat → Nat} {e nx : Nat} (h : ∀ g, N g ≤ nx) : ∀ k, ar_sc P N e nx k ≤ nx := by
  intro k
  induction k with
  | zero => exact Nat.le_refl _
  | succ k ih =>
    rw [ar_sc_s]
    split
    · have := h k; omega
    · exact ih
def ar_st (P : Nat → Nat) (e : Nat) (s : (Nat → Nat) × Nat) : (Nat → Nat) × Nat :=
  (ar_up s.1 e (ar_sc P s.1 e s.2 144 + 1), if ar_sc P s.1 e s.2 144 = s.2 then s.2 + 1 else s.2)
def ar_pl (P : Nat → Nat) (t : Nat) (s : (Nat → Nat) × Nat) : Nat → (Nat → Nat) × Nat
  | 0 => s
  | x + 1 => ar_st P (t * 6 + x) (ar_pl P t s x)
def ar_ts (P K : Nat → Nat) (so k : Nat) (s : (Nat → Nat) × Nat) : Nat → (Nat → Nat) × Nat
  | 0 => s
  | t + 1 => if K t = so then ar_pl P t (ar_ts P K so k s t) k else ar_ts P K so k s t
theorem ar_pl_s {P : Nat → Nat} {t x : Nat} {s : (Nat → Nat) × Nat} : ar_pl P t s (x + 1) = ar_st P (t * 6 + x) (ar_pl P t s x) := rfl
theorem ar_ts_s {P K : Nat → Nat} {so k t : Nat} {s : (Nat → Nat) × Nat} : ar_ts P K so k s (t + 1) = if K t = so then ar_pl P t (ar_ts P K so k s t) k else ar_ts P K so k s t := rfl
/-- bounds -/
def ar_sb (s : (Nat → Nat) × Nat) (m : Nat) : Prop := s.2 ≤ m ∧ ∀ g, s.1 g ≤ s.2
theorem ar_st_b {P : Nat → Nat} {e m : Nat} {s : (Nat → Nat) × Nat} (h : ar_sb s m) : ar_sb (ar_st P e s) (m + 1) := by
  have h1 := h.1
  have hs := ar_sc_b (P := P) (e := e) h.2 144
  refine ⟨?_, fun g => ?_⟩
  · show (if ar_sc P s.1 e s.2 144 = s.2 then s.2 + 1 else s.2) ≤ m + 1
    split <;> omega
  · show ar_up s.1 e (ar_sc P s.1 e s.2 144 + 1) g ≤ (if ar_sc P s.1 e s.2 144 = s.2 then s.2 + 1 else s.2)
    have hg := h.2 g
    by_cases he : g = e
    · rw [he, ar_us]
      split <;> omega
    · rw [ar_un he]
      split <;> omega
theorem ar_pl_b {P : Nat → Nat} {t m : Nat} {s : (Nat → Nat) × Nat} (h : ar_sb s m) : ∀ k, ar_sb (ar_pl P t s k) (m + k) := by
  intro k
  induction k with
  | zero => exact h
  | succ k ih => exact ar_st_b ih
theorem ar_sb_m {s : (Nat → Nat) × Nat} {m m' : Nat} (h : ar_sb s m) (hm : m ≤ m') : ar_sb s m' := ⟨Nat.le_trans h.1 hm, h.2⟩
theorem ar_ts_b {P K : Nat → Nat} {so k m : Nat} {s : (Nat → Nat) × Nat} (hk : k ≤ 6) (h : ar_sb s m) : ∀ t, ar_sb (ar_ts P K so k s t) (m + t * 6) := by
  intro t
  induction t with
  | zero => exact h
  | succ t ih =>
    rw [ar_ts_s]
    split
    · exact ar_sb_m (ar_pl_b ih k) (by omega)
    · exact ar_sb_m ih (by omega)
/-- what is numbered stays numbered -/
theorem ar_st_n {P : Nat → Nat} {e g : Nat} {s : (Nat → Nat) × Nat} (h : s.1 g ≠ 0 ∨ g = e) : (ar_st P e s).1 g ≠ 0 := by
  show ar_up s.1 e (ar_sc P s.1 e s.2 144 + 1) g ≠ 0
  by_cases he : g = e
  · rw [he, ar_us]; omega
  · rw [ar_un he]
    rcases h with h | h
    · exact h
    · exact absurd h he
theorem ar_pl_n {P : Nat → Nat} {t g : Nat} {s : (Nat → Nat) × Nat} : ∀ k, (s.1 g ≠ 0 ∨ ∃ x, x < k ∧ g = t * 6 + x) → (ar_pl P t s k).1 g ≠ 0 := by
  intro k
  induction k with
  | zero =>
    intro h
    rcases h with h | ⟨x, hx, _⟩
    · exact h
    · omega
  | succ k ih =>
    intro h
    rw [ar_pl_s]
    refine ar_st_n ?_
    rcases h with h | ⟨x, hx, he⟩
    · exact Or.inl (ih (Or.inl h))
    · by_cases hk : x = k
      · rw [hk] at he; exact Or.inr he
      · exact Or.inl (ih (Or.inr ⟨x, by omega, he⟩))
theorem ar_ts_n {P K : Nat → Nat} {so k g : Nat} {s : (Nat → Nat) × Nat} : ∀ m, (s.1 g ≠ 0 ∨ ∃ t x, t < m ∧ K t = so ∧ x < k ∧ g = t * 6 + x) → (ar_ts P K so k s m).1 g ≠ 0 := by
  intro m
  induction m with
  | zero =>
    intro h
    rcases h with h | ⟨t, x, hx, _⟩
    · exact h
    · omega
  | succ m ih =>
    intro h
    rw [ar_ts_s]
    rcases h with h | ⟨t, x, ht, hk, hx, he⟩
    · split
      · exact ar_pl_n k (Or.inl (ih (Or.inl h)))
      · exact ih (Or.inl h)
    · by_cases htm : t = m
      · rw [htm] at hk he
        rw [if_pos hk]
        exact ar_pl_n k (Or.inr ⟨x, hx, he⟩)
      · have := ih (Or.inr ⟨t, x, by omega, hk, hx, he⟩)
        split
        · exact ar_pl_n k (Or.inl this)
        · exact this
/-- labels of the least entries and numbers agree -/
def ar_nj (M : Nat) (P L N : Nat → Nat) (nx : Nat) : Prop :=
  (∀ g, g < M → N g ≠ 0 → ∀ r, r < M → ar_ls P r → P r = P g → L r = N g) ∧
  (∀ r, r < M → ar_ls P r → L r ≠ 0 → ∃ g, g < M ∧ N g ≠ 0 ∧ P g = P r) ∧
  (∀ g, N g ≤ nx) ∧ (∀ g, M ≤ g → N g = 0)
theorem ar_nj_0 {M : Nat} {P : Nat → Nat} : ar_nj M P (fun _ => 0) (fun _ => 0) 0 :=
  ⟨fun _ _ h => absurd rfl h, fun _ _ _ h => absurd rfl h, fun _ => Nat.le_refl 0, fun _ _ => rfl⟩
theorem ar_nj_new {M : Nat} {P L N : Nat → Nat} {nx e r : Nat} (h : ar_nj M P L N nx) (he : e < M) (hr : r < M) (hl : ar_ls P r) (hp : P r = P e) (h0 : L r = 0) :
    ar_st P e (N, nx) = (ar_up N e (nx + 1), nx + 1) ∧ ar_nj M P (ar_up L r (nx + 1)) (ar_up N e (nx + 1)) (nx + 1) := by
  obtain ⟨i1, i2, i3, i4⟩ := h
  have hs : ar_sc P N e nx 144 = nx := by
    refine ar_sc_n 144 (fun g _ hg => Classical.byContradiction fun hn => ?_)
    by_cases hM : g < M
    · have := i1 g hM hn r hr hl (hp.trans hg.symm)
      omega
    · exact hn (i4 g (by omega))
  refine ⟨?_, ?_, ?_, ?_, ?_⟩
  · show (ar_up N e (ar_sc P N e nx 144 + 1), if ar_sc P N e nx 144 = nx then nx + 1 else nx) = _
    rw [hs, if_pos rfl]
  · intro g hg hn q hq lq hpq
    by_cases hge : g = e
    · subst hge
      have hqr := ar_ls_u lq hl (hpq.trans hp.symm)
      rw [hqr, ar_us, ar_us]
    · rw [ar_un hge] at hn ⊢
      have hqr : q ≠ r := by
        intro z
        have := i1 g hg hn q hq lq hpq
        rw [z] at this
        omega
      rw [ar_un hqr]
      exact i1 g hg hn q hq lq hpq
  · intro q hq lq hn
    by_cases hqr : q = r
    · refine ⟨e, he, ?_, ?_⟩
      · rw [ar_us]; omega
      · rw [hqr]; exact hp.symm
    · rw [ar_un hqr] at hn
      obtain ⟨g, g1, g2, g3⟩ := i2 q hq lq hn
      refine ⟨g, g1, ?_, g3⟩
      by_cases hge : g = e
      · rw [hge, ar_us]; omega
      · rw [ar_un hge]; exact g2
  · intro g
    by_cases hge : g = e
    · rw [hge, ar_us]; omega
    · rw [ar_un hge]
      have := i3 g
      omega
  · intro g hg
    rw [ar_un (by omega)]
    exact i4 g hg
theorem ar_nj_old {M : Nat} {P L N : Nat → Nat} {nx e r : Nat} (hM : M ≤ 144) (h : ar_nj M P L N nx) (he : e < M) (hr : r < M) (hl : ar_ls P r) (hp : P r = P e) (h0 : L r ≠ 0) :
    ar_st P e (N, nx) = (ar_up N e (L r), nx) ∧ ar_nj M P L (ar_up N e (L r)) nx ∧ L r ≤ nx := by
  obtain ⟨i1, i2, i3, i4⟩ := h
  obtain ⟨g0, g1, g2, g3⟩ := i2 r hr hl h0
  have hb : L r ≤ nx := by
    rw [i1 g0 g1 g2 r hr hl g3.symm]
    exact i3 g0
  have hs : ar_sc P N e nx 144 = L r - 1 := by
    refine ar_sc_v 144 (fun g _ hg hn => ?_) ⟨g0, by omega, g3.trans hp, g2⟩
    by_cases hgM : g < M
    · exact (i1 g hgM hn r hr hl (hp.trans hg.symm)).symm
    · exact absurd (i4 g (by omega)) hn
  refine ⟨?_, ⟨?_, ?_, ?_, ?_⟩, hb⟩
  · show (ar_up N e (ar_sc P N e nx 144 + 1), if ar_sc P N e nx 144 = nx then nx + 1 else nx) = _
    rw [hs, if_neg (by omega), show L r - 1 + 1 = L r from by omega]
  · intro g hg hn q hq lq hpq
    by_cases hge : g = e
    · subst hge
      have hqr := ar_ls_u lq hl (hpq.trans hp.symm)
      rw [hqr, ar_us]
    · rw [ar_un hge] at hn ⊢
      exact i1 g hg hn q hq lq hpq
  · intro q hq lq hn
    obtain ⟨g, g1, g2, g3⟩ := i2 q hq lq hn
    refine ⟨g, g1, ?_, g3⟩
    by_cases hge : g = e
    · rw [hge, ar_us]; exact h0
    · rw [ar_un hge]; exact g2
  · intro g
    by_cases hge : g = e
    · rw [hge, ar_us]; exact hb
    · rw [ar_un hge]
      exact i3 g
  · intro g hg
    rw [ar_un (by omega)]
    exact i4 g hg
end
section
/-! the component: terms and entries -/
theorem ar_rd {a : Nat → Int32} {t : Nat} {v : Int32} (h : t < 2 ^ 31) (e : a t = v) : a (nI t).toNatClampNeg = v := by
  rw [nI_clamp h]; exact e
/-- p is the number of a term of this sort -/
def ar_hs (nt : Nat) (K : Nat → Nat) (p : Int32) (s : Nat) : Prop := ∃ t, t < nt ∧ p = nI t ∧ ar_so (K t) = s
def ar_cp (nt : Nat) (K : Nat → Nat) (p q : Int32) : Prop := ∃ t u, t < nt ∧ u < nt ∧ p = nI t ∧ q = nI u ∧ ar_so (K t) = ar_so (K u)
theorem ar_tix (p : Int32) {nt : Nat} (hn : nt ≤ 24) : (p < 0 ∨ nI nt ≤ p) ∨ ∃ t, t < nt ∧ p = nI t := by
  rcases pk_ix p (n := nt) (by omega) with h | h | h
  · exact Or.inl (Or.inl h)
  · exact Or.inl (Or.inr h)
  · exact Or.inr h
theorem ar_tno {p : Int32} {nt t : Nat} (hn : nt ≤ 24) (h : p < 0 ∨ nI nt ≤ p) (ht : t < nt) : ¬ p = nI t := by
  intro e
  rw [e] at h
  rcases h with h | h
  · exact nI_pos (by omega) h
  · exact nI_ge ht (by omega) h
section
variable {f_termLimit f_indexLimit f_literalLimit f_stride f_termCount f_indexCount f_literalCount f_depth f_trialWidth f_hasModel f_keptWidth : Int32} {a_kind a_arrayArg a_indexArg a_elementArg a_indexTerm a_rank a_litEqual a_litLeft a_litRight a_litLevel a_trial a_parent a_label a_kept : Nat → Int32} {nt : Nat} {K A I E V : Nat → Nat}
theorem xx_isn {post : Int32 → Prop} {p : Int32} (h : p < 0 ∨ nI nt ≤ p) (hp : post 0) : wpX_isTerm post (f_termLimit, f_indexLimit, f_literalLimit, f_stride, nI nt, f_indexCount, f_literalCount, f_depth, f_trialWidth, f_hasModel, f_keptWidth, a_kind, a_arrayArg, a_indexArg, a_elementArg, a_indexTerm, a_rank, a_litEqual, a_litLeft, a_litRight, a_litLevel, a_trial, a_parent, a_label, a_kept) p := by
  unfold wpX_isTerm
  exact br_c (fun _ => hp) (fun hn => br_t (h.resolve_left hn) hp)
theorem xx_isy {post : Int32 → Prop} {t : Nat} (hn : nt ≤ 24) (h : t < nt) (hp : post 1) : wpX_isTerm post (f_termLimit, f_indexLimit, f_literalLimit, f_stride, nI nt, f_indexCount, f_literalCount, f_depth, f_trialWidth, f_hasModel, f_keptWidth, a_kind, a_arrayArg, a_indexArg, a_elementArg, a_indexTerm, a_rank, a_litEqual, a_litLeft, a_litRight, a_litLevel, a_trial, a_parent, a_label, a_kept) (nI t) := by
  unfold wpX_isTerm
  exact br_f (nI_pos (by omega)) (br_f (nI_ge h (by omega)) hp)
theorem xx_so {post : Int32 → Prop} {t : Nat} (hn : nt ≤ 24) (hm : ar_tm nt K A I E a_kind a_arrayArg a_indexArg a_elementArg) (hw : ar_tw nt K A I E) (h : t < nt) (hp : post (nI (ar_so (K t)))) : wpX_sortOf post (f_termLimit, f_indexLimit, f_literalLimit, f_stride, f_termCount, f_indexCount, f_literalCount, f_depth, f_trialWidth, f_hasModel, f_keptWidth, a_kind, a_arrayArg, a_indexArg, a_elementArg, a_indexTerm, a_rank, a_litEqual, a_litLeft, a_litRight, a_litLevel, a_trial, a_parent, a_label, a_kept) (nI t) := by
  have hin : vp_in (nI t) 24 := vp_in_nI (by omega) (by decide)
  have hk := ar_rd (by omega) (hm t h).1
  have h4 := (hw t h).1
  unfold wpX_sortOf
  refine ⟨hin, pk_eq (K t) 3 (fun e => ?_) (fun e => ⟨hin, pk_eq (K t) 4 (fun e4 => ?_) (fun e4 => ⟨hin, ?_⟩) hk⟩) hk⟩
  · rw [e] at hp; exact hp
  · rw [e4] at hp; exact hp
  · rw [hk]
    have : ar_so (K t) = K t := by unfold ar_so; rw [if_neg e, if_neg e4]
    rw [this] at hp
    exact hp
theorem xx_hs {post : Int32 → Prop} {p : Int32} {s : Nat} (hs : s ≤ 2) (hn : nt ≤ 24) (hm : ar_tm nt K A I E a_kind a_arrayArg a_indexArg a_elementArg) (hw : ar_tw nt K A I E)
    (h1 : ar_hs nt K p s → post 1) (h0 : ¬ ar_hs nt K p s → post 0) : wpX_hasSort post (f_termLimit, f_indexLimit, f_literalLimit, f_stride, nI nt, f_indexCount, f_literalCount, f_depth, f_trialWidth, f_hasModel, f_keptWidth, a_kind, a_arrayArg, a_indexArg, a_elementArg, a_indexTerm, a_rank, a_litEqual, a_litLeft, a_litRight, a_litLevel, a_trial, a_parent, a_label, a_kept) p (nI s) := by
  unfold wpX_hasSort
  rcases ar_tix p hn with h | ⟨t, ht, e⟩
  · refine xx_isn h (br_t rfl (h0 ?_))
    intro ⟨t, t1, t2, _⟩
    exact ar_tno hn h t1 t2
  · subst e
    have hb := ar_so_le (hw t ht).1
    refine xx_isy hn ht (br_f (by decide) (xx_so hn hm hw ht ?_))
    refine pk_eq (ar_so (K t)) s (fun e => h1 ⟨t, ht, rfl, e⟩) (fun e => h0 ?_)
    intro ⟨u, u1, u2, u3⟩
    rw [ar_inj u2 (by omega) (by omega)] at e
    exact e u3
theorem xx_cp {post : Int32 → Prop} {p q : Int32} (hn : nt ≤ 24) (hm : ar_tm nt K A I E a_kind a_arrayArg a_indexArg a_elementArg) (hw : ar_tw nt K A I E)
    (h1 : ar_cp nt K p q → post 1) (h0 : ¬ ar_cp nt K p q → post 0) : wpX_comparable post (f_termLimit, f_indexLimit, f_literalLimit, f_stride, nI nt, f_indexCount, f_literalCount, f_depth, f_trialWidth, f_hasModel, f_keptWidth, a_kind, a_arrayArg, a_indexArg, a_elementArg, a_indexTerm, a_rank, a_litEqual, a_litLeft, a_litRight, a_litLevel, a_trial, a_parent, a_label, a_kept) p q := by
  unfold wpX_comparable
  rcases ar_tix p hn with h | ⟨t, ht, e⟩
  · refine xx_isn h (br_t rfl (h0 ?_))
    intro ⟨t, _, t1, _, t2, _⟩
    exact ar_tno hn h t1 t2
  · subst e
    refine xx_isy hn ht (br_f (by decide) ?_)
    rcases ar_tix q hn with h | ⟨u, hu, e⟩
    · refine xx_isn h (br_t rfl (h0 ?_))
      intro ⟨_, t, _, t1, _, t2, _⟩
      exact ar_tno hn h t1 t2
    · subst e
      have hb := ar_so_le (hw t ht).1
      have hc := ar_so_le (hw u hu).1
      refine xx_isy hn hu (br_f (by decide) (xx_so hn hm hw ht (xx_so hn hm hw hu ?_)))
      refine pk_eq (ar_so (K t)) (ar_so (K u)) (fun e => h1 ⟨t, u, ht, hu, rfl, rfl, e⟩) (fun e => h0 ?_)
      intro ⟨a, b, a1, b1, a2, b2, ab⟩
      rw [ar_inj a2 (by omega) (by omega), ar_inj b2 (by omega) (by omega)] at e
      exact e ab
theorem xx_iv0 {i : Nat} (hi : i < 24) (h : a_trial i = nI (V i)) : ∀ Q : Int32 → Prop, Q (nI (V i)) → wpX_indexValue Q (f_termLimit, f_indexLimit, f_literalLimit, f_stride, f_termCount, f_indexCount, f_literalCount, f_depth, f_trialWidth, f_hasModel, f_keptWidth, a_kind, a_arrayArg, a_indexArg, a_elementArg, a_indexTerm, a_rank, a_litEqual, a_litLeft, a_litRight, a_litLevel, a_trial, a_parent, a_label, a_kept) 0 (nI i) := by
  intro Q hQ
  unfold wpX_indexValue
  refine br_t rfl ⟨vp_in_nI hi (by decide), ?_⟩
  rw [ar_rd (by omega) h]
  exact hQ
theorem xx_iv1 {i : Nat} (hi : i < 24) (h : a_kept (i * 6) = nI (V i)) : ∀ Q : Int32 → Prop, Q (nI (V i)) → wpX_indexValue Q (f_termLimit, f_indexLimit, f_literalLimit, f_stride, f_termCount, f_indexCount, f_literalCount, f_depth, f_trialWidth, f_hasModel, f_keptWidth, a_kind, a_arrayArg, a_indexArg, a_elementArg, a_indexTerm, a_rank, a_litEqual, a_litLeft, a_litRight, a_litLevel, a_trial, a_parent, a_label, a_kept) 1 (nI i) := by
  intro Q hQ
  unfold wpX_indexValue
  refine br_f (by decide) ?_
  rw [ar_n6, ar_rd (by omega) h]
  exact ⟨vp_in_nI (by omega) (by decide), hQ⟩
theorem xx_lo12 {x1 : Int32} (hn : nt ≤ 24) (hm : ar_tm nt K A I E a_kind a_arrayArg a_indexArg a_elementArg) (hw : ar_tw nt K A I E)
    (hv : ∀ i, i < nt → K i = 0 → ∀ Q : Int32 → Prop, Q (nI (V i)) → wpX_indexValue Q (f_termLimit, f_indexLimit, f_literalLimit, f_stride, f_termCount, f_indexCount, f_literalCount, f_depth, f_trialWidth, f_hasModel, f_keptWidth, a_kind, a_arrayArg, a_indexArg, a_elementArg, a_indexTerm, a_rank, a_litEqual, a_litLeft, a_litRight, a_litLevel, a_trial, a_parent, a_label, a_kept) x1 (nI i)) (hV : ∀ i, i < nt → K i = 0 → V i ≤ 5) {post : Int32 → Prop} :
    ∀ n t x l, t < nt → x ≤ 5 → (K t = 1 → x = 0) → t < l → l < 100 → t < n → post (nI (ar_en K A I E V t x)) → wX_locate_12 post x1 f_termLimit f_indexLimit f_literalLimit f_stride f_termCount f_indexCount f_literalCount f_depth f_trialWidth f_hasModel f_keptWidth a_kind a_arrayArg a_indexArg a_elementArg a_indexTerm a_rank a_litEqual a_litLeft a_litRight a_litLevel a_trial a_parent a_label a_kept n (nI t) (nI x) (nI l) := by
  intro n
  induction n with
  | zero => intro t x l _ _ _ _ _ h; omega
  | succ n ih =>
    intro t x l ht hx h1 hl hl2 htn hp
    have hin : vp_in (nI t) 24 := vp_in_nI (by omega) (by decide)
    obtain ⟨m1, m2, m3⟩ := hm t ht
    obtain ⟨w1, w2, w3⟩ := hw t ht
    have hk := ar_rd (by omega) m1
    refine br_f (nI_nle (by omega) (by omega)) ⟨hin, ?_⟩
    refine pk_lt (K t) 3 (fun h3 => ?_) (fun h3 => ⟨hin, ?_⟩) hk
    · have e : nI t * 6 + nI x = nI (ar_en K A I E V t x) := by
        rw [ar_n6, nI_add]
        by_cases k1 : K t = 1
        · rw [ar_en1 x k1, h1 k1]; rfl
        · rw [ar_enc x (by omega)]
      rw [e]
      exact hp
    · obtain ⟨a1, a2, a3, a4⟩ := w2 h3
      obtain ⟨mA, mI⟩ := m2 h3
      have hA := ar_rd (t := t) (by omega) mA
      rw [ar_rd (t := t) (by omega) mI]
      have hVI := hV (I t) (by omega) a4
      refine hv (I t) (by omega) a4 _ ⟨hin, ?_⟩
      refine pk_eq (K t) 3 (fun e3 => ⟨hin, ?_⟩) (fun e3 => ?_) hk
      · refine nm_r hA (nm_r (ar_p1 (by omega)) (ih (A t) (V (I t)) (l - 1) (by omega) hVI ?_ (by omega) (by omega) (by omega) ?_))
        · intro z; rw [z] at a2; exact absurd a2 (by decide)
        · rw [ar_en3 hw x ht e3] at hp; exact hp
      · obtain ⟨e1, e2⟩ := w3 (by omega)
        have hE := ar_rd (t := t) (by omega) (m3 (by omega))
        refine pk_eq (V (I t)) x (fun ex => ⟨hin, ?_⟩) (fun ex => ⟨hin, ?_⟩)
        · refine nm_r hE (nm_r (ar_p1 (by omega)) (ih (E t) 0 (l - 1) (by omega) (by omega) (fun _ => rfl) (by omega) (by omega) (by omega) ?_))
          rw [ar_en4h hw ht (by omega) ex] at hp; exact hp
        · refine nm_r hA (nm_r (ar_p1 (by omega)) (ih (A t) x (l - 1) (by omega) hx ?_ (by omega) (by omega) (by omega) ?_))
          · intro z; rw [z] at a2; exact absurd a2 (by decide)
          · rw [ar_en4m hw ht (by omega) ex] at hp; exact hp
theorem xx_lo {x1 : Int32} (hn : nt ≤ 24) (hm : ar_tm nt K A I E a_kind a_arrayArg a_indexArg a_elementArg) (hw : ar_tw nt K A I E)
    (hv : ∀ i, i < nt → K i = 0 → ∀ Q : Int32 → Prop, Q (nI (V i)) → wpX_indexValue Q (f_termLimit, f_indexLimit, f_literalLimit, f_stride, nI nt, f_indexCount, f_literalCount, f_depth, f_trialWidth, f_hasModel, f_keptWidth, a_kind, a_arrayArg, a_indexArg, a_elementArg, a_indexTerm, a_rank, a_litEqual, a_litLeft, a_litRight, a_litLevel, a_trial, a_parent, a_label, a_kept) x1 (nI i)) (hV : ∀ i, i < nt → K i = 0 → V i ≤ 5) {post : Int32 → Prop}
    {t x : Nat} (ht : t < nt) (hx : x ≤ 5) (h1 : K t = 1 → x = 0) (hp : post (nI (ar_en K A I E V t x))) : wpX_locate post (f_termLimit, f_indexLimit, f_literalLimit, f_stride, nI nt, f_indexCount, f_literalCount, f_depth, f_trialWidth, f_hasModel, f_keptWidth, a_kind, a_arrayArg, a_indexArg, a_elementArg, a_indexTerm, a_rank, a_litEqual, a_litLeft, a_litRight, a_litLevel, a_trial, a_parent, a_label, a_kept) x1 (nI t) (nI x) := by
  unfold wpX_locate
  exact ⟨nt + 1, xx_lo12 hn hm hw hv hV (nt + 1) t x nt ht hx h1 ht (by omega) (by omega) hp⟩
end
end
section
/-! the component: classes -/
/-- the first n literals, as the machine's arrays hold them -/
def ar_lm (n nt : Nat) (K Lq Ll Lr : Nat → Nat) (aq al ar : Nat → Int32) : Prop :=
  ∀ l, l < n → aq l = nI (Lq l) ∧ al l = nI (Ll l) ∧ ar l = nI (Lr l) ∧ Lq l ≤ 1 ∧ Ll l < nt ∧ Lr l < nt ∧ ar_so (K (Ll l)) = ar_so (K (Lr l))
section
variable {f_termLimit f_indexLimit f_literalLimit f_stride f_termCount f_indexCount f_literalCount f_depth f_trialWidth f_hasModel f_keptWidth : Int32} {a_kind a_arrayArg a_indexArg a_elementArg a_indexTerm a_rank a_litEqual a_litLeft a_litRight a_litLevel a_trial a_parent a_label a_kept : Nat → Int32} {nt : Nat} {K A I E V : Nat → Nat}
theorem xx_fi10 {M : Nat} {P : Nat → Nat} {post : Int32 → SX → Prop} (hM : M ≤ 144) :
    ∀ n e l a_parent, ar_uf M P a_parent → e < M → e < n → e < l → l < 2 ^ 31 →
    (∀ r a', r < M → ar_uf M P a' → ar_ls P r → P r = P e → post (nI r) (f_termLimit, f_indexLimit, f_literalLimit, f_stride, f_termCount, f_indexCount, f_literalCount, f_depth, f_trialWidth, f_hasModel, f_keptWidth, a_kind, a_arrayArg, a_indexArg, a_elementArg, a_indexTerm, a_rank, a_litEqual, a_litLeft, a_litRight, a_litLevel, a_trial, a', a_label, a_kept)) →
    wX_find_10 post f_termLimit f_indexLimit f_literalLimit f_stride f_termCount f_indexCount f_literalCount f_depth f_trialWidth f_hasModel f_keptWidth n (nI e) (nI l) a_kind a_arrayArg a_indexArg a_elementArg a_indexTerm a_rank a_litEqual a_litLeft a_litRight a_litLevel a_trial a_parent a_label a_kept := by
  intro n
  induction n with
  | zero => intro e l a _ _ h; omega
  | succ n ih =>
    intro e l a_parent hu he hn hl hl2 H
    have hin : vp_in (nI e) 144 := vp_in_nI (by omega) (by decide)
    obtain ⟨⟨d, d1, d2, d3⟩, dl⟩ := hu e he
    have hd := ar_rd (t := e) (by omega) d2
    refine br_f (nI_nle (by omega) hl2) ⟨hin, ?_⟩
    refine pk_eq d e (fun h => ?_) (fun h => ⟨hin, ?_, hin, ?_⟩) hd
    · exact H e a_parent he hu (dl (by rw [d2, h])) rfl
    · rw [hd]; exact vp_in_nI (by omega) (by decide)
    · obtain ⟨⟨c, c1, c2, c3⟩, _⟩ := hu d (by omega)
      refine nm_r (e' := upd a_parent e (nI c)) ?_ ⟨hin, ?_⟩
      · rw [hd, ar_rd (t := d) (by omega) c2, nI_clamp (by omega)]
      · refine nm_r (e' := nI c) ?_ (nm_r (ar_p1 (by omega)) (ih c (l - 1) _ (ar_uf_h hM hu he (by omega) d3 c1 c3) (by omega) (by omega) (by omega) (by omega) ?_))
        · rw [nI_clamp (by omega), pk_us]
        · intro r a' hr hu' hls hp
          exact H r a' hr hu' hls (hp.trans (c3.trans d3))
theorem xx_fi {P : Nat → Nat} {post : Int32 → SX → Prop} {e : Nat} (hn : nt ≤ 24) (hu : ar_uf (nt * 6) P a_parent) (he : e < nt * 6)
    (H : ∀ r a', r < nt * 6 → ar_uf (nt * 6) P a' → ar_ls P r → P r = P e → post (nI r) (f_termLimit, f_indexLimit, f_literalLimit, f_stride, nI nt, f_indexCount, f_literalCount, f_depth, f_trialWidth, f_hasModel, f_keptWidth, a_kind, a_arrayArg, a_indexArg, a_elementArg, a_indexTerm, a_rank, a_litEqual, a_litLeft, a_litRight, a_litLevel, a_trial, a', a_label, a_kept)) :
    wpX_find post (f_termLimit, f_indexLimit, f_literalLimit, f_stride, nI nt, f_indexCount, f_literalCount, f_depth, f_trialWidth, f_hasModel, f_keptWidth, a_kind, a_arrayArg, a_indexArg, a_elementArg, a_indexTerm, a_rank, a_litEqual, a_litLeft, a_litRight, a_litLevel, a_trial, a_parent, a_label, a_kept) (nI e) := by
  unfold wpX_find
  refine nm_r (ar_n6 nt) ⟨nt * 6 + 1, ?_⟩
  exact xx_fi10 (M := nt * 6) (by omega) (nt * 6 + 1) e (nt * 6) a_parent hu he (by omega) he (by omega) H
theorem xx_je {P : Nat → Nat} {post : SX → Prop} {p q : Nat} (hn : nt ≤ 24) (hu : ar_uf (nt * 6) P a_parent) (hp : p < nt * 6) (hq : q < nt * 6)
    (H : ∀ a', ar_uf (nt * 6) (ar_mg P p q) a' → post (f_termLimit, f_indexLimit, f_literalLimit, f_stride, nI nt, f_indexCount, f_literalCount, f_depth, f_trialWidth, f_hasModel, f_keptWidth, a_kind, a_arrayArg, a_indexArg, a_elementArg, a_indexTerm, a_rank, a_litEqual, a_litLeft, a_litRight, a_litLevel, a_trial, a', a_label, a_kept)) :
    wpX_joinEntries post (f_termLimit, f_indexLimit, f_literalLimit, f_stride, nI nt, f_indexCount, f_literalCount, f_depth, f_trialWidth, f_hasModel, f_keptWidth, a_kind, a_arrayArg, a_indexArg, a_elementArg, a_indexTerm, a_rank, a_litEqual, a_litLeft, a_litRight, a_litLevel, a_trial, a_parent, a_label, a_kept) (nI p) (nI q) := by
  unfold wpX_joinEntries
  refine xx_fi hn hu hp (fun r a1 hr hu1 lr pr => ?_)
  refine xx_fi hn hu1 hq (fun s a2 hs hu2 lsn ps => ?_)
  refine pk_le s r (fun h => ⟨vp_in_nI (by omega) (by decide), ?_⟩) (fun h => ⟨vp_in_nI (by omega) (by decide), ?_⟩)
  · refine nm_r (e' := upd a2 r (nI s)) (by rw [nI_clamp (by omega)]) (H _ ?_)
    exact ar_uf_j (by omega) hu2 hr h lr lsn (Or.inl ⟨pr, ps⟩)
  · refine nm_r (e' := upd a2 s (nI r)) (by rw [nI_clamp (by omega)]) (H _ ?_)
    exact ar_uf_j (by omega) hu2 hs (by omega) lsn lr (Or.inr ⟨ps, pr⟩)
theorem xx_lp {post : Int32 → Prop} {t w : Nat} (hn : nt ≤ 24) (hm : ar_tm nt K A I E a_kind a_arrayArg a_indexArg a_elementArg) (hw : ar_tw nt K A I E) (ht : t < nt)
    (h2 : ar_so (K t) = 2 → post (nI w)) (h1 : ar_so (K t) ≠ 2 → post (nI 0)) : wpX_lastPlace post (f_termLimit, f_indexLimit, f_literalLimit, f_stride, f_termCount, f_indexCount, f_literalCount, f_depth, nI w, f_hasModel, f_keptWidth, a_kind, a_arrayArg, a_indexArg, a_elementArg, a_indexTerm, a_rank, a_litEqual, a_litLeft, a_litRight, a_litLevel, a_trial, a_parent, a_label, a_kept) (nI t) := by
  unfold wpX_lastPlace
  have hb := ar_so_le (hw t ht).1
  exact xx_so hn hm hw ht (pk_eq (ar_so (K t)) 2 h2 h1)
theorem xx_jt9 {w : Nat} {t u last : Nat} {P : Nat → Nat} {post : SX → Prop} (hn : nt ≤ 24) (hm : ar_tm nt K A I E a_kind a_arrayArg a_indexArg a_elementArg) (hw : ar_tw nt K A I E)
    (hv : ∀ i, i < nt → K i = 0 → a_trial i = nI (V i)) (hV : ∀ i, i < nt → K i = 0 → V i ≤ w) (hw5 : w ≤ 5) (ht : t < nt) (hu : u < nt) (hl : last ≤ w) (h1 : K t = 1 → last = 0) (h2 : K u = 1 → last = 0)
    (H : ∀ a', ar_uf (nt * 6) (ar_jn (ar_en K A I E V) t u P (last + 1)) a' → post (f_termLimit, f_indexLimit, f_literalLimit, f_stride, nI nt, f_indexCount, f_literalCount, f_depth, f_trialWidth, f_hasModel, f_keptWidth, a_kind, a_arrayArg, a_indexArg, a_elementArg, a_indexTerm, a_rank, a_litEqual, a_litLeft, a_litRight, a_litLevel, a_trial, a', a_label, a_kept)) :
    ∀ k n x a_parent, x + k = last + 1 → k < n → ar_uf (nt * 6) (ar_jn (ar_en K A I E V) t u P x) a_parent →
    wX_joinTerms_9 post (nI t) (nI u) (nI last) n (nI x) f_termLimit f_indexLimit f_literalLimit f_stride (nI nt) f_indexCount f_literalCount f_depth f_trialWidth f_hasModel f_keptWidth a_kind a_arrayArg a_indexArg a_elementArg a_indexTerm a_rank a_litEqual a_litLeft a_litRight a_litLevel a_trial a_parent a_label a_kept := by
  have hV5 : ∀ i, i < nt → K i = 0 → V i ≤ 5 := fun i hi hk => Nat.le_trans (hV i hi hk) hw5
  intro k
  induction k with
  | zero =>
    intro n x a_parent hx hk hu
    obtain ⟨n, rfl⟩ : ∃ m, n = m + 1 := ⟨n - 1, by omega⟩
    have : x = last + 1 := by omega
    subst this
    exact br_t (nI_lt (by omega) (by omega)) (H a_parent hu)
  | succ k ih =>
    intro n x a_parent hx hk huf
    obtain ⟨n, rfl⟩ : ∃ m, n = m + 1 := ⟨n - 1, by omega⟩
    refine br_f (nI_nlt (by omega) (by omega)) ?_
    refine xx_lo hn hm hw (fun i hi hk => xx_iv0 (by omega) (hv i hi hk)) hV5 ht (by omega) (fun z => by have := h1 z; omega) ?_
    refine xx_lo hn hm hw (fun i hi hk => xx_iv0 (by omega) (hv i hi hk)) hV5 hu (by omega) (fun z => by have := h2 z; omega) ?_
    refine xx_je hn huf (ar_enb hw hV hw5 ht (by omega)) (ar_enb hw hV hw5 hu (by omega)) (fun a' hu' => ?_)
    exact nm_r (nI_1 x) (ih n (x + 1) a' (by omega) (by omega) hu')
theorem xx_jt {w : Nat} {t u : Nat} {P : Nat → Nat} {post : SX → Prop} (hn : nt ≤ 24) (hm : ar_tm nt K A I E a_kind a_arrayArg a_indexArg a_elementArg) (hw : ar_tw nt K A I E)
    (hv : ∀ i, i < nt → K i = 0 → a_trial i = nI (V i)) (hV : ∀ i, i < nt → K i = 0 → V i ≤ w) (hw5 : w ≤ 5) (ht : t < nt) (hu : u < nt) (hs : ar_so (K t) = ar_so (K u)) (h0 : K t ≠ 0)
    (huf : ar_uf (nt * 6) P a_parent)
    (H : ∀ a', ar_uf (nt * 6) (ar_jn (ar_en K A I E V) t u P (w + 1)) a' → post (f_termLimit, f_indexLimit, f_literalLimit, f_stride, nI nt, f_indexCount, f_literalCount, f_depth, nI w, f_hasModel, f_keptWidth, a_kind, a_arrayArg, a_indexArg, a_elementArg, a_indexTerm, a_rank, a_litEqual, a_litLeft, a_litRight, a_litLevel, a_trial, a', a_label, a_kept)) :
    wpX_joinTerms post (f_termLimit, f_indexLimit, f_literalLimit, f_stride, nI nt, f_indexCount, f_literalCount, f_depth, nI w, f_hasModel, f_keptWidth, a_kind, a_arrayArg, a_indexArg, a_elementArg, a_indexTerm, a_rank, a_litEqual, a_litLeft, a_litRight, a_litLevel, a_trial, a_parent, a_label, a_kept) (nI t) (nI u) := by
  unfold wpX_joinTerms
  refine xx_lp hn hm hw ht (fun h2 => ?_) (fun h2 => ?_)
  · refine ⟨w + 2, ?_⟩
    refine xx_jt9 hn hm hw hv hV hw5 ht hu (Nat.le_refl w) (fun z => ?_) (fun z => ?_) H (w + 1) (w + 2) 0 a_parent (by omega) (by omega) huf
    · rw [z] at h2; exact absurd h2 (by decide)
    · rw [hs, z] at h2; exact absurd h2 (by decide)
  · have hb := ar_so_le (hw t ht).1
    have h1 : ar_so (K t) = 1 := by
      have : ar_so (K t) ≠ 0 := fun z => h0 (ar_so0.mp z)
      omega
    refine ⟨2, ?_⟩
    refine xx_jt9 (w := w) hn hm hw hv hV hw5 ht hu (by omega) (fun _ => rfl) (fun _ => rfl) (fun a' ha' => ?_) 1 2 0 a_parent (by omega) (by omega) huf
    refine H a' ?_
    rw [ar_jn_1 (fun x => ar_ene hw x 0 ht h1) (fun x => ar_ene hw x 0 hu (hs.symm.trans h1)) w]
    exact ha'
theorem xx_jd9 {w : Nat} {t u last : Nat} {P : Nat → Nat} {post : Int32 → SX → Prop} (hn : nt ≤ 24) (hm : ar_tm nt K A I E a_kind a_arrayArg a_indexArg a_elementArg) (hw : ar_tw nt K A I E)
    (hv : ∀ i, i < nt → K i = 0 → a_trial i = nI (V i)) (hV : ∀ i, i < nt → K i = 0 → V i ≤ w) (hw5 : w ≤ 5) (ht : t < nt) (hu : u < nt) (hl : last ≤ w) (h1 : K t = 1 → last = 0) (h2 : K u = 1 → last = 0)
    (H1 : (∀ y, y ≤ last → P (ar_en K A I E V t y) = P (ar_en K A I E V u y)) → ∀ a', ar_uf (nt * 6) P a' → post 1 (f_termLimit, f_indexLimit, f_literalLimit, f_stride, nI nt, f_indexCount, f_literalCount, f_depth, f_trialWidth, f_hasModel, f_keptWidth, a_kind, a_arrayArg, a_indexArg, a_elementArg, a_indexTerm, a_rank, a_litEqual, a_litLeft, a_litRight, a_litLevel, a_trial, a', a_label, a_kept))
    (H0 : (∃ y, y ≤ last ∧ P (ar_en K A I E V t y) ≠ P (ar_en K A I E V u y)) → ∀ a', ar_uf (nt * 6) P a' → post 0 (f_termLimit, f_indexLimit, f_literalLimit, f_stride, nI nt, f_indexCount, f_literalCount, f_depth, f_trialWidth, f_hasModel, f_keptWidth, a_kind, a_arrayArg, a_indexArg, a_elementArg, a_indexTerm, a_rank, a_litEqual, a_litLeft, a_litRight, a_litLevel, a_trial, a', a_label, a_kept)) :
    ∀ k n x a_parent, x + k = last + 1 → k < n → (∀ y, y < x → P (ar_en K A I E V t y) = P (ar_en K A I E V u y)) → ar_uf (nt * 6) P a_parent →
    wX_joined_9 post (nI t) (nI u) (nI last) n (nI x) f_termLimit f_indexLimit f_literalLimit f_stride (nI nt) f_indexCount f_literalCount f_depth f_trialWidth f_hasModel f_keptWidth a_kind a_arrayArg a_indexArg a_elementArg a_indexTerm a_rank a_litEqual a_litLeft a_litRight a_litLevel a_trial a_parent a_label a_kept := by
  have hV5 : ∀ i, i < nt → K i = 0 → V i ≤ 5 := fun i hi hk => Nat.le_trans (hV i hi hk) hw5
  intro k
  induction k with
  | zero =>
    intro n x a_parent hx hk hy hu
    obtain ⟨n, rfl⟩ : ∃ m, n = m + 1 := ⟨n - 1, by omega⟩
    have : x = last + 1 := by omega
    subst this
    exact br_t (nI_lt (by omega) (by omega)) (H1 (fun y h => hy y (by omega)) a_parent hu)
  | succ k ih =>
    intro n x a_parent hx hk hy huf
    obtain ⟨n, rfl⟩ : ∃ m, n = m + 1 := ⟨n - 1, by omega⟩
    refine br_f (nI_nlt (by omega) (by omega)) ?_
    refine xx_lo hn hm hw (fun i hi hk => xx_iv0 (by omega) (hv i hi hk)) hV5 ht (by omega) (fun z => by have := h1 z; omega) ?_
    refine xx_lo hn hm hw (fun i hi hk => xx_iv0 (by omega) (hv i hi hk)) hV5 hu (by omega) (fun z => by have := h2 z; omega) ?_
    refine xx_fi hn huf (ar_enb hw hV hw5 ht (by omega)) (fun r a1 hr hu1 lr pr => ?_)
    refine xx_fi hn hu1 (ar_enb hw hV hw5 hu (by omega)) (fun s a2 hs hu2 lsn ps => ?_)
    refine pk_eq r s (fun h => ?_) (fun h => ?_)
    · refine nm_r (nI_1 x) (ih n (x + 1) a2 (by omega) (by omega) (fun y hyx => ?_) hu2)
      by_cases hy2 : y = x
      · rw [hy2, ← pr, ← ps, h]
      · exact hy y (by omega)
    · exact H0 ⟨x, by omega, fun z => h (ar_ls_u lr lsn (pr.trans (z.trans ps.symm)))⟩ a2 hu2
theorem xx_jd {w : Nat} {t u : Nat} {P : Nat → Nat} {post : Int32 → SX → Prop} (hn : nt ≤ 24) (hm : ar_tm nt K A I E a_kind a_arrayArg a_indexArg a_elementArg) (hw : ar_tw nt K A I E)
    (hv : ∀ i, i < nt → K i = 0 → a_trial i = nI (V i)) (hV : ∀ i, i < nt → K i = 0 → V i ≤ w) (hw5 : w ≤ 5) (ht : t < nt) (hu : u < nt) (hs : ar_so (K t) = ar_so (K u)) (h0 : K t ≠ 0)
    (huf : ar_uf (nt * 6) P a_parent)
    (H1 : (∀ y, y ≤ w → P (ar_en K A I E V t y) = P (ar_en K A I E V u y)) → ∀ a', ar_uf (nt * 6) P a' → post 1 (f_termLimit, f_indexLimit, f_literalLimit, f_stride, nI nt, f_indexCount, f_literalCount, f_depth, nI w, f_hasModel, f_keptWidth, a_kind, a_arrayArg, a_indexArg, a_elementArg, a_indexTerm, a_rank, a_litEqual, a_litLeft, a_litRight, a_litLevel, a_trial, a', a_label, a_kept))
    (H0 : (∃ y, y ≤ w ∧ P (ar_en K A I E V t y) ≠ P (ar_en K A I E V u y)) → ∀ a', ar_uf (nt * 6) P a' → post 0 (f_termLimit, f_indexLimit, f_literalLimit, f_stride, nI nt, f_indexCount, f_literalCount, f_depth, nI w, f_hasModel, f_keptWidth, a_kind, a_arrayArg, a_indexArg, a_elementArg, a_indexTerm, a_rank, a_litEqual, a_litLeft, a_litRight, a_litLevel, a_trial, a', a_label, a_kept)) :
    wpX_joined post (f_termLimit, f_indexLimit, f_literalLimit, f_stride, nI nt, f_indexCount, f_literalCount, f_depth, nI w, f_hasModel, f_keptWidth, a_kind, a_arrayArg, a_indexArg, a_elementArg, a_indexTerm, a_rank, a_litEqual, a_litLeft, a_litRight, a_litLevel, a_trial, a_parent, a_label, a_kept) (nI t) (nI u) := by
  unfold wpX_joined
  refine xx_lp hn hm hw ht (fun h2 => ?_) (fun h2 => ?_)
  · refine ⟨w + 2, ?_⟩
    refine xx_jd9 hn hm hw hv hV hw5 ht hu (Nat.le_refl w) (fun z => ?_) (fun z => ?_) H1 H0 (w + 1) (w + 2) 0 a_parent (by omega) (by omega) (fun y hy => absurd hy (Nat.not_lt_zero y)) huf
    · rw [z] at h2; exact absurd h2 (by decide)
    · rw [hs, z] at h2; exact absurd h2 (by decide)
  · have hb := ar_so_le (hw t ht).1
    have h1 : ar_so (K t) = 1 := by
      have : ar_so (K t) ≠ 0 := fun z => h0 (ar_so0.mp z)
      omega
    have et : ∀ y, ar_en K A I E V t y = ar_en K A I E V t 0 := fun y => ar_ene hw y 0 ht h1
    have eu : ∀ y, ar_en K A I E V u y = ar_en K A I E V u 0 := fun y => ar_ene hw y 0 hu (hs.symm.trans h1)
    refine ⟨2, ?_⟩
    refine xx_jd9 (w := w) hn hm hw hv hV hw5 ht hu (Nat.zero_le w) (fun _ => rfl) (fun _ => rfl) (fun hy => H1 (fun y _ => ?_)) (fun hy => H0 ?_) 1 2 0 a_parent (by omega) (by omega) (fun y hy => absurd hy (Nat.not_lt_zero y)) huf
    · rw [et y, eu y]; exact hy 0 (Nat.le_refl 0)
    · obtain ⟨y, hy1, hy2⟩ := hy
      exact ⟨y, by omega, hy2⟩
theorem xx_cc82 {w N : Nat} {Lq Ll Lr : Nat → Nat} {P : Nat → Nat} {post : Int32 → SX → Prop} (hn : nt ≤ 24) (hm : ar_tm nt K A I E a_kind a_arrayArg a_indexArg a_elementArg) (hw : ar_tw nt K A I E)
    (hv : ∀ i, i < nt → K i = 0 → a_trial i = nI (V i)) (hV : ∀ i, i < nt → K i = 0 → V i ≤ w) (hw5 : w ≤ 5) (hN : N ≤ 17) (hL : ar_lm N nt K Lq Ll Lr a_litEqual a_litLeft a_litRight)
    (H1 : (∀ l, l < N → K (Ll l) ≠ 0 → Lq l = 0 → ∃ x, x ≤ w ∧ P (ar_en K A I E V (Ll l) x) ≠ P (ar_en K A I E V (Lr l) x)) → ∀ a', ar_uf (nt * 6) P a' → post 1 (f_termLimit, f_indexLimit, f_literalLimit, f_stride, nI nt, f_indexCount, f_literalCount, f_depth, nI w, f_hasModel, f_keptWidth, a_kind, a_arrayArg, a_indexArg, a_elementArg, a_indexTerm, a_rank, a_litEqual, a_litLeft, a_litRight, a_litLevel, a_trial, a', a_label, a_kept))
    (H0 : (¬ ∀ l, l < N → K (Ll l) ≠ 0 → Lq l = 0 → ∃ x, x ≤ w ∧ P (ar_en K A I E V (Ll l) x) ≠ P (ar_en K A I E V (Lr l) x)) → ∀ a', ar_uf (nt * 6) P a' → post 0 (f_termLimit, f_indexLimit, f_literalLimit, f_stride, nI nt, f_indexCount, f_literalCount, f_depth, nI w, f_hasModel, f_keptWidth, a_kind, a_arrayArg, a_indexArg, a_elementArg, a_indexTerm, a_rank, a_litEqual, a_litLeft, a_litRight, a_litLevel, a_trial, a', a_label, a_kept)) :
    ∀ k n l a_parent, l + k = N → k < n → (∀ j, j < l → K (Ll j) ≠ 0 → Lq j = 0 → ∃ x, x ≤ w ∧ P (ar_en K A I E V (Ll j) x) ≠ P (ar_en K A I E V (Lr j) x)) → ar_uf (nt * 6) P a_parent →
    wX_closeClasses_82 post (nI N) n (nI l) f_termLimit f_indexLimit f_literalLimit f_stride (nI nt) f_indexCount f_literalCount f_depth (nI w) f_hasModel f_keptWidth a_kind a_arrayArg a_indexArg a_elementArg a_indexTerm a_rank a_litEqual a_litLeft a_litRight a_litLevel a_trial a_parent a_label a_kept := by
  intro k
  induction k with
  | zero =>
    intro n l a_parent hx hk hy hu
    obtain ⟨n, rfl⟩ : ∃ m, n = m + 1 := ⟨n - 1, by omega⟩
    have : l = N := by omega
    subst this
    exact br_t (nI_le (by omega) (by omega)) (H1 hy a_parent hu)
  | succ k ih =>
    intro n l a_parent hx hk hy huf
    obtain ⟨n, rfl⟩ : ∃ m, n = m + 1 := ⟨n - 1, by omega⟩
    obtain ⟨l1, l2, l3, l4, l5, l6, l7⟩ := hL l (by omega)
    have hin : vp_in (nI l) 17 := vp_in_nI (by omega) (by decide)
    have r1 := ar_rd (t := l) (by omega) l1
    have r2 := ar_rd (t := l) (by omega) l2
    have r3 := ar_rd (t := l) (by omega) l3
    have hb := (hw (Ll l) l5).1
    refine br_f (nI_ge (by omega) (by omega)) ⟨hin, ?_⟩
    refine pk_eq (Lq l) 0 (fun q0 => ⟨hin, ?_⟩) (fun q0 => ?_) r1
    · rw [r2, r3]
      refine ⟨vp_in_nI (by omega) (by decide), ?_⟩
      refine pk_eq (K (Ll l)) 0 (fun k0 => ?_) (fun k0 => ⟨hin, hin, ?_⟩) (ar_rd (by omega) (hm (Ll l) l5).1)
      · refine nm_r (nI_1 l) (ih n (l + 1) a_parent (by omega) (by omega) (fun j hj => ?_) huf)
        by_cases hjl : j = l
        · rw [hjl]; exact fun z => absurd k0 z
        · exact hy j (by omega)
      · refine xx_jd hn hm hw hv hV hw5 l5 l6 l7 k0 huf (fun hall a' hu' => ?_) (fun hex a' hu' => ?_)
        · refine br_f (by decide) (H0 (fun z => ?_) a' hu')
          obtain ⟨x, x1, x2⟩ := z l (by omega) k0 q0
          exact x2 (hall x x1)
        · refine br_t rfl (nm_r (nI_1 l) (ih n (l + 1) a' (by omega) (by omega) (fun j hj => ?_) hu'))
          by_cases hjl : j = l
          · rw [hjl]; exact fun _ _ => hex
          · exact hy j (by omega)
    · refine nm_r (nI_1 l) (ih n (l + 1) a_parent (by omega) (by omega) (fun j hj => ?_) huf)
      by_cases hjl : j = l
      · rw [hjl]; exact fun _ z => absurd z q0
      · exact hy j (by omega)
theorem xx_cc30 {w N : Nat} {Lq Ll Lr : Nat → Nat} {post : Int32 → SX → Prop} (hn : nt ≤ 24) (hm : ar_tm nt K A I E a_kind a_arrayArg a_indexArg a_elementArg) (hw : ar_tw nt K A I E)
    (hv : ∀ i, i < nt → K i = 0 → a_trial i = nI (V i)) (hV : ∀ i, i < nt → K i = 0 → V i ≤ w) (hw5 : w ≤ 5) (hN : N ≤ 17) (hL : ar_lm N nt K Lq Ll Lr a_litEqual a_litLeft a_litRight)
    (H : ∀ a', ar_uf (nt * 6) (ar_cl (ar_en K A I E V) K w Lq Ll Lr N) a' → ∃ m, wX_closeClasses_82 post (nI N) m 0 f_termLimit f_indexLimit f_literalLimit f_stride (nI nt) f_indexCount f_literalCount f_depth (nI w) f_hasModel f_keptWidth a_kind a_arrayArg a_indexArg a_elementArg a_indexTerm a_rank a_litEqual a_litLeft a_litRight a_litLevel a_trial a' a_label a_kept) :
    ∀ k n l a_parent, l + k = N → k < n → ar_uf (nt * 6) (ar_cl (ar_en K A I E V) K w Lq Ll Lr l) a_parent →
    wX_closeClasses_30 post (nI N) n (nI l) f_termLimit f_indexLimit f_literalLimit f_stride (nI nt) f_indexCount f_literalCount f_depth (nI w) f_hasModel f_keptWidth a_kind a_arrayArg a_indexArg a_elementArg a_indexTerm a_rank a_litEqual a_litLeft a_litRight a_litLevel a_trial a_parent a_label a_kept := by
  intro k
  induction k with
  | zero =>
    intro n l a_parent hx hk hu
    obtain ⟨n, rfl⟩ : ∃ m, n = m + 1 := ⟨n - 1, by omega⟩
    have : l = N := by omega
    subst this
    exact br_t (nI_le (by omega) (by omega)) (H a_parent hu)
  | succ k ih =>
    intro n l a_parent hx hk huf
    obtain ⟨n, rfl⟩ : ∃ m, n = m + 1 := ⟨n - 1, by omega⟩
    obtain ⟨l1, l2, l3, l4, l5, l6, l7⟩ := hL l (by omega)
    have hin : vp_in (nI l) 17 := vp_in_nI (by omega) (by decide)
    have r1 := ar_rd (t := l) (by omega) l1
    have r2 := ar_rd (t := l) (by omega) l2
    have r3 := ar_rd (t := l) (by omega) l3
    have hb := (hw (Ll l) l5).1
    refine br_f (nI_ge (by omega) (by omega)) ⟨hin, ?_⟩
    refine pk_eq (Lq l) 0 (fun q0 => ?_) (fun q0 => ⟨hin, ?_⟩) r1
    · refine nm_r (nI_1 l) (ih n (l + 1) a_parent (by omega) (by omega) ?_)
      rw [ar_cl_s, if_pos (Or.inl q0)]; exact huf
    · rw [r2, r3]
      refine ⟨vp_in_nI (by omega) (by decide), ?_⟩
      refine pk_eq (K (Ll l)) 0 (fun k0 => ?_) (fun k0 => ⟨hin, hin, ?_⟩) (ar_rd (by omega) (hm (Ll l) l5).1)
      · refine nm_r (nI_1 l) (ih n (l + 1) a_parent (by omega) (by omega) ?_)
        rw [ar_cl_s, if_pos (Or.inr k0)]; exact huf
      · refine xx_jt hn hm hw hv hV hw5 l5 l6 l7 k0 huf (fun a' hu' => ?_)
        refine nm_r (nI_1 l) (ih n (l + 1) a' (by omega) (by omega) ?_)
        rw [ar_cl_s, if_neg (by omega)]; exact hu'
theorem xx_cc10 {M : Nat} {x1 : Int32} {post : Int32 → SX → Prop} (hM : M ≤ 144)
    (H : ∀ a', (∀ e, e < M → a' e = nI e) → ∃ m, wX_closeClasses_30 post x1 m 0 f_termLimit f_indexLimit f_literalLimit f_stride f_termCount f_indexCount f_literalCount f_depth f_trialWidth f_hasModel f_keptWidth a_kind a_arrayArg a_indexArg a_elementArg a_indexTerm a_rank a_litEqual a_litLeft a_litRight a_litLevel a_trial a' a_label a_kept) :
    ∀ k n e a_parent, e + k = M → k < n → (∀ j, j < e → a_parent j = nI j) →
    wX_closeClasses_10 post x1 (nI M) f_termLimit f_indexLimit f_literalLimit f_stride f_termCount f_indexCount f_literalCount f_depth f_trialWidth f_hasModel f_keptWidth n (nI e) a_kind a_arrayArg a_indexArg a_elementArg a_indexTerm a_rank a_litEqual a_litLeft a_litRight a_litLevel a_trial a_parent a_label a_kept := by
  intro k
  induction k with
  | zero =>
    intro n e a_parent hx hk hu
    obtain ⟨n, rfl⟩ : ∃ m, n = m + 1 := ⟨n - 1, by omega⟩
    have : e = M := by omega
    subst this
    exact br_t (nI_le (by omega) (by omega)) (H a_parent hu)
  | succ k ih =>
    intro n e a_parent hx hk hu
    obtain ⟨n, rfl⟩ : ∃ m, n = m + 1 := ⟨n - 1, by omega⟩
    refine br_f (nI_ge (by omega) (by omega)) ⟨vp_in_nI (by omega) (by decide), ?_⟩
    refine nm_r (e' := upd a_parent e (nI e)) (by rw [nI_clamp (by omega)]) (nm_r (nI_1 e) (ih n (e + 1) _ (by omega) (by omega) (fun j hj => ?_)))
    by_cases hje : j = e
    · rw [hje, pk_us]
    · rw [pk_un hje]; exact hu j (by omega)
theorem xx_cc {w N : Nat} {Lq Ll Lr : Nat → Nat} {post : Int32 → SX → Prop} (hn : nt ≤ 24) (hm : ar_tm nt K A I E a_kind a_arrayArg a_indexArg a_elementArg) (hw : ar_tw nt K A I E)
    (hv : ∀ i, i < nt → K i = 0 → a_trial i = nI (V i)) (hV : ∀ i, i < nt → K i = 0 → V i ≤ w) (hw5 : w ≤ 5) (hN : N ≤ 17) (hL : ar_lm N nt K Lq Ll Lr a_litEqual a_litLeft a_litRight)
    (H1 : (∀ l, l < N → K (Ll l) ≠ 0 → Lq l = 0 → ∃ x, x ≤ w ∧ ar_cl (ar_en K A I E V) K w Lq Ll Lr N (ar_en K A I E V (Ll l) x) ≠ ar_cl (ar_en K A I E V) K w Lq Ll Lr N (ar_en K A I E V (Lr l) x)) →
      ∀ a', ar_uf (nt * 6) (ar_cl (ar_en K A I E V) K w Lq Ll Lr N) a' → post 1 (f_termLimit, f_indexLimit, f_literalLimit, f_stride, nI nt, f_indexCount, f_literalCount, f_depth, nI w, f_hasModel, f_keptWidth, a_kind, a_arrayArg, a_indexArg, a_elementArg, a_indexTerm, a_rank, a_litEqual, a_litLeft, a_litRight, a_litLevel, a_trial, a', a_label, a_kept))
    (H0 : (¬ ∀ l, l < N → K (Ll l) ≠ 0 → Lq l = 0 → ∃ x, x ≤ w ∧ ar_cl (ar_en K A I E V) K w Lq Ll Lr N (ar_en K A I E V (Ll l) x) ≠ ar_cl (ar_en K A I E V) K w Lq Ll Lr N (ar_en K A I E V (Lr l) x)) →
      ∀ a', ar_uf (nt * 6) (ar_cl (ar_en K A I E V) K w Lq Ll Lr N) a' → post 0 (f_termLimit, f_indexLimit, f_literalLimit, f_stride, nI nt, f_indexCount, f_literalCount, f_depth, nI w, f_hasModel, f_keptWidth, a_kind, a_arrayArg, a_indexArg, a_elementArg, a_indexTerm, a_rank, a_litEqual, a_litLeft, a_litRight, a_litLevel, a_trial, a', a_label, a_kept)) :
    wpX_closeClasses post (f_termLimit, f_indexLimit, f_literalLimit, f_stride, nI nt, f_indexCount, f_literalCount, f_depth, nI w, f_hasModel, f_keptWidth, a_kind, a_arrayArg, a_indexArg, a_elementArg, a_indexTerm, a_rank, a_litEqual, a_litLeft, a_litRight, a_litLevel, a_trial, a_parent, a_label, a_kept) (nI N) := by
  unfold wpX_closeClasses
  refine nm_r (ar_n6 nt) ⟨nt * 6 + 1, ?_⟩
  refine xx_cc10 (M := nt * 6) (by omega) (fun a1 h1 => ⟨N + 1, ?_⟩) (nt * 6) (nt * 6 + 1) 0 a_parent (by omega) (by omega) (fun j hj => absurd hj (Nat.not_lt_zero j))
  refine xx_cc30 hn hm hw hv hV hw5 hN hL (fun a2 h2 => ⟨N + 1, ?_⟩) N (N + 1) 0 a1 (by omega) (by omega) (ar_uf_0 h1)
  exact xx_cc82 hn hm hw hv hV hw5 hN hL H1 H0 N (N + 1) 0 a2 (by omega) (by omega) (fun j hj => absurd hj (Nat.not_lt_zero j)) h2
end
end
section
/-! the component: the search -/
def ar_ix (nt : Nat) (K : Nat → Nat) (ait ark : Nat → Int32) : Prop := ∀ t, t < nt → K t = 0 → ait (ar_ci K t) = nI t ∧ ark t = nI (ar_ci K t)
def ar_V (K : Nat → Nat) (c : Nat) : Nat → Nat := fun t => ar_dg c (ar_ci K t)
def ar_W (nt : Nat) (K : Nat → Nat) (c : Nat) : Nat := ar_mx (ar_dg c) (ar_ci K nt)
def ar_P (nt : Nat) (K A I E Lq Ll Lr : Nat → Nat) (N c : Nat) : Nat → Nat := ar_cl (ar_en K A I E (ar_V K c)) K (ar_W nt K c) Lq Ll Lr N
def ar_G (nt : Nat) (K A I E Lq Ll Lr : Nat → Nat) (N c : Nat) : Prop :=
  c < 3125 ∧ ar_ok (ar_ci K nt) (ar_dg c) ∧ ar_ft (ar_en K A I E (ar_V K c)) (ar_V K c) K (ar_W nt K c) Lq Ll Lr N
theorem ar_VW {nt c : Nat} {K : Nat → Nat} (ok : ar_ok (ar_ci K nt) (ar_dg c)) : ∀ t, t < nt → K t = 0 → ar_V K c t ≤ ar_W nt K c :=
  fun _ ht hk => Nat.le_of_lt (ar_ok_lt ok.1 (ar_ci_lt ht hk))
theorem ar_VW' {nt c : Nat} {K : Nat → Nat} (ok : ar_ok (ar_ci K nt) (ar_dg c)) : ∀ t, t < nt → K t = 0 → ar_V K c t < ar_W nt K c :=
  fun _ ht hk => ar_ok_lt ok.1 (ar_ci_lt ht hk)
theorem ar_W5 {nt c : Nat} {K : Nat → Nat} (h : ar_ci K nt ≤ 5) : ar_W nt K c ≤ 5 := Nat.le_trans (ar_mx_le _) h
/-- the same digits, the same code -/
theorem ar_dgx {c d : Nat} (hc : c < 3125) (hd : d < 3125) (h : ∀ j, j < 5 → ar_dg d j = ar_dg c j) : d = c := by
  have e1 := ar_cd_dg hc
  have e2 := ar_cd_dg hd
  rw [h 0 (by omega), h 1 (by omega), h 2 (by omega), h 3 (by omega), h 4 (by omega)] at e2
  omega
section
variable {f_termLimit f_indexLimit f_literalLimit f_stride f_termCount f_indexCount f_literalCount f_depth f_trialWidth f_hasModel f_keptWidth : Int32} {a_kind a_arrayArg a_indexArg a_elementArg a_indexTerm a_rank a_litEqual a_litLeft a_litRight a_litLevel a_trial a_parent a_label a_kept : Nat → Int32} {nt : Nat} {K A I E V : Nat → Nat}
theorem xx_ff33 {post : SX → Prop} {J : Int32 → Int32 →  (Nat → Int32) → (Nat → Int32) → (Nat → Int32) → (Nat → Int32) → (Nat → Int32) → (Nat → Int32) → (Nat → Int32) → (Nat → Int32) → (Nat → Int32) → (Nat → Int32) → (Nat → Int32) → (Nat → Int32) → (Nat → Int32) → (Nat → Int32) →  Prop} {x1 : Int32} {m r t d : Nat} (ht : t < 24) (hd : a_trial t = nI d) (hdm : d ≤ m) (hm : m < 100)
    (H : J (nI (if d = m then m + 1 else m)) (nI (r + 1)) a_kind a_arrayArg a_indexArg a_elementArg a_indexTerm a_rank a_litEqual a_litLeft a_litRight a_litLevel a_trial a_parent a_label a_kept) : wX_fillFresh_33 post J x1 (nI m) (nI r) (nI t) f_termLimit f_indexLimit f_literalLimit f_stride f_termCount f_indexCount f_literalCount f_depth f_trialWidth f_hasModel f_keptWidth a_kind a_arrayArg a_indexArg a_elementArg a_indexTerm a_rank a_litEqual a_litLeft a_litRight a_litLevel a_trial a_parent a_label a_kept := by
  have hin : vp_in (nI t) 24 := vp_in_nI ht (by decide)
  have hr := ar_rd (t := t) (by omega) hd
  unfold wX_fillFresh_33
  refine ⟨hin, pk_lt d m (fun h => nm_r (nI_1 r) ?_) (fun h => ⟨hin, nm_r (e' := nI (m + 1)) ?_ (nm_r (nI_1 r) ?_)⟩) hr⟩
  · rw [if_neg (by omega)] at H; exact H
  · rw [hr, nI_1]; exact congrArg nI (by omega)
  · rw [if_pos (by omega)] at H; exact H
theorem xx_ff4 {post : SX → Prop} {fr : Nat} {D0 : Nat → Nat} (hn : nt ≤ 24) (h5 : ar_ci K nt ≤ 5) (hix : ar_ix nt K a_indexTerm a_rank) (hfr : fr ≤ 5)
    (hD0 : ∀ j, j < fr → j < ar_ci K nt → D0 j ≤ ar_mx D0 j)
    (H : ∀ D tr, (∀ j, j < fr → D j = D0 j) → (∀ j, fr ≤ j → j < ar_ci K nt → D j = ar_mx D j) → (∀ t, t < nt → K t = 0 → tr t = nI (D (ar_ci K t))) →
      post (f_termLimit, f_indexLimit, f_literalLimit, f_stride, f_termCount, nI (ar_ci K nt), f_literalCount, f_depth, nI (ar_mx D (ar_ci K nt)), f_hasModel, f_keptWidth, a_kind, a_arrayArg, a_indexArg, a_elementArg, a_indexTerm, a_rank, a_litEqual, a_litLeft, a_litRight, a_litLevel, tr, a_parent, a_label, a_kept)) :
    ∀ k n r D a_trial, r + k = ar_ci K nt → k < n → (∀ t, t < nt → K t = 0 → (ar_ci K t < r ∨ ar_ci K t < fr) → a_trial t = nI (D (ar_ci K t))) →
    (∀ j, fr ≤ j → j < r → D j = ar_mx D j) → (∀ j, j < fr → D j = D0 j) →
    wX_fillFresh_4 post (nI fr) f_termLimit f_indexLimit f_literalLimit f_stride f_termCount (nI (ar_ci K nt)) f_literalCount f_depth f_trialWidth f_hasModel f_keptWidth n (nI (ar_mx D r)) (nI r) a_kind a_arrayArg a_indexArg a_elementArg a_indexTerm a_rank a_litEqual a_litLeft a_litRight a_litLevel a_trial a_parent a_label a_kept := by
  intro k
  induction k with
  | zero =>
    intro n r D a_trial hx hk h1 h2 h3
    obtain ⟨n, rfl⟩ : ∃ m, n = m + 1 := ⟨n - 1, by omega⟩
    have : r = ar_ci K nt := by omega
    subst this
    exact br_t (nI_le (by omega) (by omega)) (H D a_trial h3 h2 (fun t ht hk => h1 t ht hk (Or.inl (ar_ci_lt ht hk))))
  | succ k ih =>
    intro n r D a_trial hx hk h1 h2 h3
    obtain ⟨n, rfl⟩ : ∃ m, n = m + 1 := ⟨n - 1, by omega⟩
    obtain ⟨t, ht, hkt, hct⟩ := ar_ci_su (K := K) (r := r) nt (by omega)
    have hit : a_indexTerm r = nI t := by rw [← hct]; exact (hix t ht hkt).1
    have hmr := ar_mx_le (D := D) r
    refine br_f (nI_ge (by omega) (by omega)) ⟨vp_in_nI (by omega) (by decide), nm_r (ar_rd (t := r) (by omega) hit) ?_⟩
    refine pk_lt r fr (fun h => ?_) (fun h => ⟨vp_in_nI (by omega) (by decide), nm_r (e' := upd a_trial t (nI (ar_mx D r))) (by rw [nI_clamp (by omega)]) ?_⟩)
    · have hd : a_trial t = nI (D r) := by rw [← hct]; exact h1 t ht hkt (Or.inr (by omega))
      have hdm : D r ≤ ar_mx D r := by
        rw [h3 r h, ar_mx_cg (D := D) (D' := D0) r (fun j hj => h3 j (by omega))]
        exact hD0 r h (by omega)
      refine xx_ff33 (by omega) hd hdm (by omega) (ih n (r + 1) D a_trial (by omega) (by omega) (fun s hs hks hc => h1 s hs hks (by omega)) (fun j hj1 hj2 => by omega) h3)
    · have hmx : ∀ j, j ≤ r → ar_mx (ar_up D r (ar_mx D r)) j = ar_mx D j := fun j hj => ar_mx_cg j (fun i hi => ar_un (by omega))
      refine xx_ff33 (d := ar_mx D r) (by omega) pk_us (Nat.le_refl _) (by omega) ?_
      have key := ih n (r + 1) (ar_up D r (ar_mx D r)) (upd a_trial t (nI (ar_mx D r))) (by omega) (by omega) (fun s hs hks hc => ?_) (fun j hj1 hj2 => ?_) (fun j hj => ?_)
      · rw [ar_mx_s, ar_us, hmx r (Nat.le_refl r)] at key
        exact key
      · by_cases hcr : ar_ci K s = r
        · have := ar_ci_in hks hkt (hcr.trans hct.symm)
          rw [this, pk_us, hct, ar_us]
        · have hst : s ≠ t := fun z => hcr (by rw [z]; exact hct)
          rw [pk_un hst, ar_un hcr]
          exact h1 s hs hks (by omega)
      · by_cases hjr : j = r
        · rw [hjr, ar_us, hmx r (Nat.le_refl r)]
        · rw [ar_un hjr, hmx j (by omega)]
          exact h2 j hj1 (by omega)
      · rw [ar_un (by omega)]; exact h3 j hj
theorem xx_ff {post : SX → Prop} {fr : Nat} {D0 : Nat → Nat} (hn : nt ≤ 24) (h5 : ar_ci K nt ≤ 5) (hix : ar_ix nt K a_indexTerm a_rank) (hfr : fr ≤ 5)
    (hD0 : ∀ j, j < fr → j < ar_ci K nt → D0 j ≤ ar_mx D0 j)
    (htr : ∀ t, t < nt → K t = 0 → ar_ci K t < fr → a_trial t = nI (D0 (ar_ci K t)))
    (H : ∀ D tr, (∀ j, j < fr → D j = D0 j) → (∀ j, fr ≤ j → j < ar_ci K nt → D j = ar_mx D j) → (∀ t, t < nt → K t = 0 → tr t = nI (D (ar_ci K t))) →
      post (f_termLimit, f_indexLimit, f_literalLimit, f_stride, f_termCount, nI (ar_ci K nt), f_literalCount, f_depth, nI (ar_mx D (ar_ci K nt)), f_hasModel, f_keptWidth, a_kind, a_arrayArg, a_indexArg, a_elementArg, a_indexTerm, a_rank, a_litEqual, a_litLeft, a_litRight, a_litLevel, tr, a_parent, a_label, a_kept)) :
    wpX_fillFresh post (f_termLimit, f_indexLimit, f_literalLimit, f_stride, f_termCount, nI (ar_ci K nt), f_literalCount, f_depth, f_trialWidth, f_hasModel, f_keptWidth, a_kind, a_arrayArg, a_indexArg, a_elementArg, a_indexTerm, a_rank, a_litEqual, a_litLeft, a_litRight, a_litLevel, a_trial, a_parent, a_label, a_kept) (nI fr) := by
  unfold wpX_fillFresh
  refine ⟨ar_ci K nt + 1, ?_⟩
  exact xx_ff4 hn h5 hix hfr hD0 H (ar_ci K nt) (ar_ci K nt + 1) 0 D0 a_trial (by omega) (by omega) (fun t ht hk hc => htr t ht hk (by omega)) (fun j _ hj => absurd hj (Nat.not_lt_zero j)) (fun j _ => rfl)
theorem xx_ad26 {post : Int32 → SX → Prop} {c r lr : Nat} (hn : nt ≤ 24) (h5 : ar_ci K nt ≤ 5) (hix : ar_ix nt K a_indexTerm a_rank) (hc : c < 3125) (ok : ar_ok (ar_ci K nt) (ar_dg c))
    (htr : ∀ t, t < nt → K t = 0 → a_trial t = nI (ar_V K c t)) (hlr : lr < ar_ci K nt) (hr : r ≤ lr) (hr0 : 0 < r) (hd0 : 0 < ar_dg c r) (hz : ∀ j, r < j → j ≤ lr → ar_dg c j = 0)
    (H1 : ∀ c' tr, c' < c → c' < 3125 → ar_ok (ar_ci K nt) (ar_dg c') → (∀ d, ar_ok (ar_ci K nt) (ar_dg d) → c' < d → d < c → ∀ j, j ≤ lr → ar_dg d j = ar_dg c j) →
      (∀ t, t < nt → K t = 0 → tr t = nI (ar_V K c' t)) → post 1 (f_termLimit, f_indexLimit, f_literalLimit, f_stride, f_termCount, nI (ar_ci K nt), f_literalCount, f_depth, nI (ar_W nt K c'), f_hasModel, f_keptWidth, a_kind, a_arrayArg, a_indexArg, a_elementArg, a_indexTerm, a_rank, a_litEqual, a_litLeft, a_litRight, a_litLevel, tr, a_parent, a_label, a_kept)) :
    wX_advance_26 post (nI r) f_termLimit f_indexLimit f_literalLimit f_stride f_termCount (nI (ar_ci K nt)) f_literalCount f_depth f_trialWidth f_hasModel f_keptWidth a_kind a_arrayArg a_indexArg a_elementArg a_indexTerm a_rank a_litEqual a_litLeft a_litRight a_litLevel a_trial a_parent a_label a_kept := by
  obtain ⟨t, ht, hkt, hct⟩ := ar_ci_su (K := K) (r := r) nt (by omega)
  have hit : a_indexTerm r = nI t := by rw [← hct]; exact (hix t ht hkt).1
  have hin : vp_in (nI t) 24 := vp_in_nI (by omega) (by decide)
  have hdt : a_trial t = nI (ar_dg c r) := by rw [← hct]; exact htr t ht hkt
  have hdb := ar_dg_b c r
  unfold wX_advance_26
  refine br_t (nI_lt (a := 0) hr0 (by omega)) ⟨vp_in_nI (by omega) (by decide), ?_⟩
  rw [ar_rd (t := r) (by omega) hit]
  refine ⟨hin, hin, nm_r (e' := upd a_trial t (nI (ar_dg c r - 1))) ?_ ?_⟩
  · rw [ar_rd (t := t) (by omega) hdt, ar_s1 hd0, nI_clamp (by omega)]
  · rw [nI_1 r]
    have hm0 : ∀ j, j ≤ r → ar_mx (ar_up (ar_dg c) r (ar_dg c r - 1)) j = ar_mx (ar_dg c) j := fun j hj => ar_mx_cg j (fun i hi => ar_un (by omega))
    have hv0 : ∀ j, j < r + 1 → j < ar_ci K nt → ar_up (ar_dg c) r (ar_dg c r - 1) j ≤ ar_mx (ar_up (ar_dg c) r (ar_dg c r - 1)) j := by
      intro j hj hjn
      rw [hm0 j (by omega)]
      have := ok.1 j hjn
      by_cases hjr : j = r
      · rw [hjr, ar_us]; rw [hjr] at this; omega
      · rw [ar_un hjr]; exact this
    refine xx_ff (fr := r + 1) (D0 := ar_up (ar_dg c) r (ar_dg c r - 1)) hn h5 hix (by omega) hv0 (fun s hs hks hc => ?_) (fun D tr hD hf hT => ?_)
    · by_cases hst : s = t
      · rw [hst, pk_us, hct, ar_us]
      · rw [pk_un hst, ar_un (fun z => hst (ar_ci_in hks hkt (z.trans hct.symm)))]
        exact htr s hs hks
    · have hmD : ∀ j, j ≤ r + 1 → ar_mx D j = ar_mx (ar_up (ar_dg c) r (ar_dg c r - 1)) j := fun j hj => ar_mx_cg j (fun i hi => hD i (by omega))
      obtain ⟨c', q1, q2, q3, q4⟩ := ar_mkc (ni := ar_ci K nt) (D := D) h5 (fun j hj => by
        by_cases hjr : j < r + 1
        · rw [hD j hjr, hmD j (by omega)]; exact hv0 j hjr hj
        · rw [hf j (by omega) hj]; exact Nat.le_refl _)
      have p1 : ∀ j, j < r → ar_dg c' j = ar_dg c j := fun j hj => by
        rw [q2 j (by omega), hD j (by omega), ar_un (by omega)]
      have p2 : ar_dg c' r = ar_dg c r - 1 := by
        rw [q2 r (by omega), hD r (by omega), ar_us]
      have p3 : ∀ j, r < j → j < ar_ci K nt → ar_dg c' j = ar_mx (ar_dg c') j := fun j hj hjn => by
        rw [q2 j hjn, q4 j (by omega)]; exact hf j (by omega) hjn
      have key := H1 c' tr (ar_adl (ni := ar_ci K nt) hc q1 (by omega) p1 p2 hd0) q1 q3 (fun d okd h1 h2 => ar_adv hc q1 (by omega) p1 p2 hd0 p3 hz okd h1 h2) (fun s hs hks => by
        rw [hT s hs hks]
        exact congrArg nI (q2 _ (ar_ci_lt hs hks)).symm)
      unfold ar_W at key
      rw [q4 _ (Nat.le_refl _)] at key
      exact key
theorem xx_ad2 {post : Int32 → SX → Prop} {c lr : Nat} (hn : nt ≤ 24) (h5 : ar_ci K nt ≤ 5) (hix : ar_ix nt K a_indexTerm a_rank) (hc : c < 3125) (ok : ar_ok (ar_ci K nt) (ar_dg c))
    (htr : ∀ t, t < nt → K t = 0 → a_trial t = nI (ar_V K c t)) (hlr : lr < ar_ci K nt)
    (H1 : ∀ c' tr, c' < c → c' < 3125 → ar_ok (ar_ci K nt) (ar_dg c') → (∀ d, ar_ok (ar_ci K nt) (ar_dg d) → c' < d → d < c → ∀ j, j ≤ lr → ar_dg d j = ar_dg c j) →
      (∀ t, t < nt → K t = 0 → tr t = nI (ar_V K c' t)) → post 1 (f_termLimit, f_indexLimit, f_literalLimit, f_stride, f_termCount, nI (ar_ci K nt), f_literalCount, f_depth, nI (ar_W nt K c'), f_hasModel, f_keptWidth, a_kind, a_arrayArg, a_indexArg, a_elementArg, a_indexTerm, a_rank, a_litEqual, a_litLeft, a_litRight, a_litLevel, tr, a_parent, a_label, a_kept))
    (H0 : (∀ d, d < c → ∀ j, j ≤ lr → ar_dg d j = ar_dg c j) → post 0 (f_termLimit, f_indexLimit, f_literalLimit, f_stride, f_termCount, nI (ar_ci K nt), f_literalCount, f_depth, f_trialWidth, f_hasModel, f_keptWidth, a_kind, a_arrayArg, a_indexArg, a_elementArg, a_indexTerm, a_rank, a_litEqual, a_litLeft, a_litRight, a_litLevel, a_trial, a_parent, a_label, a_kept)) :
    ∀ r n, r ≤ lr → r < n → (∀ j, r < j → j ≤ lr → ar_dg c j = 0) → wX_advance_2 post f_termLimit f_indexLimit f_literalLimit f_stride f_termCount (nI (ar_ci K nt)) f_literalCount f_depth f_trialWidth f_hasModel f_keptWidth a_kind a_arrayArg a_indexArg a_elementArg a_indexTerm a_rank a_litEqual a_litLeft a_litRight a_litLevel a_trial a_parent a_label a_kept n (nI r) := by
  intro r
  induction r with
  | zero =>
    intro n hr hrn hz
    obtain ⟨n, rfl⟩ : ∃ m, n = m + 1 := ⟨n - 1, by omega⟩
    refine br_t (nI_le (b := 0) (by omega) (by omega)) ?_
    unfold wX_advance_26
    exact br_f (nI_nlt (a := 0) (b := 0) (by omega) (by omega)) (H0 (fun d hd => ar_adn hc ok hz hd))
  | succ r ih =>
    intro n hr hrn hz
    obtain ⟨n, rfl⟩ : ∃ m, n = m + 1 := ⟨n - 1, by omega⟩
    obtain ⟨t, ht, hkt, hct⟩ := ar_ci_su (K := K) (r := r + 1) nt (by omega)
    have hit : a_indexTerm (r + 1) = nI t := by rw [← hct]; exact (hix t ht hkt).1
    have hdt : a_trial t = nI (ar_dg c (r + 1)) := by rw [← hct]; exact htr t ht hkt
    have hdb := ar_dg_b c (r + 1)
    refine br_f (nI_nle (by omega) (by omega)) ⟨vp_in_nI (by omega) (by decide), ?_⟩
    rw [ar_rd (t := r + 1) (by omega) hit]
    refine ⟨vp_in_nI (by omega) (by decide), pk_eq (ar_dg c (r + 1)) 0 (fun e => ?_) (fun e => ?_) (ar_rd (t := t) (by omega) hdt)⟩
    · refine nm_r (pk_m1 r) (ih n (by omega) (by omega) (fun j hj1 hj2 => ?_))
      by_cases hj : j = r + 1
      · rw [hj]; exact e
      · exact hz j (by omega) hj2
    · exact xx_ad26 hn h5 hix hc ok htr hlr hr (by omega) (by omega) hz H1
theorem xx_ad {post : Int32 → SX → Prop} {c lr : Nat} (hn : nt ≤ 24) (h5 : ar_ci K nt ≤ 5) (hix : ar_ix nt K a_indexTerm a_rank) (hc : c < 3125) (ok : ar_ok (ar_ci K nt) (ar_dg c))
    (htr : ∀ t, t < nt → K t = 0 → a_trial t = nI (ar_V K c t)) (hlr : lr < ar_ci K nt)
    (H1 : ∀ c' tr, c' < c → c' < 3125 → ar_ok (ar_ci K nt) (ar_dg c') → (∀ d, ar_ok (ar_ci K nt) (ar_dg d) → c' < d → d < c → ∀ j, j ≤ lr → ar_dg d j = ar_dg c j) →
      (∀ t, t < nt → K t = 0 → tr t = nI (ar_V K c' t)) → post 1 (f_termLimit, f_indexLimit, f_literalLimit, f_stride, f_termCount, nI (ar_ci K nt), f_literalCount, f_depth, nI (ar_W nt K c'), f_hasModel, f_keptWidth, a_kind, a_arrayArg, a_indexArg, a_elementArg, a_indexTerm, a_rank, a_litEqual, a_litLeft, a_litRight, a_litLevel, tr, a_parent, a_label, a_kept))
    (H0 : (∀ d, d < c → ∀ j, j ≤ lr → ar_dg d j = ar_dg c j) → post 0 (f_termLimit, f_indexLimit, f_literalLimit, f_stride, f_termCount, nI (ar_ci K nt), f_literalCount, f_depth, f_trialWidth, f_hasModel, f_keptWidth, a_kind, a_arrayArg, a_indexArg, a_elementArg, a_indexTerm, a_rank, a_litEqual, a_litLeft, a_litRight, a_litLevel, a_trial, a_parent, a_label, a_kept)) :
    wpX_advance post (f_termLimit, f_indexLimit, f_literalLimit, f_stride, f_termCount, nI (ar_ci K nt), f_literalCount, f_depth, f_trialWidth, f_hasModel, f_keptWidth, a_kind, a_arrayArg, a_indexArg, a_elementArg, a_indexTerm, a_rank, a_litEqual, a_litLeft, a_litRight, a_litLevel, a_trial, a_parent, a_label, a_kept) (nI lr) := by
  unfold wpX_advance
  exact ⟨lr + 1, xx_ad2 hn h5 hix hc ok htr hlr H1 H0 lr (lr + 1) (Nat.le_refl _) (by omega) (fun j h1 h2 => by omega)⟩
end
end
section
/-! the component: clashes, and the search as a whole -/
section
variable {f_termLimit f_indexLimit f_literalLimit f_stride f_termCount f_indexCount f_literalCount f_depth f_trialWidth f_hasModel f_keptWidth : Int32} {a_kind a_arrayArg a_indexArg a_elementArg a_indexTerm a_rank a_litEqual a_litLeft a_litRight a_litLevel a_trial a_parent a_label a_kept : Nat → Int32} {nt : Nat} {K A I E V : Nat → Nat}
theorem xx_cr103 {post : Int32 → Prop} {J : Int32 → Int32 → Prop} {x1 : Int32} {m l z : Nat} (hm : m < 100) (hz : z < 100)
    (H : ∀ m', (m' = m ∧ m ≤ z) ∨ m' = z → J (nI m') (nI (l + 1))) : wX_clashRank_103 post J x1 (nI m) (nI l) (nI z) f_termLimit f_indexLimit f_literalLimit f_stride f_termCount f_indexCount f_literalCount f_depth f_trialWidth f_hasModel f_keptWidth a_kind a_arrayArg a_indexArg a_elementArg a_indexTerm a_rank a_litEqual a_litLeft a_litRight a_litLevel a_trial a_parent a_label a_kept := by
  unfold wX_clashRank_103
  exact pk_le m z (fun h => nm_r (nI_1 l) (H m (Or.inl ⟨rfl, h⟩))) (fun h => nm_r (nI_1 l) (H z (Or.inr rfl)))
theorem xx_cr60 {post : Int32 → Prop} {J : Int32 → Int32 → Prop} {x1 : Int32} {m l t u b q rt ru : Nat} (hm : m < 100) (hl : l < 17) (ht : t < 24) (hu : u < 24) (hb : b ≤ 1) (hq : q ≤ 1)
    (hrt : rt < 5) (hru : ru < 5) (e1 : a_litEqual l = nI q) (e2 : a_rank t = nI rt) (e3 : a_rank u = nI ru)
    (H1 : b = q → J (nI m) (nI (l + 1))) (H0 : b ≠ q → ∀ z m', rt ≤ z → ru ≤ z → (z = rt ∨ z = ru) → (m' = m ∧ m ≤ z) ∨ m' = z → J (nI m') (nI (l + 1))) :
    wX_clashRank_60 post J x1 (nI m) (nI l) (nI t) (nI u) (nI b) f_termLimit f_indexLimit f_literalLimit f_stride f_termCount f_indexCount f_literalCount f_depth f_trialWidth f_hasModel f_keptWidth a_kind a_arrayArg a_indexArg a_elementArg a_indexTerm a_rank a_litEqual a_litLeft a_litRight a_litLevel a_trial a_parent a_label a_kept := by
  have int : vp_in (nI t) 24 := vp_in_nI ht (by decide)
  have inu : vp_in (nI u) 24 := vp_in_nI hu (by decide)
  have r2 := ar_rd (t := t) (by omega) e2
  have r3 := ar_rd (t := u) (by omega) e3
  unfold wX_clashRank_60
  refine ⟨vp_in_nI hl (by decide), pk_eq b q (fun e => nm_r (nI_1 l) (H1 e)) (fun e => ⟨int, inu, ?_⟩) rfl (ar_rd (t := l) (by omega) e1)⟩
  refine pk_le rt ru (fun h => ⟨inu, ?_⟩) (fun h => ⟨int, ?_⟩) r2 r3
  · rw [r3]
    exact xx_cr103 hm (by omega) (H0 e ru · h (Nat.le_refl _) (Or.inr rfl))
  · rw [r2]
    exact xx_cr103 hm (by omega) (H0 e rt · (Nat.le_refl _) (Nat.le_of_lt h) (Or.inl rfl))
/-- m tells the least rank of a clash among the first i literals -/
def ar_cr (nt : Nat) (K V Lq Ll Lr : Nat → Nat) (i m : Nat) : Prop :=
  (m = ar_ci K nt ∧ ∀ l, l < i → K (Ll l) = 0 → (V (Ll l) = V (Lr l) ↔ Lq l ≠ 0)) ∨
  (m < ar_ci K nt ∧ ∃ l, l < i ∧ K (Ll l) = 0 ∧ ¬ (V (Ll l) = V (Lr l) ↔ Lq l ≠ 0) ∧ ar_ci K (Ll l) ≤ m ∧ ar_ci K (Lr l) ≤ m)
theorem ar_cr_k {nt : Nat} {K V Lq Ll Lr : Nat → Nat} {i m : Nat} (h : ar_cr nt K V Lq Ll Lr i m) (hi : K (Ll i) = 0 → (V (Ll i) = V (Lr i) ↔ Lq i ≠ 0)) : ar_cr nt K V Lq Ll Lr (i + 1) m := by
  rcases h with ⟨h1, h2⟩ | ⟨h1, l, h2, h3⟩
  · refine Or.inl ⟨h1, fun l hl => ?_⟩
    by_cases e : l = i
    · rw [e]; exact hi
    · exact h2 l (by omega)
  · exact Or.inr ⟨h1, l, by omega, h3⟩
theorem ar_cr_v {nt : Nat} {K V Lq Ll Lr : Nat → Nat} {i m z m' : Nat} (h : ar_cr nt K V Lq Ll Lr i m) (hk : K (Ll i) = 0) (hi : ¬ (V (Ll i) = V (Lr i) ↔ Lq i ≠ 0)) (hz : z < ar_ci K nt)
    (h1 : ar_ci K (Ll i) ≤ z) (h2 : ar_ci K (Lr i) ≤ z) (hm : (m' = m ∧ m ≤ z) ∨ m' = z) : ar_cr nt K V Lq Ll Lr (i + 1) m' := by
  rcases hm with ⟨e, hm⟩ | e
  · subst e
    rcases h with ⟨g1, _⟩ | ⟨g1, l, g2, g3⟩
    · omega
    · exact Or.inr ⟨g1, l, by omega, g3⟩
  · subst e
    exact Or.inr ⟨hz, i, by omega, hk, hi, h1, h2⟩
theorem xx_cr7 {N : Nat} {Lq Ll Lr : Nat → Nat} {post : Int32 → Prop} (hn : nt ≤ 24) (h5 : ar_ci K nt ≤ 5) (hm : ar_tm nt K A I E a_kind a_arrayArg a_indexArg a_elementArg) (hw : ar_tw nt K A I E) (hix : ar_ix nt K a_indexTerm a_rank)
    (hv : ∀ i, i < nt → K i = 0 → a_trial i = nI (V i)) (hV : ∀ i, i < nt → K i = 0 → V i ≤ 5) (hN : N ≤ 17) (hL : ar_lm N nt K Lq Ll Lr a_litEqual a_litLeft a_litRight)
    (H : ∀ m, ar_cr nt K V Lq Ll Lr N m → post (nI m)) :
    ∀ k n l m, l + k = N → k < n → ar_cr nt K V Lq Ll Lr l m → wX_clashRank_7 post (nI N) f_termLimit f_indexLimit f_literalLimit f_stride f_termCount f_indexCount f_literalCount f_depth f_trialWidth f_hasModel f_keptWidth a_kind a_arrayArg a_indexArg a_elementArg a_indexTerm a_rank a_litEqual a_litLeft a_litRight a_litLevel a_trial a_parent a_label a_kept n (nI m) (nI l) := by
  intro k
  induction k with
  | zero =>
    intro n l m hx hk hc
    obtain ⟨n, rfl⟩ : ∃ m, n = m + 1 := ⟨n - 1, by omega⟩
    have : l = N := by omega
    subst this
    exact br_t (nI_le (by omega) (by omega)) (H m hc)
  | succ k ih =>
    intro n l m hx hk hc
    obtain ⟨n, rfl⟩ : ∃ m, n = m + 1 := ⟨n - 1, by omega⟩
    obtain ⟨l1, l2, l3, l4, l5, l6, l7⟩ := hL l (by omega)
    have hin : vp_in (nI l) 17 := vp_in_nI (by omega) (by decide)
    have int : vp_in (nI (Ll l)) 24 := vp_in_nI (by omega) (by decide)
    have inu : vp_in (nI (Lr l)) 24 := vp_in_nI (by omega) (by decide)
    have hb := (hw (Ll l) l5).1
    have hm5 : m ≤ 5 := by
      rcases hc with h | h
      · omega
      · omega
    refine br_f (nI_ge (by omega) (by omega)) ⟨hin, nm_r (ar_rd (t := l) (by omega) l2) ⟨hin, nm_r (ar_rd (t := l) (by omega) l3) ⟨int, ?_⟩⟩⟩
    refine pk_eq (K (Ll l)) 0 (fun k0 => ⟨int, inu, ?_⟩) (fun k0 => ?_) (ar_rd (t := Ll l) (by omega) (hm (Ll l) l5).1)
    · have k1 : K (Lr l) = 0 := by
        rw [k0] at l7
        exact ar_so0.mp l7.symm
      have v1 := hV (Ll l) l5 k0
      have v2 := hV (Lr l) l6 k1
      have c1 := ar_ci_lt l5 k0
      have c2 := ar_ci_lt l6 k1
      refine pk_eq (V (Ll l)) (V (Lr l)) (fun e => ?_) (fun e => ?_) (ar_rd (t := Ll l) (by omega) (hv (Ll l) l5 k0)) (ar_rd (t := Lr l) (by omega) (hv (Lr l) l6 k1))
      · refine xx_cr60 (b := 1) (by omega) (by omega) (by omega) (by omega) (by omega) l4 (by omega) (by omega) l1 (hix (Ll l) l5 k0).2 (hix (Lr l) l6 k1).2 (fun q => ?_) (fun q z m' z1 z2 z3 z4 => ?_)
        · exact ih n (l + 1) m (by omega) (by omega) (ar_cr_k hc (fun _ => ⟨fun _ => by omega, fun _ => e⟩))
        · exact ih n (l + 1) m' (by omega) (by omega) (ar_cr_v hc k0 (fun y => q (by have := y.mp e; omega)) (by omega) z1 z2 z4)
      · refine xx_cr60 (b := 0) (by omega) (by omega) (by omega) (by omega) (by omega) l4 (by omega) (by omega) l1 (hix (Ll l) l5 k0).2 (hix (Lr l) l6 k1).2 (fun q => ?_) (fun q z m' z1 z2 z3 z4 => ?_)
        · exact ih n (l + 1) m (by omega) (by omega) (ar_cr_k hc (fun _ => ⟨fun y => absurd y e, fun y => absurd q.symm y⟩))
        · exact ih n (l + 1) m' (by omega) (by omega) (ar_cr_v hc k0 (fun y => e (y.mpr (fun y0 => q y0.symm))) (by omega) z1 z2 z4)
    · exact nm_r (nI_1 l) (ih n (l + 1) m (by omega) (by omega) (ar_cr_k hc (fun y => absurd y k0)))
theorem xx_cr {N : Nat} {Lq Ll Lr : Nat → Nat} {post : Int32 → Prop} (hn : nt ≤ 24) (h5 : ar_ci K nt ≤ 5) (hm : ar_tm nt K A I E a_kind a_arrayArg a_indexArg a_elementArg) (hw : ar_tw nt K A I E) (hix : ar_ix nt K a_indexTerm a_rank)
    (hv : ∀ i, i < nt → K i = 0 → a_trial i = nI (V i)) (hV : ∀ i, i < nt → K i = 0 → V i ≤ 5) (hN : N ≤ 17) (hL : ar_lm N nt K Lq Ll Lr a_litEqual a_litLeft a_litRight)
    (H : ∀ m, ar_cr nt K V Lq Ll Lr N m → post (nI m)) : wpX_clashRank post (f_termLimit, f_indexLimit, f_literalLimit, f_stride, f_termCount, nI (ar_ci K nt), f_literalCount, f_depth, f_trialWidth, f_hasModel, f_keptWidth, a_kind, a_arrayArg, a_indexArg, a_elementArg, a_indexTerm, a_rank, a_litEqual, a_litLeft, a_litRight, a_litLevel, a_trial, a_parent, a_label, a_kept) (nI N) := by
  unfold wpX_clashRank
  exact ⟨N + 1, xx_cr7 hn h5 hm hw hix hv hV hN hL H N (N + 1) 0 (ar_ci K nt) (by omega) (by omega) (Or.inl ⟨rfl, fun l hl => absurd hl (Nat.not_lt_zero l)⟩)⟩
/-- a list that begins like one with a clash is no good one -/
theorem ar_gp {N c d m : Nat} {Lq Ll Lr : Nat → Nat} (hL : ∀ l, l < N → ar_so (K (Ll l)) = ar_so (K (Lr l)))
    (hm : ∃ l, l < N ∧ K (Ll l) = 0 ∧ ¬ (ar_V K c (Ll l) = ar_V K c (Lr l) ↔ Lq l ≠ 0) ∧ ar_ci K (Ll l) ≤ m ∧ ar_ci K (Lr l) ≤ m)
    (hd : ∀ j, j ≤ m → ar_dg d j = ar_dg c j) : ¬ ar_G nt K A I E Lq Ll Lr N d := by
  obtain ⟨l, g1, g2, g3, g4, g5⟩ := hm
  intro hG
  have := hG.2.2.1 l g1 g2
  apply g3
  unfold ar_V at this ⊢
  rw [hd _ g4, hd _ g5] at this
  exact this
theorem xx_s7 {N : Nat} {Lq Ll Lr : Nat → Nat} {post : Int32 → SX → Prop} (hn : nt ≤ 24) (h5 : ar_ci K nt ≤ 5) (hm : ar_tm nt K A I E a_kind a_arrayArg a_indexArg a_elementArg) (hw : ar_tw nt K A I E) (hix : ar_ix nt K a_indexTerm a_rank)
    (hN : N ≤ 17) (hL : ar_lm N nt K Lq Ll Lr a_litEqual a_litLeft a_litRight)
    (H1 : ∀ c tr pa, ar_G nt K A I E Lq Ll Lr N c → (∀ d, c < d → ¬ ar_G nt K A I E Lq Ll Lr N d) → (∀ t, t < nt → K t = 0 → tr t = nI (ar_V K c t)) → ar_uf (nt * 6) (ar_P nt K A I E Lq Ll Lr N c) pa →
      post 1 (f_termLimit, f_indexLimit, f_literalLimit, f_stride, nI nt, nI (ar_ci K nt), f_literalCount, f_depth, nI (ar_W nt K c), f_hasModel, f_keptWidth, a_kind, a_arrayArg, a_indexArg, a_elementArg, a_indexTerm, a_rank, a_litEqual, a_litLeft, a_litRight, a_litLevel, tr, pa, a_label, a_kept))
    (H0 : (∀ d, ¬ ar_G nt K A I E Lq Ll Lr N d) → ∀ w' tr pa, post 0 (f_termLimit, f_indexLimit, f_literalLimit, f_stride, nI nt, nI (ar_ci K nt), f_literalCount, f_depth, w', f_hasModel, f_keptWidth, a_kind, a_arrayArg, a_indexArg, a_elementArg, a_indexTerm, a_rank, a_litEqual, a_litLeft, a_litRight, a_litLevel, tr, pa, a_label, a_kept)) :
    ∀ n i c a_trial a_parent, c < n → i + ar_cn (c + 1) ar_vl ≤ 52 → c < 3125 → ar_ok (ar_ci K nt) (ar_dg c) → (∀ d, c < d → ¬ ar_G nt K A I E Lq Ll Lr N d) → (∀ t, t < nt → K t = 0 → a_trial t = nI (ar_V K c t)) →
    wX_search_7 post (nI N) n (nI i) f_termLimit f_indexLimit f_literalLimit f_stride (nI nt) (nI (ar_ci K nt)) f_literalCount f_depth (nI (ar_W nt K c)) f_hasModel f_keptWidth a_kind a_arrayArg a_indexArg a_elementArg a_indexTerm a_rank a_litEqual a_litLeft a_litRight a_litLevel a_trial a_parent a_label a_kept := by
  intro n
  induction n with
  | zero => intro i c a_trial a_parent h; omega
  | succ n ih =>
    intro i c a_trial a_parent hcn hi hc ok hab htr
    have hmem := ar_vm hc ok
    have hcs := ar_cn_s (c := c) (d := c + 1) (by omega) ar_vl hmem
    have hVW := ar_VW ok
    have hW5 : ar_W nt K c ≤ 5 := ar_W5 h5
    have adv : ∀ lr pa, lr < ar_ci K nt → (∀ d, d < 3125 → ar_ok (ar_ci K nt) (ar_dg d) → (∀ j, j ≤ lr → ar_dg d j = ar_dg c j) → ¬ ar_G nt K A I E Lq Ll Lr N d) →
        wX_search_44 post (wX_search_7 post (nI N) n) (nI N) (nI i) (nI lr) f_termLimit f_indexLimit f_literalLimit f_stride (nI nt) (nI (ar_ci K nt)) f_literalCount f_depth (nI (ar_W nt K c)) f_hasModel f_keptWidth a_kind a_arrayArg a_indexArg a_elementArg a_indexTerm a_rank a_litEqual a_litLeft a_litRight a_litLevel a_trial pa a_label a_kept := by
      intro lr pa hlr hgap
      unfold wX_search_44
      refine xx_ad hn h5 hix hc ok htr hlr (fun c' tr d1 d2 d3 d4 d5 => ?_) (fun hno => ?_)
      · refine br_f (by decide) (nm_r (nI_1 i) (ih (i + 1) c' tr pa (by omega) ?_ d2 d3 (fun d hd hG => ?_) d5))
        · have := ar_cn_mo (c := c' + 1) (d := c) (by omega) ar_vl
          omega
        · by_cases h1 : c < d
          · exact hab d h1 hG
          · by_cases h2 : d = c
            · rw [h2] at hG; exact hgap c hc ok (fun j _ => rfl) hG
            · exact hgap d hG.1 hG.2.1 (d4 d hG.2.1 hd (by omega)) hG
      · refine br_t rfl (H0 (fun d hG => ?_) _ _ _)
        by_cases h1 : c < d
        · exact hab d h1 hG
        · by_cases h2 : d = c
          · rw [h2] at hG; exact hgap c hc ok (fun j _ => rfl) hG
          · exact hgap d hG.1 hG.2.1 (hno d (by omega)) hG
    refine br_f (nI_ge (b := 52) (by omega) (by omega)) ?_
    refine xx_cr hn h5 hm hw hix htr (fun t ht hk => Nat.le_trans (hVW t ht hk) hW5) hN hL (fun m hcr => ?_)
    rcases hcr with ⟨e, hall⟩ | ⟨hlt, hex⟩
    · refine br_t (congrArg nI e) ?_
      refine xx_cc hn hm hw htr hVW hW5 hN hL (fun hd pa hpa => ?_) (fun hd pa hpa => ?_)
      · exact br_f (by decide) (H1 c a_trial pa ⟨hc, ok, hall, hd⟩ hab htr hpa)
      · have hnG : ¬ ar_G nt K A I E Lq Ll Lr N c := fun hG => hd hG.2.2.2
        refine br_t rfl ?_
        by_cases hz : ar_ci K nt = 0
        · refine nm_r (e' := -1) (by rw [hz]; decide) ?_
          unfold wX_search_44 wpX_advance
          refine ⟨1, br_t (by decide) ?_⟩
          unfold wX_advance_26
          refine br_f (by decide) (br_t rfl (H0 (fun d hG => ?_) _ _ _))
          have e0 : ∀ q, ar_ok (ar_ci K nt) (ar_dg q) → q < 3125 → ∀ j, j < 5 → ar_dg q j = 0 := fun q okq _ j hj => okq.2 j (by omega) hj
          have : d = c := ar_dgx hc hG.1 (fun j hj => by rw [e0 d hG.2.1 hG.1 j hj, e0 c ok hc j hj])
          rw [this] at hG
          exact hnG hG
        · refine nm_r (ar_s1 (by omega)) (adv (ar_ci K nt - 1) pa (by omega) (fun d hd3 okd hdj hG => ?_))
          have : d = c := ar_dgx hc hd3 (fun j hj => by
            by_cases hjn : j < ar_ci K nt
            · exact hdj j (by omega)
            · rw [okd.2 j (by omega) hj, ok.2 j (by omega) hj])
          rw [this] at hG
          exact hnG hG
    · refine br_f (fun e => ?_) ?_
      · have := ar_inj e (by omega) (by omega)
        omega
      · exact adv m a_parent hlt (fun d _ _ hdj => ar_gp (fun l hl => (hL l hl).2.2.2.2.2.2) hex hdj)
theorem xx_se {N : Nat} {Lq Ll Lr : Nat → Nat} {post : Int32 → SX → Prop} (hn : nt ≤ 24) (h5 : ar_ci K nt ≤ 5) (hm : ar_tm nt K A I E a_kind a_arrayArg a_indexArg a_elementArg) (hw : ar_tw nt K A I E) (hix : ar_ix nt K a_indexTerm a_rank)
    (hN : N ≤ 17) (hL : ar_lm N nt K Lq Ll Lr a_litEqual a_litLeft a_litRight)
    (H1 : ∀ c tr pa, ar_G nt K A I E Lq Ll Lr N c → (∀ d, c < d → ¬ ar_G nt K A I E Lq Ll Lr N d) → (∀ t, t < nt → K t = 0 → tr t = nI (ar_V K c t)) → ar_uf (nt * 6) (ar_P nt K A I E Lq Ll Lr N c) pa →
      post 1 (f_termLimit, f_indexLimit, f_literalLimit, f_stride, nI nt, nI (ar_ci K nt), f_literalCount, f_depth, nI (ar_W nt K c), f_hasModel, f_keptWidth, a_kind, a_arrayArg, a_indexArg, a_elementArg, a_indexTerm, a_rank, a_litEqual, a_litLeft, a_litRight, a_litLevel, tr, pa, a_label, a_kept))
    (H0 : (∀ d, ¬ ar_G nt K A I E Lq Ll Lr N d) → ∀ w' tr pa, post 0 (f_termLimit, f_indexLimit, f_literalLimit, f_stride, nI nt, nI (ar_ci K nt), f_literalCount, f_depth, w', f_hasModel, f_keptWidth, a_kind, a_arrayArg, a_indexArg, a_elementArg, a_indexTerm, a_rank, a_litEqual, a_litLeft, a_litRight, a_litLevel, tr, pa, a_label, a_kept)) :
    wpX_search post (f_termLimit, f_indexLimit, f_literalLimit, f_stride, nI nt, nI (ar_ci K nt), f_literalCount, f_depth, f_trialWidth, f_hasModel, f_keptWidth, a_kind, a_arrayArg, a_indexArg, a_elementArg, a_indexTerm, a_rank, a_litEqual, a_litLeft, a_litRight, a_litLevel, a_trial, a_parent, a_label, a_kept) (nI N) := by
  unfold wpX_search
  refine xx_ff (fr := 0) (D0 := fun _ => 0) hn h5 hix (by omega) (fun j hj => absurd hj (Nat.not_lt_zero j)) (fun t _ _ hj => absurd hj (Nat.not_lt_zero _)) (fun D tr _ hf hT => ?_)
  obtain ⟨c, q1, q2, q3, q4⟩ := ar_mkc (ni := ar_ci K nt) (D := D) h5 (fun j hj => by rw [hf j (Nat.zero_le j) hj]; exact Nat.le_refl _)
  have key := xx_s7 hn h5 hm hw hix hN hL H1 H0 (c + 1) 0 c tr a_parent (Nat.lt_succ_self c) (by have := ar_cn52 (c := c + 1); omega) q1 q3 (fun d hd hG => ?_) (fun t ht hk => by
    rw [hT t ht hk]
    exact congrArg nI (q2 _ (ar_ci_lt ht hk)).symm)
  · unfold ar_W at key
    rw [q4 _ (Nat.le_refl _)] at key
    exact ⟨c + 1, key⟩
  · have := ar_frm (fr := 0) q1 hG.1 hG.2.1 (fun j hj => absurd hj (Nat.not_lt_zero j)) (fun j _ hj => by rw [q2 j hj, q4 j (by omega)]; exact hf j (Nat.zero_le j) hj)
    omega
end
end
section
/-! the component: the kept model -/
def ar_s2 (nt : Nat) (K P : Nat → Nat) (w : Nat) : (Nat → Nat) × Nat := ar_ts P K 2 (w + 1) (ar_ts P K 1 1 (fun _ => 0, 0) nt) nt
def ar_xn (nt : Nat) (K V P : Nat → Nat) (s : (Nat → Nat) × Nat) (pa la ke : Nat → Int32) : Prop :=
  ar_uf (nt * 6) P pa ∧ (∃ L : Nat → Nat, (∀ e, e < nt * 6 → la e = ar_vz (L e)) ∧ ar_nj (nt * 6) P L s.1 s.2) ∧ (∀ g, s.1 g ≠ 0 → ke g = nI (s.1 g - 1)) ∧ ∀ t, t < nt → K t = 0 → ke (t * 6) = nI (V t)
section
variable {f_termLimit f_indexLimit f_literalLimit f_stride f_termCount f_indexCount f_literalCount f_depth f_trialWidth f_hasModel f_keptWidth : Int32} {a_kind a_arrayArg a_indexArg a_elementArg a_indexTerm a_rank a_litEqual a_litLeft a_litRight a_litLevel a_trial a_parent a_label a_kept : Nat → Int32} {nt : Nat} {K A I E V P : Nat → Nat}
theorem xx_nc75 {post : Int32 → SX → Prop} {J6 J18 : Int32 → Int32 → Int32 → Int32 → Int32 → Int32 → Int32 → Int32 → Int32 → Int32 → Int32 → Int32 → Int32 →  (Nat → Int32) → (Nat → Int32) → (Nat → Int32) → (Nat → Int32) → (Nat → Int32) → (Nat → Int32) → (Nat → Int32) → (Nat → Int32) → (Nat → Int32) → (Nat → Int32) → (Nat → Int32) → (Nat → Int32) → (Nat → Int32) → (Nat → Int32) →  Prop} {x1 x2 x4 x5 : Int32} {x e r : Nat} {v : Int32} (he : e < 144) (hr : r < 144) (hl : a_label r = v)
    (H : J18 x4 (nI (x + 1)) f_termLimit f_indexLimit f_literalLimit f_stride f_termCount f_indexCount f_literalCount f_depth f_trialWidth f_hasModel f_keptWidth a_kind a_arrayArg a_indexArg a_elementArg a_indexTerm a_rank a_litEqual a_litLeft a_litRight a_litLevel a_trial a_parent a_label (upd a_kept e v)) : wX_numberConstants_75 post J6 J18 x1 x2 x4 x5 (nI x) (nI e) (nI r) f_termLimit f_indexLimit f_literalLimit f_stride f_termCount f_indexCount f_literalCount f_depth f_trialWidth f_hasModel f_keptWidth a_kind a_arrayArg a_indexArg a_elementArg a_indexTerm a_rank a_litEqual a_litLeft a_litRight a_litLevel a_trial a_parent a_label a_kept := by
  unfold wX_numberConstants_75
  refine ⟨vp_in_nI hr (by decide), vp_in_nI he (by decide), nm_r (e' := upd a_kept e v) ?_ (nm_r (nI_1 x) H)⟩
  rw [ar_rd (t := r) (by omega) hl, nI_clamp (by omega)]
theorem xx_nc18 {post : Int32 → SX → Prop} {J6 : Int32 → Int32 → Int32 → Int32 → Int32 → Int32 → Int32 → Int32 → Int32 → Int32 → Int32 → Int32 → Int32 →  (Nat → Int32) → (Nat → Int32) → (Nat → Int32) → (Nat → Int32) → (Nat → Int32) → (Nat → Int32) → (Nat → Int32) → (Nat → Int32) → (Nat → Int32) → (Nat → Int32) → (Nat → Int32) → (Nat → Int32) → (Nat → Int32) → (Nat → Int32) →  Prop} {so last t m : Nat} {s0 : (Nat → Nat) × Nat} (hn : nt ≤ 24) (hk : a_kind t = nI so) (hks : K t ≠ 0) (ht : t < nt) (hl : last ≤ 5) (hs0 : ar_sb s0 m) (hm : m ≤ 1000)
    (H : ∀ pa la ke, ar_xn nt K V P (ar_pl P t s0 (last + 1)) pa la ke → J6 (nI (ar_pl P t s0 (last + 1)).2) (nI (t + 1)) f_termLimit f_indexLimit f_literalLimit f_stride (nI nt) f_indexCount f_literalCount f_depth f_trialWidth f_hasModel f_keptWidth a_kind a_arrayArg a_indexArg a_elementArg a_indexTerm a_rank a_litEqual a_litLeft a_litRight a_litLevel a_trial pa la ke) :
    ∀ k n x a_parent a_label a_kept, x + k = last + 1 → k < n → ar_xn nt K V P (ar_pl P t s0 x) a_parent a_label a_kept →
    wX_numberConstants_18 post J6 (nI so) (nI last) (nI t) n (nI (ar_pl P t s0 x).2) (nI x) f_termLimit f_indexLimit f_literalLimit f_stride (nI nt) f_indexCount f_literalCount f_depth f_trialWidth f_hasModel f_keptWidth a_kind a_arrayArg a_indexArg a_elementArg a_indexTerm a_rank a_litEqual a_litLeft a_litRight a_litLevel a_trial a_parent a_label a_kept := by
  intro k
  induction k with
  | zero =>
    intro n x a_parent a_label a_kept hx hk2 hj
    obtain ⟨n, rfl⟩ : ∃ m, n = m + 1 := ⟨n - 1, by omega⟩
    have : x = last + 1 := by omega
    subst this
    exact br_t (nI_lt (by omega) (by omega)) (nm_r (nI_1 t) (H a_parent a_label a_kept hj))
  | succ k ih =>
    intro n x a_parent a_label a_kept hx hk2 hj
    obtain ⟨n, rfl⟩ : ∃ m, n = m + 1 := ⟨n - 1, by omega⟩
    obtain ⟨hu, ⟨L, hL, hnj⟩, hke, hki⟩ := hj
    have hnx : (ar_pl P t s0 x).2 ≤ m + x := (ar_pl_b hs0 x).1
    refine br_f (nI_nlt (by omega) (by omega)) ⟨vp_in_nI (by omega) (by decide), ?_⟩
    refine br_t (ar_rd (t := t) (by omega) hk) (nm_r (e' := nI (t * 6 + x)) (by rw [ar_n6, nI_add]) ?_)
    refine xx_fi hn hu (by omega) (fun r pa hr hu' lr pr => ⟨vp_in_nI (by omega) (by decide), ?_⟩)
    have hLr := hL r hr
    have hne : ∀ s, s < nt → K s = 0 → s * 6 ≠ t * 6 + x := by
      intro s hs hks2 z
      have : s = t := by omega
      rw [this] at hks2
      exact hks hks2
    by_cases h0 : L r = 0
    · obtain ⟨e1, e2⟩ := ar_nj_new hnj (e := t * 6 + x) (by omega) hr lr pr h0
      have e3 : ar_pl P t s0 (x + 1) = (ar_up (ar_pl P t s0 x).1 (t * 6 + x) ((ar_pl P t s0 x).2 + 1), (ar_pl P t s0 x).2 + 1) := e1
      rw [h0, ar_vz0] at hLr
      refine br_f (by rw [ar_rd (t := r) (by omega) hLr]; decide) ⟨vp_in_nI (by omega) (by decide), nm_r (e' := upd a_label r (nI (ar_pl P t s0 x).2)) (by rw [nI_clamp (by omega)]) (nm_r (nI_1 _) ?_)⟩
      refine xx_nc75 (by omega) (by omega) pk_us ?_
      have key := ih n (x + 1) pa (upd a_label r (nI (ar_pl P t s0 x).2)) (upd a_kept (t * 6 + x) (nI (ar_pl P t s0 x).2)) (by omega) (by omega) ?_
      · rw [e3] at key
        exact key
      · rw [e3]
        refine ⟨hu', ⟨ar_up L r ((ar_pl P t s0 x).2 + 1), fun e he => ?_, e2⟩, fun g hg => ?_, fun s hs hks2 => ?_⟩
        · by_cases her : e = r
          · rw [her, pk_us, ar_us]; rfl
          · rw [pk_un her, ar_un her]; exact hL e he
        · dsimp only at hg ⊢
          by_cases hge : g = t * 6 + x
          · rw [hge, pk_us, ar_us]; rfl
          · rw [pk_un hge, ar_un hge]
            rw [ar_un hge] at hg
            exact hke g hg
        · rw [pk_un (hne s hs hks2)]; exact hki s hs hks2
    · obtain ⟨e1, e2, e4⟩ := ar_nj_old (by omega) hnj (e := t * 6 + x) (by omega) hr lr pr h0
      have e3 : ar_pl P t s0 (x + 1) = (ar_up (ar_pl P t s0 x).1 (t * 6 + x) (L r), (ar_pl P t s0 x).2) := e1
      rw [ar_vzs h0] at hLr
      refine br_t (by rw [ar_rd (t := r) (by omega) hLr]; exact nI_pos' (by omega)) ?_
      refine xx_nc75 (by omega) (by omega) hLr ?_
      have key := ih n (x + 1) pa a_label (upd a_kept (t * 6 + x) (nI (L r - 1))) (by omega) (by omega) ?_
      · rw [e3] at key
        exact key
      · rw [e3]
        refine ⟨hu', ⟨L, hL, e2⟩, fun g hg => ?_, fun s hs hks2 => ?_⟩
        · dsimp only at hg ⊢
          by_cases hge : g = t * 6 + x
          · rw [hge, pk_us, ar_us]
          · rw [pk_un hge, ar_un hge]
            rw [ar_un hge] at hg
            exact hke g hg
        · rw [pk_un (hne s hs hks2)]; exact hki s hs hks2
theorem xx_nc6 {post : Int32 → SX → Prop} {so last m : Nat} {s0 : (Nat → Nat) × Nat} (hn : nt ≤ 24) (hm : ar_tm nt K A I E a_kind a_arrayArg a_indexArg a_elementArg) (hw : ar_tw nt K A I E) (hso : so ≠ 0) (hso2 : so ≤ 4) (hl : last ≤ 5) (hs0 : ar_sb s0 m) (hm2 : m ≤ 200)
    (H : ∀ pa la ke, ar_xn nt K V P (ar_ts P K so (last + 1) s0 nt) pa la ke → post (nI (ar_ts P K so (last + 1) s0 nt).2) (f_termLimit, f_indexLimit, f_literalLimit, f_stride, nI nt, f_indexCount, f_literalCount, f_depth, f_trialWidth, f_hasModel, f_keptWidth, a_kind, a_arrayArg, a_indexArg, a_elementArg, a_indexTerm, a_rank, a_litEqual, a_litLeft, a_litRight, a_litLevel, a_trial, pa, la, ke)) :
    ∀ k n t a_parent a_label a_kept, t + k = nt → k < n → ar_xn nt K V P (ar_ts P K so (last + 1) s0 t) a_parent a_label a_kept →
    wX_numberConstants_6 post (nI so) (nI last) n (nI (ar_ts P K so (last + 1) s0 t).2) (nI t) f_termLimit f_indexLimit f_literalLimit f_stride (nI nt) f_indexCount f_literalCount f_depth f_trialWidth f_hasModel f_keptWidth a_kind a_arrayArg a_indexArg a_elementArg a_indexTerm a_rank a_litEqual a_litLeft a_litRight a_litLevel a_trial a_parent a_label a_kept := by
  intro k
  induction k with
  | zero =>
    intro n t a_parent a_label a_kept hx hk2 hj
    obtain ⟨n, rfl⟩ : ∃ m, n = m + 1 := ⟨n - 1, by omega⟩
    have : t = nt := by omega
    subst this
    exact br_t (nI_le (by omega) (by omega)) (H a_parent a_label a_kept hj)
  | succ k ih =>
    intro n t a_parent a_label a_kept hx hk2 hj
    obtain ⟨n, rfl⟩ : ∃ m, n = m + 1 := ⟨n - 1, by omega⟩
    have hb := ar_ts_b (P := P) (K := K) (so := so) (k := last + 1) (by omega) hs0 t
    have h4 := (hw t (by omega)).1
    have hkt := (hm t (by omega)).1
    refine br_f (nI_ge (by omega) (by omega)) ?_
    by_cases hk : K t = so
    · refine ⟨last + 2, ?_⟩
      refine xx_nc18 (m := m + t * 6) hn (by rw [hkt, hk]) (by omega) (by omega) hl hb (by omega) (fun pa la ke hpl => ?_) (last + 1) (last + 2) 0 a_parent a_label a_kept (by omega) (by omega) hj
      have key := ih n (t + 1) pa la ke (by omega) (by omega) ?_
      · rw [ar_ts_s, if_pos hk] at key
        exact key
      · rw [ar_ts_s, if_pos hk]; exact hpl
    · refine ⟨1, br_f (nI_nlt (b := 0) (by omega) (by omega)) ⟨vp_in_nI (by omega) (by decide), ?_⟩⟩
      refine br_f (fun e => ?_) (nm_r (nI_1 t) ?_)
      · rw [ar_rd (t := t) (by omega) hkt] at e
        exact hk (ar_inj e (by omega) (by omega))
      · have key := ih n (t + 1) a_parent a_label a_kept (by omega) (by omega) ?_
        · rw [ar_ts_s, if_neg hk] at key
          exact key
        · rw [ar_ts_s, if_neg hk]; exact hj
theorem xx_nc {post : Int32 → SX → Prop} {so last m : Nat} {s0 : (Nat → Nat) × Nat} (hn : nt ≤ 24) (hm : ar_tm nt K A I E a_kind a_arrayArg a_indexArg a_elementArg) (hw : ar_tw nt K A I E) (hso : so ≠ 0) (hso2 : so ≤ 4) (hl : last ≤ 5) (hs0 : ar_sb s0 m) (hm2 : m ≤ 200)
    (hj : ar_xn nt K V P s0 a_parent a_label a_kept)
    (H : ∀ pa la ke, ar_xn nt K V P (ar_ts P K so (last + 1) s0 nt) pa la ke → post (nI (ar_ts P K so (last + 1) s0 nt).2) (f_termLimit, f_indexLimit, f_literalLimit, f_stride, nI nt, f_indexCount, f_literalCount, f_depth, f_trialWidth, f_hasModel, f_keptWidth, a_kind, a_arrayArg, a_indexArg, a_elementArg, a_indexTerm, a_rank, a_litEqual, a_litLeft, a_litRight, a_litLevel, a_trial, pa, la, ke)) :
    wpX_numberConstants post (f_termLimit, f_indexLimit, f_literalLimit, f_stride, nI nt, f_indexCount, f_literalCount, f_depth, f_trialWidth, f_hasModel, f_keptWidth, a_kind, a_arrayArg, a_indexArg, a_elementArg, a_indexTerm, a_rank, a_litEqual, a_litLeft, a_litRight, a_litLevel, a_trial, a_parent, a_label, a_kept) (nI so) (nI last) (nI s0.2) := by
  unfold wpX_numberConstants
  exact ⟨nt + 1, xx_nc6 hn hm hw hso hso2 hl hs0 hm2 H nt (nt + 1) 0 a_parent a_label a_kept (by omega) (by omega) hj⟩
theorem xx_km38 {post : SX → Prop} {c w : Nat} (hn : nt ≤ 24) (h5 : ar_ci K nt ≤ 5) (hm : ar_tm nt K A I E a_kind a_arrayArg a_indexArg a_elementArg) (hw : ar_tw nt K A I E) (hix : ar_ix nt K a_indexTerm a_rank) (hw5 : w ≤ 5)
    (htr : ∀ t, t < nt → K t = 0 → a_trial t = nI (ar_V K c t)) (hu : ar_uf (nt * 6) P a_parent) (hla : ∀ e, e < nt * 6 → a_label e = -1)
    (H : ∀ pa la ke, (∀ g, (ar_s2 nt K P w).1 g ≠ 0 → ke g = nI ((ar_s2 nt K P w).1 g - 1)) → (∀ t, t < nt → K t = 0 → ke (t * 6) = nI (ar_V K c t)) →
      post (f_termLimit, f_indexLimit, f_literalLimit, f_stride, nI nt, nI (ar_ci K nt), f_literalCount, f_depth, f_trialWidth, f_hasModel, nI w, a_kind, a_arrayArg, a_indexArg, a_elementArg, a_indexTerm, a_rank, a_litEqual, a_litLeft, a_litRight, a_litLevel, a_trial, pa, la, ke)) :
    ∀ k n r a_kept, r + k = ar_ci K nt → k < n → (∀ t, t < nt → K t = 0 → ar_ci K t < r → a_kept (t * 6) = nI (ar_V K c t)) →
    wX_keepModel_38 post f_termLimit f_indexLimit f_literalLimit f_stride (nI nt) (nI (ar_ci K nt)) f_literalCount f_depth f_trialWidth f_hasModel (nI w) n (nI r) a_kind a_arrayArg a_indexArg a_elementArg a_indexTerm a_rank a_litEqual a_litLeft a_litRight a_litLevel a_trial a_parent a_label a_kept := by
  intro k
  induction k with
  | zero =>
    intro n r a_kept hx hk2 hj
    obtain ⟨n, rfl⟩ : ∃ m, n = m + 1 := ⟨n - 1, by omega⟩
    have : r = ar_ci K nt := by omega
    subst this
    refine br_t (nI_le (by omega) (by omega)) ?_
    have hs : ar_sb ((fun _ => 0, 0) : (Nat → Nat) × Nat) 0 := ⟨Nat.le_refl 0, fun _ => Nat.le_refl 0⟩
    refine xx_nc (V := ar_V K c) (P := P) (so := 1) (last := 0) (s0 := (fun _ => 0, 0)) hn hm hw (by omega) (by omega) (by omega) hs (by omega) ⟨hu, ⟨fun _ => 0, fun e he => hla e he, ar_nj_0⟩, fun g hg => absurd rfl hg, fun t ht hk => hj t ht hk (ar_ci_lt ht hk)⟩ (fun pa la ke hx1 => ?_)
    refine xx_nc (V := ar_V K c) (P := P) (so := 2) (last := w) (s0 := ar_ts P K 1 1 (fun _ => 0, 0) nt) hn hm hw (by omega) (by omega) hw5 (ar_ts_b (k := 1) (by omega) hs nt) (by omega) hx1 (fun pa la ke hx2 => ?_)
    exact H pa la ke hx2.2.2.1 hx2.2.2.2
  | succ k ih =>
    intro n r a_kept hx hk2 hj
    obtain ⟨n, rfl⟩ : ∃ m, n = m + 1 := ⟨n - 1, by omega⟩
    obtain ⟨t, ht, hkt, hct⟩ := ar_ci_su (K := K) (r := r) nt (by omega)
    have hit : a_indexTerm r = nI t := by rw [← hct]; exact (hix t ht hkt).1
    have hin : vp_in (nI r) 5 := vp_in_nI (by omega) (by decide)
    refine br_f (nI_ge (by omega) (by omega)) ⟨hin, hin, ?_⟩
    rw [ar_rd (t := r) (by omega) hit, ar_n6 t]
    refine ⟨vp_in_nI (by omega) (by decide), vp_in_nI (by omega) (by decide), nm_r (e' := upd a_kept (t * 6) (nI (ar_V K c t))) ?_ (nm_r (nI_1 r) (ih n (r + 1) _ (by omega) (by omega) (fun s hs hks hc => ?_)))⟩
    · rw [ar_rd (t := t) (by omega) (htr t ht hkt), nI_clamp (by omega)]
    · by_cases hst : s = t
      · rw [hst, pk_us]
      · rw [pk_un (by omega)]
        refine hj s hs hks ?_
        have : ar_ci K s ≠ r := fun z => hst (ar_ci_in hks hkt (z.trans hct.symm))
        omega
theorem xx_km18 {M : Nat} {post : SX → Prop} (hM : M ≤ 144)
    (H : ∀ la, (∀ e, e < M → la e = -1) → ∃ m, wX_keepModel_38 post f_termLimit f_indexLimit f_literalLimit f_stride f_termCount f_indexCount f_literalCount f_depth f_trialWidth f_hasModel f_keptWidth m 0 a_kind a_arrayArg a_indexArg a_elementArg a_indexTerm a_rank a_litEqual a_litLeft a_litRight a_litLevel a_trial a_parent la a_kept) :
    ∀ k n e a_label, e + k = M → k < n → (∀ j, j < e → a_label j = -1) →
    wX_keepModel_18 post (nI M) f_termLimit f_indexLimit f_literalLimit f_stride f_termCount f_indexCount f_literalCount f_depth f_trialWidth f_hasModel f_keptWidth n (nI e) a_kind a_arrayArg a_indexArg a_elementArg a_indexTerm a_rank a_litEqual a_litLeft a_litRight a_litLevel a_trial a_parent a_label a_kept := by
  intro k
  induction k with
  | zero =>
    intro n e a_label hx hk hu
    obtain ⟨n, rfl⟩ : ∃ m, n = m + 1 := ⟨n - 1, by omega⟩
    have : e = M := by omega
    subst this
    exact br_t (nI_le (by omega) (by omega)) (H a_label hu)
  | succ k ih =>
    intro n e a_label hx hk hu
    obtain ⟨n, rfl⟩ : ∃ m, n = m + 1 := ⟨n - 1, by omega⟩
    refine br_f (nI_ge (by omega) (by omega)) ⟨vp_in_nI (by omega) (by decide), ?_⟩
    refine nm_r (e' := upd a_label e (-1)) (by rw [nI_clamp (by omega)]) (nm_r (nI_1 e) (ih n (e + 1) _ (by omega) (by omega) (fun j hj => ?_)))
    by_cases hje : j = e
    · rw [hje, pk_us]
    · rw [pk_un hje]; exact hu j (by omega)
theorem xx_km {post : SX → Prop} {c w : Nat} (hn : nt ≤ 24) (h5 : ar_ci K nt ≤ 5) (hm : ar_tm nt K A I E a_kind a_arrayArg a_indexArg a_elementArg) (hw : ar_tw nt K A I E) (hix : ar_ix nt K a_indexTerm a_rank) (hw5 : w ≤ 5)
    (htr : ∀ t, t < nt → K t = 0 → a_trial t = nI (ar_V K c t)) (hu : ar_uf (nt * 6) P a_parent)
    (H : ∀ pa la ke, (∀ g, (ar_s2 nt K P w).1 g ≠ 0 → ke g = nI ((ar_s2 nt K P w).1 g - 1)) → (∀ t, t < nt → K t = 0 → ke (t * 6) = nI (ar_V K c t)) →
      post (f_termLimit, f_indexLimit, f_literalLimit, f_stride, nI nt, nI (ar_ci K nt), f_literalCount, f_depth, nI w, f_hasModel, nI w, a_kind, a_arrayArg, a_indexArg, a_elementArg, a_indexTerm, a_rank, a_litEqual, a_litLeft, a_litRight, a_litLevel, a_trial, pa, la, ke)) :
    wpX_keepModel post (f_termLimit, f_indexLimit, f_literalLimit, f_stride, nI nt, nI (ar_ci K nt), f_literalCount, f_depth, nI w, f_hasModel, f_keptWidth, a_kind, a_arrayArg, a_indexArg, a_elementArg, a_indexTerm, a_rank, a_litEqual, a_litLeft, a_litRight, a_litLevel, a_trial, a_parent, a_label, a_kept) := by
  unfold wpX_keepModel
  refine nm_r (ar_n6 nt) ⟨nt * 6 + 1, ?_⟩
  refine xx_km18 (M := nt * 6) (by omega) (fun la hla => ⟨ar_ci K nt + 1, ?_⟩) (nt * 6) (nt * 6 + 1) 0 a_label (by omega) (by omega) (fun j hj => absurd hj (Nat.not_lt_zero j))
  exact xx_km38 hn h5 hm hw hix hw5 htr hu hla H (ar_ci K nt) (ar_ci K nt + 1) 0 a_kept (by omega) (by omega) (fun t _ _ hj => absurd hj (Nat.not_lt_zero _))
end
end
section
/-! the reference: terms and entries -/
theorem ar_vzm (k : Nat) : nI k + (-1) = ar_vz k := by
  cases k with
  | zero => decide
  | succ k => exact pk_m1 k
section
variable {g_termLimit g_indexLimit g_literalLimit g_terms g_literals g_depth g_kept g_trialWidth g_keptWidth : Int32} {b_kind b_arrayArg b_indexArg b_elementArg b_equal b_left b_right b_level b_index b_cell b_digit : Nat → Int32} {nt : Nat} {K A I E V : Nat → Nat}
theorem yy_isn {post : Int32 → Prop} {p : Int32} (h : p < 0 ∨ nI nt ≤ p) (hp : post 0) : wpY_isTerm post (g_termLimit, g_indexLimit, g_literalLimit, nI nt, g_literals, g_depth, g_kept, g_trialWidth, g_keptWidth, b_kind, b_arrayArg, b_indexArg, b_elementArg, b_equal, b_left, b_right, b_level, b_index, b_cell, b_digit) p := by
  unfold wpY_isTerm
  exact br_c (fun _ => hp) (fun hn => br_t (h.resolve_left hn) hp)
theorem yy_isy {post : Int32 → Prop} {t : Nat} (hn : nt ≤ 24) (h : t < nt) (hp : post 1) : wpY_isTerm post (g_termLimit, g_indexLimit, g_literalLimit, nI nt, g_literals, g_depth, g_kept, g_trialWidth, g_keptWidth, b_kind, b_arrayArg, b_indexArg, b_elementArg, b_equal, b_left, b_right, b_level, b_index, b_cell, b_digit) (nI t) := by
  unfold wpY_isTerm
  exact br_f (nI_pos (by omega)) (br_f (nI_ge h (by omega)) hp)
theorem yy_so {post : Int32 → Prop} {t : Nat} (hn : nt ≤ 24) (hm : ar_tm nt K A I E b_kind b_arrayArg b_indexArg b_elementArg) (hw : ar_tw nt K A I E) (h : t < nt) (hp : post (nI (ar_so (K t)))) : wpY_sortOf post (g_termLimit, g_indexLimit, g_literalLimit, nI nt, g_literals, g_depth, g_kept, g_trialWidth, g_keptWidth, b_kind, b_arrayArg, b_indexArg, b_elementArg, b_equal, b_left, b_right, b_level, b_index, b_cell, b_digit) (nI t) := by
  have hin : vp_in (nI t) 24 := vp_in_nI (by omega) (by decide)
  have hk := ar_rd (by omega) (hm t h).1
  have h4 := (hw t h).1
  unfold wpY_sortOf
  refine yy_isy hn h (br_f (by decide) ?_)
  refine ⟨hin, pk_eq (K t) 3 (fun e => ?_) (fun e => ⟨hin, pk_eq (K t) 4 (fun e4 => ?_) (fun e4 => ⟨hin, ?_⟩) hk⟩) hk⟩
  · rw [e] at hp; exact hp
  · rw [e4] at hp; exact hp
  · rw [hk]
    have : ar_so (K t) = K t := by unfold ar_so; rw [if_neg e, if_neg e4]
    rw [this] at hp
    exact hp
theorem yy_son {post : Int32 → Prop} {p : Int32} (h : p < 0 ∨ nI nt ≤ p) (hp : post (-1)) : wpY_sortOf post (g_termLimit, g_indexLimit, g_literalLimit, nI nt, g_literals, g_depth, g_kept, g_trialWidth, g_keptWidth, b_kind, b_arrayArg, b_indexArg, b_elementArg, b_equal, b_left, b_right, b_level, b_index, b_cell, b_digit) p := by
  unfold wpY_sortOf
  exact yy_isn h (br_t rfl hp)
/-- a test of the sort -/
theorem yy_hs {A1 A0 : Prop} {p : Int32} {s : Nat} (hs : s ≤ 2) (hn : nt ≤ 24) (hm : ar_tm nt K A I E b_kind b_arrayArg b_indexArg b_elementArg) (hw : ar_tw nt K A I E)
    (h1 : ar_hs nt K p s → A1) (h0 : ¬ ar_hs nt K p s → A0) : wpY_sortOf (fun r => ((r = nI s → A1) ∧ (¬ r = nI s → A0))) (g_termLimit, g_indexLimit, g_literalLimit, nI nt, g_literals, g_depth, g_kept, g_trialWidth, g_keptWidth, b_kind, b_arrayArg, b_indexArg, b_elementArg, b_equal, b_left, b_right, b_level, b_index, b_cell, b_digit) p := by
  rcases ar_tix p hn with h | ⟨t, ht, e⟩
  · refine yy_son h (br_f (fun e => ar_ns (n := s) (by omega) e.symm) (h0 ?_))
    intro ⟨t, t1, t2, _⟩
    exact ar_tno hn h t1 t2
  · subst e
    have hb := ar_so_le (hw t ht).1
    refine yy_so hn hm hw ht ?_
    refine pk_eq (ar_so (K t)) s (fun e => h1 ⟨t, ht, rfl, e⟩) (fun e => h0 ?_)
    intro ⟨u, u1, u2, u3⟩
    rw [ar_inj u2 (by omega) (by omega)] at e
    exact e u3
theorem yy_ic4 {post : Int32 → Prop} (hn : nt ≤ 24) (hm : ar_tm nt K A I E b_kind b_arrayArg b_indexArg b_elementArg) (hw : ar_tw nt K A I E) (H : post (nI (ar_ci K nt))) :
    ∀ k n t, t + k = nt → k < n → wY_indexCount_4 post g_termLimit g_indexLimit g_literalLimit (nI nt) g_literals g_depth g_kept g_trialWidth g_keptWidth b_kind b_arrayArg b_indexArg b_elementArg b_equal b_left b_right b_level b_index b_cell b_digit n (nI (ar_ci K t)) (nI t) := by
  intro k
  induction k with
  | zero =>
    intro n t hx hk
    obtain ⟨n, rfl⟩ : ∃ m, n = m + 1 := ⟨n - 1, by omega⟩
    have : t = nt := by omega
    subst this
    exact br_t (nI_le (by omega) (by omega)) H
  | succ k ih =>
    intro n t hx hk
    obtain ⟨n, rfl⟩ : ∃ m, n = m + 1 := ⟨n - 1, by omega⟩
    have h4 := (hw t (by omega)).1
    have key := ih n (t + 1) (by omega) (by omega)
    refine br_f (nI_ge (by omega) (by omega)) ⟨vp_in_nI (by omega) (by decide), pk_eq (K t) 0 (fun e => ?_) (fun e => ?_) (ar_rd (by omega) (hm t (by omega)).1)⟩
    · rw [ar_ci_s, if_pos e] at key
      exact nm_r (nI_1 _) (nm_r (nI_1 t) key)
    · rw [ar_ci_s, if_neg e] at key
      exact nm_r (nI_1 t) key
theorem yy_ic {post : Int32 → Prop} (hn : nt ≤ 24) (hm : ar_tm nt K A I E b_kind b_arrayArg b_indexArg b_elementArg) (hw : ar_tw nt K A I E) (H : post (nI (ar_ci K nt))) : wpY_indexCount post (g_termLimit, g_indexLimit, g_literalLimit, nI nt, g_literals, g_depth, g_kept, g_trialWidth, g_keptWidth, b_kind, b_arrayArg, b_indexArg, b_elementArg, b_equal, b_left, b_right, b_level, b_index, b_cell, b_digit) := by
  unfold wpY_indexCount
  exact ⟨nt + 1, yy_ic4 hn hm hw H nt (nt + 1) 0 (by omega) (by omega)⟩
theorem yy_en9 {base : Nat} (hba : base ≤ 24) (hn : nt ≤ 24) (hm : ar_tm nt K A I E b_kind b_arrayArg b_indexArg b_elementArg) (hw : ar_tw nt K A I E)
    (hv : ∀ i, i < nt → K i = 0 → b_index (base + i) = nI (V i)) (hV : ∀ i, i < nt → K i = 0 → V i ≤ 5) {post : Int32 → Prop} :
    ∀ n t x s, t < nt → x ≤ 5 → (t + s < 24 ∨ (K t < 3 ∧ s ≤ 24)) → 24 < n + s → post (nI (base * 6 + ar_en K A I E V t x)) → wY_entry_9 post (nI base) g_termLimit g_indexLimit g_literalLimit g_terms g_literals g_depth g_kept g_trialWidth g_keptWidth b_kind b_arrayArg b_indexArg b_elementArg b_equal b_left b_right b_level b_index b_cell b_digit n (nI t) (nI x) (nI s) := by
  intro n
  induction n with
  | zero => intro t x s _ _ h h2; omega
  | succ n ih =>
    intro t x s ht hx hts hns hp
    have hin : vp_in (nI t) 24 := vp_in_nI (by omega) (by decide)
    obtain ⟨m1, m2, m3⟩ := hm t ht
    obtain ⟨w1, w2, w3⟩ := hw t ht
    have hk := ar_rd (by omega) m1
    refine pk_le 24 s (fun h24 => ⟨hin, ?_⟩) (fun h24 => ⟨hin, ?_⟩)
    · have h3 : K t < 3 := by omega
      refine pk_eq (K t) 1 (fun k1 => ?_) (fun k1 => ?_) hk
      · have e : (nI base + nI t) * 6 + 0 = nI (base * 6 + ar_en K A I E V t x) := by
          rw [nI_add, ar_n6, Int32.add_zero, ar_en1 x k1]
          exact congrArg nI (by omega)
        unfold wY_entry_126
        rw [e]
        exact hp
      · have e : (nI base + nI t) * 6 + nI x = nI (base * 6 + ar_en K A I E V t x) := by
          rw [nI_add, ar_n6, nI_add, ar_enc x (by omega)]
          exact congrArg nI (by omega)
        unfold wY_entry_126
        rw [e]
        exact hp
    · refine pk_eq (K t) 3 (fun e3 => ⟨hin, ?_⟩) (fun e3 => ⟨hin, ?_⟩) hk
      · obtain ⟨a1, a2, a3, a4⟩ := w2 (by omega)
        obtain ⟨mA, mI⟩ := m2 (by omega)
        have hVI := hV (I t) (by omega) a4
        rw [ar_rd (t := t) (by omega) mI, nI_add]
        refine ⟨vp_in_nI (by omega) (by decide), nm_r (ar_rd (by omega) (hv (I t) (by omega) a4)) ⟨hin, nm_r (ar_rd (t := t) (by omega) mA) (nm_r (nI_1 s) ?_)⟩⟩
        refine ih (A t) (V (I t)) (s + 1) (by omega) hVI (Or.inl (by omega)) (by omega) ?_
        rw [ar_en3 hw x ht e3] at hp; exact hp
      · refine pk_eq (K t) 4 (fun e4 => ⟨hin, ?_⟩) (fun e4 => ?_) hk
        · obtain ⟨a1, a2, a3, a4⟩ := w2 (by omega)
          obtain ⟨mA, mI⟩ := m2 (by omega)
          obtain ⟨e1, e2⟩ := w3 e4
          have hVI := hV (I t) (by omega) a4
          rw [ar_rd (t := t) (by omega) mI, nI_add]
          refine ⟨vp_in_nI (by omega) (by decide), pk_eq (V (I t)) x (fun ex => ⟨hin, ?_⟩) (fun ex => ⟨hin, ?_⟩) (ar_rd (by omega) (hv (I t) (by omega) a4))⟩
          · refine nm_r (ar_rd (t := t) (by omega) (m3 e4)) (nm_r (nI_1 s) ?_)
            refine ih (E t) x (s + 1) (by omega) hx (Or.inl (by omega)) (by omega) ?_
            rw [ar_en4h hw ht e4 ex, ar_ene hw 0 x (by omega) e2] at hp; exact hp
          · refine nm_r (ar_rd (t := t) (by omega) mA) (nm_r (nI_1 s) ?_)
            refine ih (A t) x (s + 1) (by omega) hx (Or.inl (by omega)) (by omega) ?_
            rw [ar_en4m hw ht e4 ex] at hp; exact hp
        · exact nm_r (nI_1 s) (ih t x (s + 1) ht hx (Or.inr (by omega)) (by omega) hp)
theorem yy_en {base : Nat} (hba : base ≤ 24) (hn : nt ≤ 24) (hm : ar_tm nt K A I E b_kind b_arrayArg b_indexArg b_elementArg) (hw : ar_tw nt K A I E)
    (hv : ∀ i, i < nt → K i = 0 → b_index (base + i) = nI (V i)) (hV : ∀ i, i < nt → K i = 0 → V i ≤ 5) {post : Int32 → Prop} {t x : Nat} (ht : t < nt) (hx : x ≤ 5)
    (hp : post (nI (base * 6 + ar_en K A I E V t x))) : wpY_entry post (g_termLimit, g_indexLimit, g_literalLimit, g_terms, g_literals, g_depth, g_kept, g_trialWidth, g_keptWidth, b_kind, b_arrayArg, b_indexArg, b_elementArg, b_equal, b_left, b_right, b_level, b_index, b_cell, b_digit) (nI base) (nI t) (nI x) := by
  unfold wpY_entry
  exact ⟨25, yy_en9 hba hn hm hw hv hV 25 t x 0 ht hx (Or.inl (by omega)) (by omega) hp⟩
theorem yy_sa54 {base w t u : Nat} (hba : base ≤ 24) (hn : nt ≤ 24) (hm : ar_tm nt K A I E b_kind b_arrayArg b_indexArg b_elementArg) (hw : ar_tw nt K A I E)
    (hv : ∀ i, i < nt → K i = 0 → b_index (base + i) = nI (V i)) (hV : ∀ i, i < nt → K i = 0 → V i ≤ w) (hw5 : w ≤ 5) {post : Int32 → Prop} (ht : t < nt) (hu : u < nt)
    (H1 : (∀ y, y ≤ w → b_cell (base * 6 + ar_en K A I E V t y) = b_cell (base * 6 + ar_en K A I E V u y)) → post 1)
    (H0 : (∃ y, y ≤ w ∧ b_cell (base * 6 + ar_en K A I E V t y) ≠ b_cell (base * 6 + ar_en K A I E V u y)) → post 0) :
    ∀ k n x, x + k = w + 1 → k < n → (∀ y, y < x → b_cell (base * 6 + ar_en K A I E V t y) = b_cell (base * 6 + ar_en K A I E V u y)) →
    wY_same_54 post (nI base) (nI t) (nI u) (nI w) g_termLimit g_indexLimit g_literalLimit g_terms g_literals g_depth g_kept g_trialWidth g_keptWidth b_kind b_arrayArg b_indexArg b_elementArg b_equal b_left b_right b_level b_index b_cell b_digit n (nI x) := by
  have hV5 : ∀ i, i < nt → K i = 0 → V i ≤ 5 := fun i hi hk => Nat.le_trans (hV i hi hk) hw5
  intro k
  induction k with
  | zero =>
    intro n x hx hk hy
    obtain ⟨n, rfl⟩ : ∃ m, n = m + 1 := ⟨n - 1, by omega⟩
    exact br_t (nI_lt (by omega) (by omega)) (H1 (fun y h => hy y (by omega)))
  | succ k ih =>
    intro n x hx hk hy
    obtain ⟨n, rfl⟩ : ∃ m, n = m + 1 := ⟨n - 1, by omega⟩
    have b1 := ar_enb hw hV hw5 ht (x := x) (by omega)
    have b2 := ar_enb hw hV hw5 hu (x := x) (by omega)
    refine br_f (nI_nlt (by omega) (by omega)) ?_
    refine yy_en hba hn hm hw hv hV5 ht (by omega) ?_
    refine yy_en hba hn hm hw hv hV5 hu (by omega) ?_
    refine ⟨vp_in_nI (by omega) (by decide), vp_in_nI (by omega) (by decide), ?_⟩
    rw [nI_clamp (by omega), nI_clamp (by omega)]
    refine br_c (fun e => nm_r (nI_1 x) (ih n (x + 1) (by omega) (by omega) (fun y hyx => ?_))) (fun e => H0 ⟨x, by omega, e⟩)
    by_cases h : y = x
    · rw [h]; exact e
    · exact hy y (by omega)
theorem yy_sa {base w t u : Nat} {W : Int32} (hba : base = 0 ∧ g_trialWidth = nI w ∨ base = 24 ∧ g_keptWidth = nI w) (hn : nt ≤ 24) (hm : ar_tm nt K A I E b_kind b_arrayArg b_indexArg b_elementArg) (hw : ar_tw nt K A I E)
    (hv : ∀ i, i < nt → K i = 0 → b_index (base + i) = nI (V i)) (hV : ∀ i, i < nt → K i = 0 → V i ≤ w) (hw5 : w ≤ 5) {post : Int32 → Prop} (ht : t < nt) (hu : u < nt) (hs : ar_so (K t) = ar_so (K u))
    (H1 : (if K t = 0 then V t = V u else ∀ y, y ≤ w → b_cell (base * 6 + ar_en K A I E V t y) = b_cell (base * 6 + ar_en K A I E V u y)) → post 1)
    (H0 : (if K t = 0 then V t ≠ V u else ∃ y, y ≤ w ∧ b_cell (base * 6 + ar_en K A I E V t y) ≠ b_cell (base * 6 + ar_en K A I E V u y)) → post 0) :
    wpY_same post (g_termLimit, g_indexLimit, g_literalLimit, g_terms, g_literals, g_depth, g_kept, g_trialWidth, g_keptWidth, b_kind, b_arrayArg, b_indexArg, b_elementArg, b_equal, b_left, b_right, b_level, b_index, b_cell, b_digit) (nI base) (nI t) (nI u) := by
  have hb : base ≤ 24 := by omega
  have h4 := (hw t ht).1
  unfold wpY_same
  refine ⟨vp_in_nI (by omega) (by decide), pk_eq (K t) 0 (fun k0 => ?_) (fun k0 => ?_) (ar_rd (by omega) (hm t ht).1)⟩
  · have k1 : K u = 0 := by
      rw [k0] at hs
      exact ar_so0.mp hs.symm
    rw [if_pos k0] at H1 H0
    rw [nI_add, nI_add]
    have v1 := hV t ht k0
    have v2 := hV u hu k1
    exact ⟨vp_in_nI (by omega) (by decide), vp_in_nI (by omega) (by decide), pk_eq (V t) (V u) H1 H0 (ar_rd (by omega) (hv t ht k0)) (ar_rd (by omega) (hv u hu k1))⟩
  · rw [if_neg k0] at H1 H0
    rcases hba with ⟨e1, e2⟩ | ⟨e1, e2⟩
    · subst e1 e2
      exact br_t rfl ⟨w + 2, yy_sa54 hb hn hm hw hv hV hw5 ht hu H1 H0 (w + 1) (w + 2) 0 (by omega) (by omega) (fun y hy => absurd hy (Nat.not_lt_zero y))⟩
    · subst e1 e2
      exact br_f (by decide) ⟨w + 2, yy_sa54 hb hn hm hw hv hV hw5 ht hu H1 H0 (w + 1) (w + 2) 0 (by omega) (by omega) (fun y hy => absurd hy (Nat.not_lt_zero y))⟩
end
end
section
/-! the reference: lists, classes, the search -/
/-- classes on trial in the first half, the second half as it was -/
def ar_yc (P : Nat → Nat) (b0 ce : Nat → Int32) : Prop := (∀ g, g < 144 → ce g = nI (P g)) ∧ ∀ g, 144 ≤ g → ce g = b0 g
section
variable {g_termLimit g_indexLimit g_literalLimit g_terms g_literals g_depth g_kept g_trialWidth g_keptWidth : Int32} {b_kind b_arrayArg b_indexArg b_elementArg b_equal b_left b_right b_level b_index b_cell b_digit : Nat → Int32} {nt : Nat} {K A I E V : Nat → Nat}
theorem yy_de116 {post : Int32 → SY → Prop} {x3 : Int32} {c ni : Nat} (hd : ∀ i, i < 5 → b_digit i = nI (ar_dg c i))
    (H1 : (∀ j, ni ≤ j → j < 5 → ar_dg c j = 0) → post 1 (g_termLimit, g_indexLimit, g_literalLimit, g_terms, g_literals, g_depth, g_kept, x3, g_keptWidth, b_kind, b_arrayArg, b_indexArg, b_elementArg, b_equal, b_left, b_right, b_level, b_index, b_cell, b_digit)) (H0 : (¬ ∀ j, ni ≤ j → j < 5 → ar_dg c j = 0) → post 0 (g_termLimit, g_indexLimit, g_literalLimit, g_terms, g_literals, g_depth, g_kept, g_trialWidth, g_keptWidth, b_kind, b_arrayArg, b_indexArg, b_elementArg, b_equal, b_left, b_right, b_level, b_index, b_cell, b_digit)) :
    ∀ k n j, j + k = 5 → ni ≤ j → k < n → (∀ i, ni ≤ i → i < j → ar_dg c i = 0) → wY_decode_116 post x3 g_termLimit g_indexLimit g_literalLimit g_terms g_literals g_depth g_kept g_trialWidth g_keptWidth b_kind b_arrayArg b_indexArg b_elementArg b_equal b_left b_right b_level b_index b_cell b_digit n (nI j) := by
  intro k
  induction k with
  | zero =>
    intro n j hx hj hk h
    obtain ⟨n, rfl⟩ : ∃ m, n = m + 1 := ⟨n - 1, by omega⟩
    exact br_t (nI_le (a := 5) (by omega) (by omega)) (H1 (fun i h1 h2 => h i h1 (by omega)))
  | succ k ih =>
    intro n j hx hj hk h
    obtain ⟨n, rfl⟩ : ∃ m, n = m + 1 := ⟨n - 1, by omega⟩
    have hb := ar_dg_b c j
    refine br_f (nI_ge (b := 5) (by omega) (by omega)) ⟨vp_in_nI (by omega) (by decide), pk_eq (ar_dg c j) 0 (fun e => ?_) (fun e => H0 (fun z => e (z j hj (by omega)))) (ar_rd (by omega) (hd j (by omega)))⟩
    refine nm_r (nI_1 j) (ih n (j + 1) (by omega) (by omega) (by omega) (fun i h1 h2 => ?_))
    by_cases hij : i = j
    · rw [hij]; exact e
    · exact h i h1 (by omega)
theorem yy_de87 {post : Int32 → SY → Prop} {J : Int32 → Int32 → Int32 →  (Nat → Int32) → (Nat → Int32) → (Nat → Int32) → (Nat → Int32) → (Nat → Int32) → (Nat → Int32) → (Nat → Int32) → (Nat → Int32) → (Nat → Int32) → (Nat → Int32) → (Nat → Int32) →  Prop} {x3 : Int32} {r t d : Nat} (hr : r < 5) (ht : t < 24) (hd : b_digit r = nI d)
    (H : J x3 (nI (r + 1)) (nI (t + 1)) b_kind b_arrayArg b_indexArg b_elementArg b_equal b_left b_right b_level (upd b_index t (nI d)) b_cell b_digit) : wY_decode_87 post J x3 (nI r) (nI t) g_termLimit g_indexLimit g_literalLimit g_terms g_literals g_depth g_kept g_trialWidth g_keptWidth b_kind b_arrayArg b_indexArg b_elementArg b_equal b_left b_right b_level b_index b_cell b_digit := by
  unfold wY_decode_87
  rw [ar_0a]
  refine ⟨vp_in_nI hr (by decide), vp_in_nI (by omega) (by decide), nm_r (e' := upd b_index t (nI d)) ?_ (nm_r (nI_1 r) (nm_r (nI_1 t) H))⟩
  rw [ar_rd (t := r) (by omega) hd, nI_clamp (by omega)]
theorem yy_de35 {post : Int32 → SY → Prop} {c : Nat} {b0 : Nat → Int32} (hn : nt ≤ 24) (h5 : ar_ci K nt ≤ 5) (hm : ar_tm nt K A I E b_kind b_arrayArg b_indexArg b_elementArg) (hw : ar_tw nt K A I E)
    (hd : ∀ i, i < 5 → b_digit i = nI (ar_dg c i))
    (H1 : ar_ok (ar_ci K nt) (ar_dg c) → ∀ ix, (∀ t, t < nt → K t = 0 → ix t = nI (ar_V K c t)) → (∀ i, 24 ≤ i → ix i = b0 i) → post 1 (g_termLimit, g_indexLimit, g_literalLimit, nI nt, g_literals, g_depth, g_kept, nI (ar_W nt K c), g_keptWidth, b_kind, b_arrayArg, b_indexArg, b_elementArg, b_equal, b_left, b_right, b_level, ix, b_cell, b_digit))
    (H0 : ¬ ar_ok (ar_ci K nt) (ar_dg c) → ∀ ix, (∀ i, 24 ≤ i → ix i = b0 i) → post 0 (g_termLimit, g_indexLimit, g_literalLimit, nI nt, g_literals, g_depth, g_kept, g_trialWidth, g_keptWidth, b_kind, b_arrayArg, b_indexArg, b_elementArg, b_equal, b_left, b_right, b_level, ix, b_cell, b_digit)) :
    ∀ k n t b_index, t + k = nt → k < n → (∀ r, r < ar_ci K t → ar_dg c r ≤ ar_mx (ar_dg c) r) → (∀ s, s < t → K s = 0 → b_index s = nI (ar_V K c s)) → (∀ i, 24 ≤ i → b_index i = b0 i) →
    wY_decode_35 post g_termLimit g_indexLimit g_literalLimit (nI nt) g_literals g_depth g_kept g_trialWidth g_keptWidth n (nI (ar_mx (ar_dg c) (ar_ci K t))) (nI (ar_ci K t)) (nI t) b_kind b_arrayArg b_indexArg b_elementArg b_equal b_left b_right b_level b_index b_cell b_digit := by
  intro k
  induction k with
  | zero =>
    intro n t b_index hx hk h1 h2 h3
    obtain ⟨n, rfl⟩ : ∃ m, n = m + 1 := ⟨n - 1, by omega⟩
    have : t = nt := by omega
    subst this
    refine br_t (nI_le (by omega) (by omega)) ⟨6, ?_⟩
    exact yy_de116 (ni := ar_ci K t) hd (fun z => H1 ⟨h1, z⟩ b_index h2 h3) (fun z => H0 (fun ok => z ok.2) b_index h3) (5 - ar_ci K t) 6 (ar_ci K t) (by omega) (Nat.le_refl _) (by omega) (fun i a b => by omega)
  | succ k ih =>
    intro n t b_index hx hk h1 h2 h3
    obtain ⟨n, rfl⟩ : ∃ m, n = m + 1 := ⟨n - 1, by omega⟩
    have h4 := (hw t (by omega)).1
    refine br_f (nI_ge (by omega) (by omega)) ⟨vp_in_nI (by omega) (by decide), pk_eq (K t) 0 (fun k0 => ?_) (fun k0 => ?_) (ar_rd (by omega) (hm t (by omega)).1)⟩
    · have hr := ar_ci_lt (K := K) (t := t) (s := nt) (by omega) k0
      have hb := ar_dg_b c (ar_ci K t)
      have hmx := ar_mx_le (D := ar_dg c) (ar_ci K t)
      have hdr := hd (ar_ci K t) (by omega)
      have hrd := ar_rd (t := ar_ci K t) (by omega) hdr
      refine br_f (nI_ge (b := 5) (by omega) (by omega)) ⟨vp_in_nI (by omega) (by decide), pk_le (ar_dg c (ar_ci K t)) (ar_mx (ar_dg c) (ar_ci K t)) (fun hle => ⟨vp_in_nI (by omega) (by decide), ?_⟩) (fun hgt => ?_) hrd⟩
      · have key := ih n (t + 1) (upd b_index t (nI (ar_dg c (ar_ci K t)))) (by omega) (by omega) (fun r hr2 => ?_) (fun s hs hks => ?_) (fun i hi => ?_)
        · rw [ar_ci_s, if_pos k0, ar_mx_s] at key
          refine pk_eq (ar_dg c (ar_ci K t)) (ar_mx (ar_dg c) (ar_ci K t)) (fun e => ?_) (fun e => ?_) hrd
          · rw [if_pos e] at key
            exact nm_r (nI_1 _) (yy_de87 (by omega) (by omega) hdr key)
          · rw [if_neg e] at key
            exact yy_de87 (by omega) (by omega) hdr key
        · rw [ar_ci_s, if_pos k0] at hr2
          by_cases e : r = ar_ci K t
          · rw [e]; exact hle
          · exact h1 r (by omega)
        · by_cases e : s = t
          · rw [e, pk_us]; rfl
          · rw [pk_un e]; exact h2 s (by omega) hks
        · rw [pk_un (by omega)]; exact h3 i hi
      · exact H0 (fun ok => by have := ok.1 (ar_ci K t) hr; omega) b_index h3
    · have key := ih n (t + 1) b_index (by omega) (by omega) (fun r hr2 => ?_) (fun s hs hks => ?_) h3
      · rw [ar_ci_s, if_neg k0] at key
        exact nm_r (nI_1 t) key
      · rw [ar_ci_s, if_neg k0] at hr2
        exact h1 r hr2
      · by_cases e : s = t
        · rw [e] at hks; exact absurd hks k0
        · exact h2 s (by omega) hks
theorem yy_de4 {post : Int32 → SY → Prop} {c : Nat} (hc : c < 3125)
    (H : ∀ di, (∀ i, i < 5 → di i = nI (ar_dg c i)) → ∃ m, wY_decode_35 post g_termLimit g_indexLimit g_literalLimit g_terms g_literals g_depth g_kept g_trialWidth g_keptWidth m 0 0 0 b_kind b_arrayArg b_indexArg b_elementArg b_equal b_left b_right b_level b_index b_cell di) :
    ∀ k n b_digit, k ≤ 5 → k < n → (∀ i, k ≤ i → i < 5 → b_digit i = nI (ar_dg c i)) →
    wY_decode_4 post g_termLimit g_indexLimit g_literalLimit g_terms g_literals g_depth g_kept g_trialWidth g_keptWidth n (nI (c / 5 ^ (5 - k))) (ar_vz k) b_kind b_arrayArg b_indexArg b_elementArg b_equal b_left b_right b_level b_index b_cell b_digit := by
  intro k
  induction k with
  | zero =>
    intro n b_digit hk hn h
    obtain ⟨n, rfl⟩ : ∃ m, n = m + 1 := ⟨n - 1, by omega⟩
    exact br_t (by decide) (H b_digit (fun i hi => h i (Nat.zero_le i) hi))
  | succ k ih =>
    intro n b_digit hk hn h
    obtain ⟨n, rfl⟩ : ∃ m, n = m + 1 := ⟨n - 1, by omega⟩
    have e1 : 5 - (k + 1) = 4 - k := by omega
    have hb : c / 5 ^ (4 - k) ≤ c := Nat.div_le_self _ _
    rw [e1, ar_vzs (by omega), Nat.add_sub_cancel]
    refine br_f (nI_pos (by omega)) ⟨by decide, vp_in_nI (by omega) (by decide), nm_r (e' := upd b_digit k (nI (ar_dg c k))) ?_ ⟨by decide, nm_r (e' := nI (c / 5 ^ (5 - k))) ?_ (nm_r (ar_vzm k) (ih n _ (by omega) (by omega) (fun i h1 h2 => ?_)))⟩⟩
    · rw [nI_clamp (by omega)]
      exact congrArg (upd b_digit k) (pk_rem (a := c / 5 ^ (4 - k)) (d := 5) (by omega) (by omega) (by omega))
    · refine (pk_div (a := c / 5 ^ (4 - k)) (d := 5) (by omega) (by omega) (by omega)).trans (congrArg nI ?_)
      rw [Nat.div_div_eq_div_mul, ← Nat.pow_succ, show (4 - k).succ = 5 - k from by omega]
    · by_cases e : i = k
      · rw [e, pk_us]
      · rw [pk_un e]; exact h i (by omega) h2
theorem yy_de {post : Int32 → SY → Prop} {c : Nat} (hc : c < 3125) (hn : nt ≤ 24) (h5 : ar_ci K nt ≤ 5) (hm : ar_tm nt K A I E b_kind b_arrayArg b_indexArg b_elementArg) (hw : ar_tw nt K A I E)
    (H1 : ar_ok (ar_ci K nt) (ar_dg c) → ∀ ix di, (∀ t, t < nt → K t = 0 → ix t = nI (ar_V K c t)) → (∀ i, 24 ≤ i → ix i = b_index i) → post 1 (g_termLimit, g_indexLimit, g_literalLimit, nI nt, g_literals, g_depth, g_kept, nI (ar_W nt K c), g_keptWidth, b_kind, b_arrayArg, b_indexArg, b_elementArg, b_equal, b_left, b_right, b_level, ix, b_cell, di))
    (H0 : ¬ ar_ok (ar_ci K nt) (ar_dg c) → ∀ ix di, (∀ i, 24 ≤ i → ix i = b_index i) → post 0 (g_termLimit, g_indexLimit, g_literalLimit, nI nt, g_literals, g_depth, g_kept, g_trialWidth, g_keptWidth, b_kind, b_arrayArg, b_indexArg, b_elementArg, b_equal, b_left, b_right, b_level, ix, b_cell, di)) :
    wpY_decode post (g_termLimit, g_indexLimit, g_literalLimit, nI nt, g_literals, g_depth, g_kept, g_trialWidth, g_keptWidth, b_kind, b_arrayArg, b_indexArg, b_elementArg, b_equal, b_left, b_right, b_level, b_index, b_cell, b_digit) (nI c) := by
  unfold wpY_decode
  refine ⟨6, ?_⟩
  have key := yy_de4 (post := post) hc (fun di hdi => ⟨nt + 1, yy_de35 hn h5 hm hw hdi (fun ok ix a b => H1 ok ix di a b) (fun ok ix b => H0 ok ix di b) nt (nt + 1) 0 b_index (by omega) (by omega) (fun r hr => absurd hr (Nat.not_lt_zero r)) (fun s hs => absurd hs (Nat.not_lt_zero s)) (fun i _ => rfl)⟩) 5 6 b_digit (by omega) (by omega) (fun i h1 h2 => by omega)
  rw [Nat.sub_self, Nat.pow_zero, Nat.div_one] at key
  exact key
end
end
section
/-! the reference: classes, the search -/
section
variable {g_termLimit g_indexLimit g_literalLimit g_terms g_literals g_depth g_kept g_trialWidth g_keptWidth : Int32} {b_kind b_arrayArg b_indexArg b_elementArg b_equal b_left b_right b_level b_index b_cell b_digit : Nat → Int32} {nt : Nat} {K A I E V : Nat → Nat}
theorem yy_fi111 {post : Int32 → SY → Prop} {J24 J54 : Int32 →  (Nat → Int32) → (Nat → Int32) → (Nat → Int32) → (Nat → Int32) → (Nat → Int32) → (Nat → Int32) → (Nat → Int32) → (Nat → Int32) → (Nat → Int32) → (Nat → Int32) → (Nat → Int32) →  Prop} {x1 x2 : Int32} {x p q : Nat} {P : Nat → Nat} {b0 : Nat → Int32} (hP : ∀ g, g < 144 → P g < 144) (hp : p < 144) (hq : q < 144)
    (H : ∀ ce, ar_yc (ar_mg P p q) b0 ce → J54 (nI (x + 1)) b_kind b_arrayArg b_indexArg b_elementArg b_equal b_left b_right b_level b_index ce b_digit) :
    ∀ k n g b_cell, g + k = 144 → k < n → (∀ i, i < 144 → b_cell i = nI (if i < g then ar_mg P p q i else P i)) → (∀ i, 144 ≤ i → b_cell i = b0 i) →
    wY_fits_111 post J24 J54 x1 x2 (nI x) (nI (P p)) (nI (P q)) g_termLimit g_indexLimit g_literalLimit g_terms g_literals g_depth g_kept g_trialWidth g_keptWidth n (nI g) b_kind b_arrayArg b_indexArg b_elementArg b_equal b_left b_right b_level b_index b_cell b_digit := by
  intro k
  induction k with
  | zero =>
    intro n g b_cell hx hk h1 h2
    obtain ⟨n, rfl⟩ : ∃ m, n = m + 1 := ⟨n - 1, by omega⟩
    refine br_t (nI_le (a := 144) (by omega) (by omega)) (nm_r (nI_1 x) (H b_cell ⟨fun i hi => ?_, h2⟩))
    rw [h1 i hi, if_pos (by omega)]
  | succ k ih =>
    intro n g b_cell hx hk h1 h2
    obtain ⟨n, rfl⟩ : ∃ m, n = m + 1 := ⟨n - 1, by omega⟩
    have hin : vp_in (nI g) 288 := vp_in_nI (by omega) (by decide)
    have hg : b_cell g = nI (P g) := by rw [h1 g (by omega), if_neg (by omega)]
    have b1 := hP g (by omega)
    have b2 := hP p hp
    refine br_f (nI_ge (b := 144) (by omega) (by omega)) ⟨hin, pk_eq (P g) (P p) (fun e => ⟨hin, ?_⟩) (fun e => ?_) (ar_rd (by omega) hg)⟩
    · refine nm_r (e' := upd b_cell g (nI (P q))) (by rw [nI_clamp (by omega)]) (nm_r (nI_1 g) (ih n (g + 1) _ (by omega) (by omega) (fun i hi => ?_) (fun i hi => ?_)))
      · by_cases hig : i = g
        · rw [hig, pk_us, if_pos (by omega), ar_mg_v, if_pos e]
        · rw [pk_un hig, h1 i hi]
          by_cases hlt : i < g
          · rw [if_pos hlt, if_pos (by omega)]
          · rw [if_neg hlt, if_neg (by omega)]
      · rw [pk_un (by omega)]; exact h2 i hi
    · refine nm_r (nI_1 g) (ih n (g + 1) b_cell (by omega) (by omega) (fun i hi => ?_) h2)
      by_cases hig : i = g
      · rw [hig, hg, if_pos (by omega), ar_mg_v, if_neg e]
      · rw [h1 i hi]
        by_cases hlt : i < g
        · rw [if_pos hlt, if_pos (by omega)]
        · rw [if_neg hlt, if_neg (by omega)]
theorem yy_fi54 {post : Int32 → SY → Prop} {J24 : Int32 →  (Nat → Int32) → (Nat → Int32) → (Nat → Int32) → (Nat → Int32) → (Nat → Int32) → (Nat → Int32) → (Nat → Int32) → (Nat → Int32) → (Nat → Int32) → (Nat → Int32) → (Nat → Int32) →  Prop} {x1 : Int32} {l t u w : Nat} {P : Nat → Nat} {b0 : Nat → Int32} (hn : nt ≤ 24) (hm : ar_tm nt K A I E b_kind b_arrayArg b_indexArg b_elementArg) (hw : ar_tw nt K A I E)
    (hv : ∀ i, i < nt → K i = 0 → b_index i = nI (V i)) (hV : ∀ i, i < nt → K i = 0 → V i ≤ w) (hw5 : w ≤ 5) (hl : l < 17) (e1 : b_left l = nI t) (e2 : b_right l = nI u) (ht : t < nt) (hu : u < nt)
    (hP : ∀ g, g < 144 → P g < 144)
    (H : ∀ ce, ar_yc (ar_jn (ar_en K A I E V) t u P (w + 1)) b0 ce → J24 (nI (l + 1)) b_kind b_arrayArg b_indexArg b_elementArg b_equal b_left b_right b_level b_index ce b_digit) :
    ∀ k n x b_cell, x + k = w + 1 → k < n → ar_yc (ar_jn (ar_en K A I E V) t u P x) b0 b_cell →
    wY_fits_54 post J24 x1 (nI l) g_termLimit g_indexLimit g_literalLimit g_terms g_literals g_depth g_kept (nI w) g_keptWidth n (nI x) b_kind b_arrayArg b_indexArg b_elementArg b_equal b_left b_right b_level b_index b_cell b_digit := by
  have hV5 : ∀ i, i < nt → K i = 0 → V i ≤ 5 := fun i hi hk => Nat.le_trans (hV i hi hk) hw5
  have hv0 : ∀ i, i < nt → K i = 0 → b_index (0 + i) = nI (V i) := fun i hi hk => by rw [Nat.zero_add]; exact hv i hi hk
  have hin : vp_in (nI l) 17 := vp_in_nI hl (by decide)
  have r1 := ar_rd (t := l) (by omega) e1
  have r2 := ar_rd (t := l) (by omega) e2
  intro k
  induction k with
  | zero =>
    intro n x b_cell hx hk h1
    obtain ⟨n, rfl⟩ : ∃ m, n = m + 1 := ⟨n - 1, by omega⟩
    have : x = w + 1 := by omega
    subst this
    exact br_t (nI_lt (by omega) (by omega)) (nm_r (nI_1 l) (H b_cell h1))
  | succ k ih =>
    intro n x b_cell hx hk h1
    obtain ⟨n, rfl⟩ : ∃ m, n = m + 1 := ⟨n - 1, by omega⟩
    have b1 := ar_enb hw hV hw5 ht (x := x) (by omega)
    have b2 := ar_enb hw hV hw5 hu (x := x) (by omega)
    refine br_f (nI_nlt (by omega) (by omega)) ⟨hin, ?_⟩
    rw [r1, r2]
    refine yy_en (base := 0) (by omega) hn hm hw hv0 hV5 ht (by omega) ⟨hin, ?_⟩
    refine yy_en (base := 0) (by omega) hn hm hw hv0 hV5 hu (by omega) ?_
    rw [Nat.zero_mul, Nat.zero_add, Nat.zero_add]
    refine ⟨vp_in_nI (by omega) (by decide), nm_r (ar_rd (by omega) (h1.1 _ (by omega))) ⟨vp_in_nI (by omega) (by decide), nm_r (ar_rd (by omega) (h1.1 _ (by omega))) ⟨145, ?_⟩⟩⟩
    refine yy_fi111 (b0 := b0) (ar_jn_b hP x (fun y hy => ?_)) (by omega) (by omega) (fun ce hce => ih n (x + 1) ce (by omega) (by omega) hce) 144 145 0 b_cell (by omega) (by omega) (fun i hi => ?_) h1.2
    · have := ar_enb hw hV hw5 hu (x := y) (by omega)
      omega
    · rw [if_neg (Nat.not_lt_zero i)]; exact h1.1 i hi
theorem yy_fi24 {post : Int32 → SY → Prop} {N w : Nat} {Lq Ll Lr : Nat → Nat} {b0 : Nat → Int32} (hn : nt ≤ 24) (hm : ar_tm nt K A I E b_kind b_arrayArg b_indexArg b_elementArg) (hw : ar_tw nt K A I E)
    (hv : ∀ i, i < nt → K i = 0 → b_index i = nI (V i)) (hV : ∀ i, i < nt → K i = 0 → V i ≤ w) (hw5 : w ≤ 5) (hN : N ≤ 17) (hL : ar_lm N nt K Lq Ll Lr b_equal b_left b_right)
    (H : ∀ ce, ar_yc (ar_cl (ar_en K A I E V) K w Lq Ll Lr N) b0 ce → ∃ m, wY_fits_160 post (nI N) g_termLimit g_indexLimit g_literalLimit g_terms g_literals g_depth g_kept (nI w) g_keptWidth b_kind b_arrayArg b_indexArg b_elementArg b_equal b_left b_right b_level b_index ce b_digit m 0) :
    ∀ k n l b_cell, l + k = N → k < n → ar_yc (ar_cl (ar_en K A I E V) K w Lq Ll Lr l) b0 b_cell →
    wY_fits_24 post (nI N) g_termLimit g_indexLimit g_literalLimit g_terms g_literals g_depth g_kept (nI w) g_keptWidth n (nI l) b_kind b_arrayArg b_indexArg b_elementArg b_equal b_left b_right b_level b_index b_cell b_digit := by
  intro k
  induction k with
  | zero =>
    intro n l b_cell hx hk h1
    obtain ⟨n, rfl⟩ : ∃ m, n = m + 1 := ⟨n - 1, by omega⟩
    have : l = N := by omega
    subst this
    exact br_t (nI_le (by omega) (by omega)) (H b_cell h1)
  | succ k ih =>
    intro n l b_cell hx hk h1
    obtain ⟨n, rfl⟩ : ∃ m, n = m + 1 := ⟨n - 1, by omega⟩
    obtain ⟨l1, l2, l3, l4, l5, l6, l7⟩ := hL l (by omega)
    have hin : vp_in (nI l) 17 := vp_in_nI (by omega) (by decide)
    have r2 := ar_rd (t := l) (by omega) l2
    have hb := (hw (Ll l) l5).1
    refine br_f (nI_ge (by omega) (by omega)) ⟨hin, pk_eq (Lq l) 0 (fun q0 => ?_) (fun q0 => ⟨hin, ?_⟩) (ar_rd (by omega) l1)⟩
    · refine nm_r (nI_1 l) (ih n (l + 1) b_cell (by omega) (by omega) ?_)
      rw [ar_cl_s, if_pos (Or.inl q0)]; exact h1
    · rw [r2]
      refine ⟨vp_in_nI (by omega) (by decide), pk_eq (K (Ll l)) 0 (fun k0 => ?_) (fun k0 => ⟨w + 2, ?_⟩) (ar_rd (by omega) (hm (Ll l) l5).1)⟩
      · refine nm_r (nI_1 l) (ih n (l + 1) b_cell (by omega) (by omega) ?_)
        rw [ar_cl_s, if_pos (Or.inr k0)]; exact h1
      · refine yy_fi54 (b0 := b0) hn hm hw hv hV hw5 (by omega) l2 l3 l5 l6 (ar_cl_b l (fun j hj y hy => ?_)) (fun ce hce => ih n (l + 1) ce (by omega) (by omega) ?_) (w + 1) (w + 2) 0 b_cell (by omega) (by omega) h1
        · have := ar_enb hw hV hw5 (hL j (by omega)).2.2.2.2.2.1 hy
          omega
        · rw [ar_cl_s, if_neg (by omega)]; exact hce
theorem yy_fi160 {post : Int32 → SY → Prop} {N w : Nat} {Lq Ll Lr : Nat → Nat} (hn : nt ≤ 24) (hm : ar_tm nt K A I E b_kind b_arrayArg b_indexArg b_elementArg) (hw : ar_tw nt K A I E)
    (hv : ∀ i, i < nt → K i = 0 → b_index i = nI (V i)) (hV : ∀ i, i < nt → K i = 0 → V i ≤ w) (hw5 : w ≤ 5) (hN : N ≤ 17) (hL : ar_lm N nt K Lq Ll Lr b_equal b_left b_right)
    (hc : ∀ g, g < 144 → b_cell g = nI (ar_cl (ar_en K A I E V) K w Lq Ll Lr N g))
    (H1 : ar_ft (ar_en K A I E V) V K w Lq Ll Lr N → post 1 (g_termLimit, g_indexLimit, g_literalLimit, g_terms, g_literals, g_depth, g_kept, nI w, g_keptWidth, b_kind, b_arrayArg, b_indexArg, b_elementArg, b_equal, b_left, b_right, b_level, b_index, b_cell, b_digit)) (H0 : ¬ ar_ft (ar_en K A I E V) V K w Lq Ll Lr N → post 0 (g_termLimit, g_indexLimit, g_literalLimit, g_terms, g_literals, g_depth, g_kept, nI w, g_keptWidth, b_kind, b_arrayArg, b_indexArg, b_elementArg, b_equal, b_left, b_right, b_level, b_index, b_cell, b_digit)) :
    ∀ k n l, l + k = N → k < n → (∀ j, j < l → K (Ll j) = 0 → (V (Ll j) = V (Lr j) ↔ Lq j ≠ 0)) →
    (∀ j, j < l → K (Ll j) ≠ 0 → Lq j = 0 → ∃ x, x ≤ w ∧ ar_cl (ar_en K A I E V) K w Lq Ll Lr N (ar_en K A I E V (Ll j) x) ≠ ar_cl (ar_en K A I E V) K w Lq Ll Lr N (ar_en K A I E V (Lr j) x)) →
    wY_fits_160 post (nI N) g_termLimit g_indexLimit g_literalLimit g_terms g_literals g_depth g_kept (nI w) g_keptWidth b_kind b_arrayArg b_indexArg b_elementArg b_equal b_left b_right b_level b_index b_cell b_digit n (nI l) := by
  have hv0 : ∀ i, i < nt → K i = 0 → b_index (0 + i) = nI (V i) := fun i hi hk => by rw [Nat.zero_add]; exact hv i hi hk
  have hcb : ∀ g, g < 144 → ar_cl (ar_en K A I E V) K w Lq Ll Lr N g < 144 := ar_cl_b N (fun j hj y hy => by
    have := ar_enb hw hV hw5 (hL j (by omega)).2.2.2.2.2.1 hy
    omega)
  intro k
  induction k with
  | zero =>
    intro n l hx hk h1 h2
    obtain ⟨n, rfl⟩ : ∃ m, n = m + 1 := ⟨n - 1, by omega⟩
    have : l = N := by omega
    subst this
    exact br_t (nI_le (by omega) (by omega)) (H1 ⟨h1, h2⟩)
  | succ k ih =>
    intro n l hx hk h1 h2
    obtain ⟨n, rfl⟩ : ∃ m, n = m + 1 := ⟨n - 1, by omega⟩
    obtain ⟨l1, l2, l3, l4, l5, l6, l7⟩ := hL l (by omega)
    have hin : vp_in (nI l) 17 := vp_in_nI (by omega) (by decide)
    have r1 := ar_rd (t := l) (by omega) l1
    -- equality of cells and equality of classes
    have hcc : ∀ y, y ≤ w → (b_cell (0 * 6 + ar_en K A I E V (Ll l) y) = b_cell (0 * 6 + ar_en K A I E V (Lr l) y) ↔ ar_cl (ar_en K A I E V) K w Lq Ll Lr N (ar_en K A I E V (Ll l) y) = ar_cl (ar_en K A I E V) K w Lq Ll Lr N (ar_en K A I E V (Lr l) y)) := by
      intro y hy
      have b1 := ar_enb hw hV hw5 l5 hy
      have b2 := ar_enb hw hV hw5 l6 hy
      have c1 := hcb (ar_en K A I E V (Ll l) y) (by omega)
      have c2 := hcb (ar_en K A I E V (Lr l) y) (by omega)
      rw [Nat.zero_mul, Nat.zero_add, Nat.zero_add, hc _ (by omega), hc _ (by omega)]
      exact nI_eq (by omega) (by omega)
    refine br_f (nI_ge (by omega) (by omega)) ⟨hin, hin, ?_⟩
    rw [ar_rd (t := l) (by omega) l2, ar_rd (t := l) (by omega) l3]
    refine yy_sa (base := 0) (w := w) (W := 0) (Or.inl ⟨rfl, rfl⟩) hn hm hw hv0 hV hw5 l5 l6 l7 (fun hs => ⟨hin, ?_⟩) (fun hs => ⟨hin, ?_⟩)
    · refine pk_eq 1 (Lq l) (fun e => nm_r (nI_1 l) (ih n (l + 1) (by omega) (by omega) (fun j hj hkj => ?_) (fun j hj hkj hq => ?_))) (fun e => H0 (fun hf => ?_)) rfl r1
      · by_cases hjl : j = l
        · rw [hjl] at hkj ⊢
          rw [if_pos hkj] at hs
          exact ⟨fun _ => by omega, fun _ => hs⟩
        · exact h1 j (by omega) hkj
      · by_cases hjl : j = l
        · rw [hjl] at hq; omega
        · exact h2 j (by omega) hkj hq
      · by_cases k0 : K (Ll l) = 0
        · rw [if_pos k0] at hs
          have := (hf.1 l (by omega) k0).mp hs
          omega
        · rw [if_neg k0] at hs
          obtain ⟨x, x1, x2⟩ := hf.2 l (by omega) k0 (by omega)
          exact x2 ((hcc x x1).mp (hs x x1))
    · refine pk_eq 0 (Lq l) (fun e => nm_r (nI_1 l) (ih n (l + 1) (by omega) (by omega) (fun j hj hkj => ?_) (fun j hj hkj hq => ?_))) (fun e => H0 (fun hf => ?_)) rfl r1
      · by_cases hjl : j = l
        · rw [hjl] at hkj ⊢
          rw [if_pos hkj] at hs
          exact ⟨fun z => absurd z hs, fun z => absurd e.symm z⟩
        · exact h1 j (by omega) hkj
      · by_cases hjl : j = l
        · rw [hjl] at hkj ⊢
          rw [if_neg hkj] at hs
          obtain ⟨y, y1, y2⟩ := hs
          exact ⟨y, y1, fun z => y2 ((hcc y y1).mpr z)⟩
        · exact h2 j (by omega) hkj hq
      · by_cases k0 : K (Ll l) = 0
        · rw [if_pos k0] at hs
          exact hs ((hf.1 l (by omega) k0).mpr (fun z => e z.symm))
        · rw [if_neg k0] at hs
          obtain ⟨y, y1, y2⟩ := hs
          exact y2 ((hcc y y1).mpr (ar_cl_eq (fun z => e z.symm) k0 y1 N (by omega)))
theorem yy_fi2 {post : Int32 → SY → Prop} {x1 : Int32} {b0 : Nat → Int32}
    (H : ∀ ce, ar_yc (fun g => g) b0 ce → ∃ m, wY_fits_24 post x1 g_termLimit g_indexLimit g_literalLimit g_terms g_literals g_depth g_kept g_trialWidth g_keptWidth m 0 b_kind b_arrayArg b_indexArg b_elementArg b_equal b_left b_right b_level b_index ce b_digit) :
    ∀ k n g b_cell, g + k = 144 → k < n → (∀ i, i < g → b_cell i = nI i) → (∀ i, 144 ≤ i → b_cell i = b0 i) →
    wY_fits_2 post x1 g_termLimit g_indexLimit g_literalLimit g_terms g_literals g_depth g_kept g_trialWidth g_keptWidth n (nI g) b_kind b_arrayArg b_indexArg b_elementArg b_equal b_left b_right b_level b_index b_cell b_digit := by
  intro k
  induction k with
  | zero =>
    intro n g b_cell hx hk h1 h2
    obtain ⟨n, rfl⟩ : ∃ m, n = m + 1 := ⟨n - 1, by omega⟩
    exact br_t (nI_le (a := 144) (by omega) (by omega)) (H b_cell ⟨fun i hi => h1 i (by omega), h2⟩)
  | succ k ih =>
    intro n g b_cell hx hk h1 h2
    obtain ⟨n, rfl⟩ : ∃ m, n = m + 1 := ⟨n - 1, by omega⟩
    refine br_f (nI_ge (b := 144) (by omega) (by omega)) ⟨vp_in_nI (by omega) (by decide), nm_r (e' := upd b_cell g (nI g)) (by rw [nI_clamp (by omega)]) (nm_r (nI_1 g) (ih n (g + 1) _ (by omega) (by omega) (fun i hi => ?_) (fun i hi => ?_)))⟩
    · by_cases hig : i = g
      · rw [hig, pk_us]
      · rw [pk_un hig]; exact h1 i (by omega)
    · rw [pk_un (by omega)]; exact h2 i hi
theorem yy_fi {post : Int32 → SY → Prop} {N w : Nat} {Lq Ll Lr : Nat → Nat} (hn : nt ≤ 24) (hm : ar_tm nt K A I E b_kind b_arrayArg b_indexArg b_elementArg) (hw : ar_tw nt K A I E)
    (hv : ∀ i, i < nt → K i = 0 → b_index i = nI (V i)) (hV : ∀ i, i < nt → K i = 0 → V i ≤ w) (hw5 : w ≤ 5) (hN : N ≤ 17) (hL : ar_lm N nt K Lq Ll Lr b_equal b_left b_right)
    (H1 : ar_ft (ar_en K A I E V) V K w Lq Ll Lr N → ∀ ce, ar_yc (ar_cl (ar_en K A I E V) K w Lq Ll Lr N) b_cell ce → post 1 (g_termLimit, g_indexLimit, g_literalLimit, g_terms, g_literals, g_depth, g_kept, nI w, g_keptWidth, b_kind, b_arrayArg, b_indexArg, b_elementArg, b_equal, b_left, b_right, b_level, b_index, ce, b_digit))
    (H0 : ¬ ar_ft (ar_en K A I E V) V K w Lq Ll Lr N → ∀ ce, (∀ i, 144 ≤ i → ce i = b_cell i) → post 0 (g_termLimit, g_indexLimit, g_literalLimit, g_terms, g_literals, g_depth, g_kept, nI w, g_keptWidth, b_kind, b_arrayArg, b_indexArg, b_elementArg, b_equal, b_left, b_right, b_level, b_index, ce, b_digit)) :
    wpY_fits post (g_termLimit, g_indexLimit, g_literalLimit, g_terms, g_literals, g_depth, g_kept, nI w, g_keptWidth, b_kind, b_arrayArg, b_indexArg, b_elementArg, b_equal, b_left, b_right, b_level, b_index, b_cell, b_digit) (nI N) := by
  unfold wpY_fits
  refine ⟨145, ?_⟩
  refine yy_fi2 (b0 := b_cell) (fun c1 h1 => ⟨N + 1, ?_⟩) 144 145 0 b_cell (by omega) (by omega) (fun i hi => absurd hi (Nat.not_lt_zero i)) (fun i _ => rfl)
  refine yy_fi24 (b0 := b_cell) hn hm hw hv hV hw5 hN hL (fun c2 h2 => ⟨N + 1, ?_⟩) N (N + 1) 0 c1 (by omega) (by omega) h1
  exact yy_fi160 hn hm hw hv hV hw5 hN hL h2.1 (fun hf => H1 hf c2 h2) (fun hf => H0 hf c2 h2.2) N (N + 1) 0 (by omega) (by omega) (fun j hj => absurd hj (Nat.not_lt_zero j)) (fun j hj => absurd hj (Nat.not_lt_zero j))
theorem yy_so4 {post : Int32 → SY → Prop} {N : Nat} {Lq Ll Lr : Nat → Nat} {i0 c0 : Nat → Int32} (hn : nt ≤ 24) (h5 : ar_ci K nt ≤ 5) (hm : ar_tm nt K A I E b_kind b_arrayArg b_indexArg b_elementArg) (hw : ar_tw nt K A I E)
    (hN : N ≤ 17) (hL : ar_lm N nt K Lq Ll Lr b_equal b_left b_right)
    (H1 : ∀ c ix ce di, ar_G nt K A I E Lq Ll Lr N c → (∀ d, c < d → ¬ ar_G nt K A I E Lq Ll Lr N d) → (∀ t, t < nt → K t = 0 → ix t = nI (ar_V K c t)) → (∀ i, 24 ≤ i → ix i = i0 i) → ar_yc (ar_P nt K A I E Lq Ll Lr N c) c0 ce →
      post 1 (g_termLimit, g_indexLimit, g_literalLimit, nI nt, g_literals, g_depth, g_kept, nI (ar_W nt K c), g_keptWidth, b_kind, b_arrayArg, b_indexArg, b_elementArg, b_equal, b_left, b_right, b_level, ix, ce, di))
    (H0 : (∀ d, ¬ ar_G nt K A I E Lq Ll Lr N d) → ∀ w' ix ce di, (∀ i, 24 ≤ i → ix i = i0 i) → (∀ i, 144 ≤ i → ce i = c0 i) → post 0 (g_termLimit, g_indexLimit, g_literalLimit, nI nt, g_literals, g_depth, g_kept, w', g_keptWidth, b_kind, b_arrayArg, b_indexArg, b_elementArg, b_equal, b_left, b_right, b_level, ix, ce, di)) :
    ∀ k n g_trialWidth b_index b_cell b_digit, k ≤ 3125 → k < n → (∀ d, k ≤ d → ¬ ar_G nt K A I E Lq Ll Lr N d) → (∀ i, 24 ≤ i → b_index i = i0 i) → (∀ i, 144 ≤ i → b_cell i = c0 i) →
    wY_solve_4 post (nI N) n (ar_vz k) g_termLimit g_indexLimit g_literalLimit (nI nt) g_literals g_depth g_kept g_trialWidth g_keptWidth b_kind b_arrayArg b_indexArg b_elementArg b_equal b_left b_right b_level b_index b_cell b_digit := by
  intro k
  induction k with
  | zero =>
    intro n g_trialWidth b_index b_cell b_digit hk3 hk hd h1 h2
    obtain ⟨n, rfl⟩ : ∃ m, n = m + 1 := ⟨n - 1, by omega⟩
    exact br_t (by decide) (H0 (fun d => hd d (Nat.zero_le d)) g_trialWidth b_index b_cell b_digit h1 h2)
  | succ k ih =>
    intro n g_trialWidth b_index b_cell b_digit hk3 hk hd h1 h2
    obtain ⟨n, rfl⟩ : ∃ m, n = m + 1 := ⟨n - 1, by omega⟩
    have nxt : ∀ g_trialWidth b_index b_cell b_digit, ¬ ar_G nt K A I E Lq Ll Lr N k → (∀ i, 24 ≤ i → b_index i = i0 i) → (∀ i, 144 ≤ i → b_cell i = c0 i) → wY_solve_4 post (nI N) n (ar_vz k) g_termLimit g_indexLimit g_literalLimit (nI nt) g_literals g_depth g_kept g_trialWidth g_keptWidth b_kind b_arrayArg b_indexArg b_elementArg b_equal b_left b_right b_level b_index b_cell b_digit := by
      intro g_trialWidth b_index b_cell b_digit hnG a1 a2
      refine ih n g_trialWidth b_index b_cell b_digit (by omega) (by omega) (fun d hkd => ?_) a1 a2
      by_cases e : d = k
      · rw [e]; exact hnG
      · exact hd d (by omega)
    rw [ar_vzs (by omega), Nat.add_sub_cancel]
    refine br_f (nI_pos (by omega)) ?_
    refine yy_de (c := k) (by omega) hn h5 hm hw (fun ok ix di a1 a2 => ?_) (fun ok ix di a2 => ?_)
    · refine br_f (by decide) ?_
      refine yy_fi hn hm hw a1 (ar_VW ok) (ar_W5 h5) hN hL (fun hf ce hce => ?_) (fun hf ce hce => ?_)
      · exact br_f (by decide) (H1 k ix ce di ⟨by omega, ok, hf⟩ (fun d hkd => hd d (by omega)) a1 (fun i hi => (a2 i hi).trans (h1 i hi)) ⟨hce.1, fun g hg => (hce.2 g hg).trans (h2 g hg)⟩)
      · exact br_t rfl (nm_r (ar_vzm k) (nxt _ ix ce di (fun hG => hf hG.2.2) (fun i hi => (a2 i hi).trans (h1 i hi)) (fun i hi => (hce i hi).trans (h2 i hi))))
    · exact br_t rfl (nm_r (ar_vzm k) (nxt _ ix b_cell di (fun hG => ok hG.2.1) (fun i hi => (a2 i hi).trans (h1 i hi)) h2))
theorem yy_sv {post : Int32 → SY → Prop} {N : Nat} {Lq Ll Lr : Nat → Nat} (hn : nt ≤ 24) (h5 : ar_ci K nt ≤ 5) (hm : ar_tm nt K A I E b_kind b_arrayArg b_indexArg b_elementArg) (hw : ar_tw nt K A I E)
    (hN : N ≤ 17) (hL : ar_lm N nt K Lq Ll Lr b_equal b_left b_right)
    (H1 : ∀ c ix ce di, ar_G nt K A I E Lq Ll Lr N c → (∀ d, c < d → ¬ ar_G nt K A I E Lq Ll Lr N d) → (∀ t, t < nt → K t = 0 → ix t = nI (ar_V K c t)) → (∀ i, 24 ≤ i → ix i = b_index i) → ar_yc (ar_P nt K A I E Lq Ll Lr N c) b_cell ce →
      post 1 (g_termLimit, g_indexLimit, g_literalLimit, nI nt, g_literals, g_depth, g_kept, nI (ar_W nt K c), g_keptWidth, b_kind, b_arrayArg, b_indexArg, b_elementArg, b_equal, b_left, b_right, b_level, ix, ce, di))
    (H0 : (∀ d, ¬ ar_G nt K A I E Lq Ll Lr N d) → ∀ w' ix ce di, (∀ i, 24 ≤ i → ix i = b_index i) → (∀ i, 144 ≤ i → ce i = b_cell i) → post 0 (g_termLimit, g_indexLimit, g_literalLimit, nI nt, g_literals, g_depth, g_kept, w', g_keptWidth, b_kind, b_arrayArg, b_indexArg, b_elementArg, b_equal, b_left, b_right, b_level, ix, ce, di)) :
    wpY_solve post (g_termLimit, g_indexLimit, g_literalLimit, nI nt, g_literals, g_depth, g_kept, g_trialWidth, g_keptWidth, b_kind, b_arrayArg, b_indexArg, b_elementArg, b_equal, b_left, b_right, b_level, b_index, b_cell, b_digit) (nI N) := by
  unfold wpY_solve
  refine ⟨3126, ?_⟩
  exact yy_so4 hn h5 hm hw hN hL H1 H0 3125 3126 g_trialWidth b_index b_cell b_digit (by omega) (by omega) (fun d hd hG => by have := hG.1; omega) (fun i _ => rfl) (fun i _ => rfl)
end
end
section
/-! the reference: the kept model -/
def ar_yn (P : Nat → Nat) (s : (Nat → Nat) × Nat) (ce : Nat → Int32) : Prop := (∀ g, g < 144 → ce g = nI (P g)) ∧ ∀ g, g < 144 → ce (144 + g) = ar_vz (s.1 g)
section
variable {g_termLimit g_indexLimit g_literalLimit g_terms g_literals g_depth g_kept g_trialWidth g_keptWidth : Int32} {b_kind b_arrayArg b_indexArg b_elementArg b_equal b_left b_right b_level b_index b_cell b_digit : Nat → Int32} {nt : Nat} {K A I E V P : Nat → Nat}
theorem yy_ke138 {post : SY → Prop} {J69 J76 J116 : Int32 → Int32 →  (Nat → Int32) → (Nat → Int32) → (Nat → Int32) → (Nat → Int32) → (Nat → Int32) → (Nat → Int32) → (Nat → Int32) → (Nat → Int32) → (Nat → Int32) → (Nat → Int32) → (Nat → Int32) →  Prop} {x2 x3 x4 : Int32} {x e : Nat} {s : (Nat → Nat) × Nat} (hP : ∀ g, g < 144 → P g < 144) (he : e < 144) (hs : ar_sb s 1000)
    (hc : ar_yn P s b_cell)
    (H : ∀ ce, ar_yn P (ar_st P e s) ce → J116 (nI (ar_st P e s).2) (nI (x + 1)) b_kind b_arrayArg b_indexArg b_elementArg b_equal b_left b_right b_level b_index ce b_digit) :
    ∀ k n g, g + k = 144 → k < n → wY_keep_138 post J69 J76 J116 (nI s.2) x2 x3 x4 (nI x) (nI e) g_termLimit g_indexLimit g_literalLimit g_terms g_literals g_depth g_kept g_trialWidth g_keptWidth b_kind b_arrayArg b_indexArg b_elementArg b_equal b_left b_right b_level b_index b_cell b_digit n (nI (ar_sc P s.1 e s.2 g)) (nI g) := by
  have hs1 := hs.1
  have hie : vp_in (nI e) 288 := vp_in_nI (by omega) (by decide)
  intro k
  induction k with
  | zero =>
    intro n g hx hk
    obtain ⟨n, rfl⟩ : ∃ m, n = m + 1 := ⟨n - 1, by omega⟩
    have : g = 144 := by omega
    subst this
    have hb := ar_sc_b (P := P) (e := e) hs.2 144
    have key := H (upd b_cell (144 + e) (nI (ar_sc P s.1 e s.2 144))) ?_
    · refine br_t (nI_le (a := 144) (by omega) (by omega)) ?_
      rw [ar_144]
      refine ⟨vp_in_nI (by omega) (by decide), nm_r (e' := upd b_cell (144 + e) (nI (ar_sc P s.1 e s.2 144))) (by rw [nI_clamp (by omega)]) ?_⟩
      have e2 : (ar_st P e s).2 = if ar_sc P s.1 e s.2 144 = s.2 then s.2 + 1 else s.2 := rfl
      rw [e2] at key
      refine pk_eq (ar_sc P s.1 e s.2 144) s.2 (fun h => nm_r (nI_1 _) (nm_r (nI_1 x) ?_)) (fun h => nm_r (nI_1 x) ?_)
      · rw [if_pos h] at key; exact key
      · rw [if_neg h] at key; exact key
    · refine ⟨fun i hi => ?_, fun i hi => ?_⟩
      · rw [pk_un (by omega)]; exact hc.1 i hi
      · have e1 : (ar_st P e s).1 = ar_up s.1 e (ar_sc P s.1 e s.2 144 + 1) := rfl
        rw [e1]
        by_cases hie2 : i = e
        · rw [hie2, pk_us, ar_us]; rfl
        · rw [pk_un (by omega), ar_un hie2]; exact hc.2 i hi
  | succ k ih =>
    intro n g hx hk
    obtain ⟨n, rfl⟩ : ∃ m, n = m + 1 := ⟨n - 1, by omega⟩
    have b1 := hP g (by omega)
    have b2 := hP e he
    have key := ih n (g + 1) (by omega) (by omega)
    rw [ar_sc_s] at key
    refine br_f (nI_ge (b := 144) (by omega) (by omega)) ⟨vp_in_nI (by omega) (by decide), hie, ?_⟩
    refine pk_eq (P g) (P e) (fun h => ?_) (fun h => ?_) (ar_rd (by omega) (hc.1 g (by omega))) (ar_rd (by omega) (hc.1 e he))
    · rw [ar_144]
      have hin : vp_in (nI (144 + g)) 288 := vp_in_nI (by omega) (by decide)
      have hr := ar_rd (t := 144 + g) (by omega) (hc.2 g (by omega))
      refine ⟨hin, ?_⟩
      rw [hr]
      by_cases h0 : s.1 g = 0
      · rw [if_neg (fun z => z.2 h0)] at key
        refine br_t (by rw [h0]; decide) (nm_r (nI_1 g) key)
      · rw [if_pos ⟨h, h0⟩] at key
        have hsg := hs.2 g
        rw [ar_vzs h0]
        exact br_f (nI_pos (by omega)) ⟨hin, nm_r rfl (nm_r (nI_1 g) key)⟩
    · rw [if_neg (fun z => h z.1)] at key
      exact nm_r (nI_1 g) key
theorem yy_ke116 {post : SY → Prop} {J69 J76 : Int32 → Int32 →  (Nat → Int32) → (Nat → Int32) → (Nat → Int32) → (Nat → Int32) → (Nat → Int32) → (Nat → Int32) → (Nat → Int32) → (Nat → Int32) → (Nat → Int32) → (Nat → Int32) → (Nat → Int32) →  Prop} {x2 : Int32} {t last m : Nat} {s0 : (Nat → Nat) × Nat} (hP : ∀ g, g < 144 → P g < 144) (ht : t < 24) (hl : last ≤ 5) (hs0 : ar_sb s0 m) (hm : m ≤ 900)
    (H : ∀ ce, ar_yn P (ar_pl P t s0 (last + 1)) ce → J76 (nI (ar_pl P t s0 (last + 1)).2) (nI (t + 1)) b_kind b_arrayArg b_indexArg b_elementArg b_equal b_left b_right b_level b_index ce b_digit) :
    ∀ k n x b_cell, x + k = last + 1 → k < n → ar_yn P (ar_pl P t s0 x) b_cell →
    wY_keep_116 post J69 J76 x2 (nI t) (nI last) g_termLimit g_indexLimit g_literalLimit g_terms g_literals g_depth g_kept g_trialWidth g_keptWidth n (nI (ar_pl P t s0 x).2) (nI x) b_kind b_arrayArg b_indexArg b_elementArg b_equal b_left b_right b_level b_index b_cell b_digit := by
  intro k
  induction k with
  | zero =>
    intro n x b_cell hx hk hc
    obtain ⟨n, rfl⟩ : ∃ m, n = m + 1 := ⟨n - 1, by omega⟩
    have : x = last + 1 := by omega
    subst this
    exact br_t (nI_lt (by omega) (by omega)) (nm_r (nI_1 t) (H b_cell hc))
  | succ k ih =>
    intro n x b_cell hx hk hc
    obtain ⟨n, rfl⟩ : ∃ m, n = m + 1 := ⟨n - 1, by omega⟩
    refine br_f (nI_nlt (by omega) (by omega)) (nm_r (e' := nI (t * 6 + x)) (by rw [ar_n6, nI_add]) ⟨145, ?_⟩)
    exact yy_ke138 (s := ar_pl P t s0 x) hP (by omega) (ar_sb_m (ar_pl_b hs0 x) (by omega)) hc (fun ce hce => ih n (x + 1) ce (by omega) (by omega) hce) 144 145 0 (by omega) (by omega)
theorem yy_ke76 {post : SY → Prop} {J69 : Int32 → Int32 →  (Nat → Int32) → (Nat → Int32) → (Nat → Int32) → (Nat → Int32) → (Nat → Int32) → (Nat → Int32) → (Nat → Int32) → (Nat → Int32) → (Nat → Int32) → (Nat → Int32) → (Nat → Int32) →  Prop} {so w last m : Nat} {s0 : (Nat → Nat) × Nat} (hn : nt ≤ 24) (hm : ar_tm nt K A I E b_kind b_arrayArg b_indexArg b_elementArg) (hw : ar_tw nt K A I E)
    (hP : ∀ g, g < 144 → P g < 144) (hso : so = 1 ∧ last = 0 ∨ so = 2 ∧ last = w) (hw5 : w ≤ 5) (hs0 : ar_sb s0 m) (hm2 : m ≤ 200)
    (H : ∀ ce, ar_yn P (ar_ts P K so (last + 1) s0 nt) ce → J69 (nI (ar_ts P K so (last + 1) s0 nt).2) (nI (so + 1)) b_kind b_arrayArg b_indexArg b_elementArg b_equal b_left b_right b_level b_index ce b_digit) :
    ∀ k n t b_cell, t + k = nt → k < n → ar_yn P (ar_ts P K so (last + 1) s0 t) b_cell →
    wY_keep_76 post J69 (nI so) g_termLimit g_indexLimit g_literalLimit (nI nt) g_literals g_depth g_kept (nI w) g_keptWidth n (nI (ar_ts P K so (last + 1) s0 t).2) (nI t) b_kind b_arrayArg b_indexArg b_elementArg b_equal b_left b_right b_level b_index b_cell b_digit := by
  intro k
  induction k with
  | zero =>
    intro n t b_cell hx hk hc
    obtain ⟨n, rfl⟩ : ∃ m, n = m + 1 := ⟨n - 1, by omega⟩
    have : t = nt := by omega
    subst this
    exact br_t (nI_le (by omega) (by omega)) (nm_r (nI_1 so) (H b_cell hc))
  | succ k ih =>
    intro n t b_cell hx hk hc
    obtain ⟨n, rfl⟩ : ∃ m, n = m + 1 := ⟨n - 1, by omega⟩
    have hb := ar_ts_b (P := P) (K := K) (so := so) (k := last + 1) (by omega) hs0 t
    have h4 := (hw t (by omega)).1
    refine br_f (nI_ge (by omega) (by omega)) ⟨vp_in_nI (by omega) (by decide), pk_eq (K t) so (fun h => ?_) (fun h => ⟨1, ?_⟩) (ar_rd (by omega) (hm t (by omega)).1)⟩
    · have go : ∀ ce, ar_yn P (ar_pl P t (ar_ts P K so (last + 1) s0 t) (last + 1)) ce → wY_keep_76 post J69 (nI so) g_termLimit g_indexLimit g_literalLimit (nI nt) g_literals g_depth g_kept (nI w) g_keptWidth n (nI (ar_pl P t (ar_ts P K so (last + 1) s0 t) (last + 1)).2) (nI (t + 1)) b_kind b_arrayArg b_indexArg b_elementArg b_equal b_left b_right b_level b_index ce b_digit := by
        intro ce hce
        have key := ih n (t + 1) ce (by omega) (by omega)
        rw [ar_ts_s, if_pos h] at key
        exact key hce
      rcases hso with ⟨e1, e2⟩ | ⟨e1, e2⟩
      · subst e1 e2
        exact br_f (by decide) ⟨2, yy_ke116 (m := m + t * 6) hP (by omega) (by omega) hb (by omega) go 1 2 0 b_cell (by omega) (by omega) hc⟩
      · subst e1 e2
        exact br_t (by decide) ⟨last + 2, yy_ke116 (m := m + t * 6) hP (by omega) hw5 hb (by omega) go (last + 1) (last + 2) 0 b_cell (by omega) (by omega) hc⟩
    · refine br_t (by decide) (nm_r (nI_1 t) ?_)
      have key := ih n (t + 1) b_cell (by omega) (by omega)
      rw [ar_ts_s, if_neg h] at key
      exact key hc
theorem yy_ke69 {post : SY → Prop} {w : Nat} (hn : nt ≤ 24) (hm : ar_tm nt K A I E b_kind b_arrayArg b_indexArg b_elementArg) (hw : ar_tw nt K A I E)
    (hP : ∀ g, g < 144 → P g < 144) (hw5 : w ≤ 5) (hc : ar_yn P (fun _ => 0, 0) b_cell)
    (H : ∀ ce, ar_yn P (ar_s2 nt K P w) ce → post (g_termLimit, g_indexLimit, g_literalLimit, nI nt, g_literals, g_depth, 1, nI w, g_keptWidth, b_kind, b_arrayArg, b_indexArg, b_elementArg, b_equal, b_left, b_right, b_level, b_index, ce, b_digit)) :
    wY_keep_69 post g_termLimit g_indexLimit g_literalLimit (nI nt) g_literals g_depth g_kept (nI w) g_keptWidth 3 0 1 b_kind b_arrayArg b_indexArg b_elementArg b_equal b_left b_right b_level b_index b_cell b_digit := by
  have hs : ar_sb ((fun _ => 0, 0) : (Nat → Nat) × Nat) 0 := ⟨Nat.le_refl 0, fun _ => Nat.le_refl 0⟩
  refine br_f (by decide) ⟨nt + 1, ?_⟩
  refine yy_ke76 (so := 1) (last := 0) (w := w) (s0 := (fun _ => 0, 0)) (m := 0) hn hm hw hP (Or.inl ⟨rfl, rfl⟩) hw5 hs (by omega) (fun c1 h1 => ?_) nt (nt + 1) 0 b_cell (by omega) (by omega) hc
  refine br_f (by decide) ⟨nt + 1, ?_⟩
  refine yy_ke76 (so := 2) (last := w) (w := w) (s0 := ar_ts P K 1 1 (fun _ => 0, 0) nt) (m := 0 + nt * 6) hn hm hw hP (Or.inr ⟨rfl, rfl⟩) hw5 (ar_ts_b (k := 1) (by omega) hs nt) (by omega) (fun c2 h2 => ?_) nt (nt + 1) 0 c1 (by omega) (by omega) h1
  exact br_t (by decide) (H c2 h2)
theorem yy_ke41 {post : SY → Prop} (h1 : ∀ g, g < 144 → b_cell g = nI (P g))
    (H : ∀ ce, ar_yn P (fun _ => 0, 0) ce → ∃ m, wY_keep_69 post g_termLimit g_indexLimit g_literalLimit g_terms g_literals g_depth g_kept g_trialWidth g_keptWidth m 0 1 b_kind b_arrayArg b_indexArg b_elementArg b_equal b_left b_right b_level b_index ce b_digit) :
    ∀ k n g b_cell, g + k = 144 → k < n → (∀ i, i < 144 → b_cell i = nI (P i)) → (∀ i, i < g → b_cell (144 + i) = -1) →
    wY_keep_41 post g_termLimit g_indexLimit g_literalLimit g_terms g_literals g_depth g_kept g_trialWidth g_keptWidth n (nI g) b_kind b_arrayArg b_indexArg b_elementArg b_equal b_left b_right b_level b_index b_cell b_digit := by
  intro k
  induction k with
  | zero =>
    intro n g b_cell hx hk h1 h2
    obtain ⟨n, rfl⟩ : ∃ m, n = m + 1 := ⟨n - 1, by omega⟩
    exact br_t (nI_le (a := 144) (by omega) (by omega)) (H b_cell ⟨h1, fun i hi => h2 i (by omega)⟩)
  | succ k ih =>
    intro n g b_cell hx hk h1 h2
    obtain ⟨n, rfl⟩ : ∃ m, n = m + 1 := ⟨n - 1, by omega⟩
    refine br_f (nI_ge (b := 144) (by omega) (by omega)) ?_
    rw [ar_144]
    refine ⟨vp_in_nI (by omega) (by decide), nm_r (e' := upd b_cell (144 + g) (-1)) (by rw [nI_clamp (by omega)]) (nm_r (nI_1 g) (ih n (g + 1) _ (by omega) (by omega) (fun i hi => ?_) (fun i hi => ?_)))⟩
    · rw [pk_un (by omega)]; exact h1 i hi
    · by_cases hig : i = g
      · rw [hig, pk_us]
      · rw [pk_un (by omega)]; exact h2 i (by omega)
theorem yy_ke10 {post : SY → Prop} {i0 : Nat → Int32}
    (H : ∀ ix, (∀ i, i < 24 → ix i = i0 i) → (∀ i, i < 24 → ix (24 + i) = i0 i) → ∃ m, wY_keep_41 post g_termLimit g_indexLimit g_literalLimit g_terms g_literals g_depth g_kept g_trialWidth g_keptWidth m 0 b_kind b_arrayArg b_indexArg b_elementArg b_equal b_left b_right b_level ix b_cell b_digit) :
    ∀ k n t b_index, t + k = 24 → k < n → (∀ i, i < 24 → b_index i = i0 i) → (∀ i, i < t → b_index (24 + i) = i0 i) →
    wY_keep_10 post g_termLimit g_indexLimit g_literalLimit g_terms g_literals g_depth g_kept g_trialWidth g_keptWidth n (nI t) b_kind b_arrayArg b_indexArg b_elementArg b_equal b_left b_right b_level b_index b_cell b_digit := by
  intro k
  induction k with
  | zero =>
    intro n t b_index hx hk h1 h2
    obtain ⟨n, rfl⟩ : ∃ m, n = m + 1 := ⟨n - 1, by omega⟩
    exact br_t (nI_le (a := 24) (by omega) (by omega)) (H b_index h1 (fun i hi => h2 i (by omega)))
  | succ k ih =>
    intro n t b_index hx hk h1 h2
    obtain ⟨n, rfl⟩ : ∃ m, n = m + 1 := ⟨n - 1, by omega⟩
    refine br_f (nI_ge (b := 24) (by omega) (by omega)) ?_
    rw [ar_24, ar_0a]
    refine ⟨vp_in_nI (by omega) (by decide), vp_in_nI (by omega) (by decide), nm_r (e' := upd b_index (24 + t) (i0 t)) ?_ (nm_r (nI_1 t) (ih n (t + 1) _ (by omega) (by omega) (fun i hi => ?_) (fun i hi => ?_)))⟩
    · rw [ar_rd (t := t) (by omega) (h1 t (by omega)), nI_clamp (by omega)]
    · rw [pk_un (by omega)]; exact h1 i hi
    · by_cases hit : i = t
      · rw [hit, pk_us]
      · rw [pk_un (by omega)]; exact h2 i (by omega)
theorem yy_ke {post : SY → Prop} {w : Nat} (hn : nt ≤ 24) (hm : ar_tm nt K A I E b_kind b_arrayArg b_indexArg b_elementArg) (hw : ar_tw nt K A I E)
    (hP : ∀ g, g < 144 → P g < 144) (hw5 : w ≤ 5) (hc : ∀ g, g < 144 → b_cell g = nI (P g))
    (H : ∀ ix ce, (∀ i, i < 24 → ix (24 + i) = b_index i) → ar_yn P (ar_s2 nt K P w) ce → post (g_termLimit, g_indexLimit, g_literalLimit, nI nt, g_literals, g_depth, 1, nI w, nI w, b_kind, b_arrayArg, b_indexArg, b_elementArg, b_equal, b_left, b_right, b_level, ix, ce, b_digit)) :
    wpY_keep post (g_termLimit, g_indexLimit, g_literalLimit, nI nt, g_literals, g_depth, g_kept, nI w, g_keptWidth, b_kind, b_arrayArg, b_indexArg, b_elementArg, b_equal, b_left, b_right, b_level, b_index, b_cell, b_digit) := by
  unfold wpY_keep
  refine ⟨25, ?_⟩
  refine yy_ke10 (i0 := b_index) (fun ix _ hix => ⟨145, ?_⟩) 24 25 0 b_index (by omega) (by omega) (fun i _ => rfl) (fun i hi => absurd hi (Nat.not_lt_zero i))
  refine yy_ke41 hc (fun c1 h1 => ⟨3, ?_⟩) 144 145 0 b_cell (by omega) (by omega) hc (fun i hi => absurd hi (Nat.not_lt_zero i))
  exact yy_ke69 hn hm hw hP hw5 h1 (fun c2 h2 => H ix c2 hix h2)
end
end
section
/-! the relation -/
def ar_rT (nt TL IL : Nat) (K A I E : Nat → Nat) (ak aa ai ae ait ark bk ba bi be : Nat → Int32) : Prop :=
  nt ≤ TL ∧ TL ≤ 24 ∧ IL ≤ 5 ∧ ar_ci K nt ≤ IL ∧ ar_tw nt K A I E ∧ ar_tm nt K A I E ak aa ai ae ∧ ar_tm nt K A I E bk ba bi be ∧
  (∀ t, t < nt → (K t < 3 → ba t = -1 ∧ bi t = -1) ∧ (K t ≠ 4 → be t = -1)) ∧ ar_ix nt K ait ark
def ar_rL (nt nl LL dp : Nat) (K Lq Ll Lr Lv : Nat → Nat) (aq al ar av bq bl br bv : Nat → Int32) : Prop :=
  nl ≤ LL ∧ LL ≤ 16 ∧ dp ≤ 8 ∧ ar_lm nl nt K Lq Ll Lr aq al ar ∧ ar_lm nl nt K Lq Ll Lr bq bl br ∧
  (∀ l, l < nl → av l = nI (Lv l) ∧ bv l = nI (Lv l) ∧ Lv l ≤ dp) ∧ ∀ l m, l ≤ m → m < nl → Lv l ≤ Lv m
def ar_mo (nt w : Nat) (K KV : Nat → Nat) (fk gk : Int32) (ke ix ce : Nat → Int32) : Prop :=
  fk = nI w ∧ gk = nI w ∧ w ≤ 5 ∧ (∀ t, t < nt → K t = 0 → KV t ≤ w ∧ ke (t * 6) = nI (KV t) ∧ ix (24 + t) = nI (KV t)) ∧
  (∀ t, t < nt → K t = 1 → ke (t * 6) = ce (144 + t * 6)) ∧ ∀ t, t < nt → K t = 2 → ∀ x, x ≤ w → ke (t * 6 + x) = ce (144 + (t * 6 + x))
def ar_rM (nt hm : Nat) (K : Nat → Nat) (fk gk : Int32) (ke ix ce : Nat → Int32) : Prop :=
  hm ≤ 1 ∧ (hm = 1 → ∃ w KV, ar_mo nt w K KV fk gk ke ix ce)
def ar_rel (f_termLimit f_indexLimit f_literalLimit f_stride f_termCount f_indexCount f_literalCount f_depth f_trialWidth f_hasModel f_keptWidth : Int32) (a_kind a_arrayArg a_indexArg a_elementArg a_indexTerm a_rank a_litEqual a_litLeft a_litRight a_litLevel a_trial a_parent a_label a_kept : Nat → Int32)
    (g_termLimit g_indexLimit g_literalLimit g_terms g_literals g_depth g_kept g_trialWidth g_keptWidth : Int32) (b_kind b_arrayArg b_indexArg b_elementArg b_equal b_left b_right b_level b_index b_cell b_digit : Nat → Int32) : Prop :=
  ∃ nt TL IL LL nl dp hm : Nat, ∃ K A I E Lq Ll Lr Lv : Nat → Nat,
  (f_termLimit = nI TL ∧ f_indexLimit = nI IL ∧ f_literalLimit = nI LL ∧ f_termCount = nI nt ∧ f_indexCount = nI (ar_ci K nt) ∧ f_literalCount = nI nl ∧ f_depth = nI dp ∧ f_hasModel = nI hm) ∧
  (g_termLimit = nI TL ∧ g_indexLimit = nI IL ∧ g_literalLimit = nI LL ∧ g_terms = nI nt ∧ g_literals = nI nl ∧ g_depth = nI dp ∧ g_kept = nI hm) ∧
  ar_rT nt TL IL K A I E a_kind a_arrayArg a_indexArg a_elementArg a_indexTerm a_rank b_kind b_arrayArg b_indexArg b_elementArg ∧
  ar_rL nt nl LL dp K Lq Ll Lr Lv a_litEqual a_litLeft a_litRight a_litLevel b_equal b_left b_right b_level ∧
  ar_rM nt hm K f_keptWidth g_keptWidth a_kept b_index b_cell
/-- the relation at the head of a turn -/
def i_Rel (k : Nat) (u : SX) (v : SY) : Prop := match u, v with
  | (f_termLimit, f_indexLimit, f_literalLimit, f_stride, f_termCount, f_indexCount, f_literalCount, f_depth, f_trialWidth, f_hasModel, f_keptWidth, a_kind, a_arrayArg, a_indexArg, a_elementArg, a_indexTerm, a_rank, a_litEqual, a_litLeft, a_litRight, a_litLevel, a_trial, a_parent, a_label, a_kept), (g_termLimit, g_indexLimit, g_literalLimit, g_terms, g_literals, g_depth, g_kept, g_trialWidth, g_keptWidth, b_kind, b_arrayArg, b_indexArg, b_elementArg, b_equal, b_left, b_right, b_level, b_index, b_cell, b_digit) => ar_rel f_termLimit f_indexLimit f_literalLimit f_stride f_termCount f_indexCount f_literalCount f_depth f_trialWidth f_hasModel f_keptWidth a_kind a_arrayArg a_indexArg a_elementArg a_indexTerm a_rank a_litEqual a_litLeft a_litRight a_litLevel a_trial a_parent a_label a_kept g_termLimit g_indexLimit g_literalLimit g_terms g_literals g_depth g_kept g_trialWidth g_keptWidth b_kind b_arrayArg b_indexArg b_elementArg b_equal b_left b_right b_level b_index b_cell b_digit
theorem i_up {k : Nat} {u : SX} {v : SY} (h : i_Rel k u v) : i_Rel (k + 4) u v := h
/-- both states, as the relation knows them -/
theorem ar_el {Q : SX → SY → Prop} {k : Nat} {u : SX} {v : SY}
    (h : ∀ (nt TL IL LL nl dp hm : Nat) (K A I E Lq Ll Lr Lv : Nat → Nat) (f_stride f_trialWidth f_keptWidth : Int32) (a_kind a_arrayArg a_indexArg a_elementArg a_indexTerm a_rank a_litEqual a_litLeft a_litRight a_litLevel a_trial a_parent a_label a_kept : Nat → Int32)
      (g_trialWidth g_keptWidth : Int32) (b_kind b_arrayArg b_indexArg b_elementArg b_equal b_left b_right b_level b_index b_cell b_digit : Nat → Int32),
      ar_rT nt TL IL K A I E a_kind a_arrayArg a_indexArg a_elementArg a_indexTerm a_rank b_kind b_arrayArg b_indexArg b_elementArg →
      ar_rL nt nl LL dp K Lq Ll Lr Lv a_litEqual a_litLeft a_litRight a_litLevel b_equal b_left b_right b_level →
      ar_rM nt hm K f_keptWidth g_keptWidth a_kept b_index b_cell →
      Q (nI TL, nI IL, nI LL, f_stride, nI nt, nI (ar_ci K nt), nI nl, nI dp, f_trialWidth, nI hm, f_keptWidth, a_kind, a_arrayArg, a_indexArg, a_elementArg, a_indexTerm, a_rank, a_litEqual, a_litLeft, a_litRight, a_litLevel, a_trial, a_parent, a_label, a_kept)
        (nI TL, nI IL, nI LL, nI nt, nI nl, nI dp, nI hm, g_trialWidth, g_keptWidth, b_kind, b_arrayArg, b_indexArg, b_elementArg, b_equal, b_left, b_right, b_level, b_index, b_cell, b_digit))
    (I : i_Rel k u v) : Q u v := by
  obtain ⟨f_termLimit, f_indexLimit, f_literalLimit, f_stride, f_termCount, f_indexCount, f_literalCount, f_depth, f_trialWidth, f_hasModel, f_keptWidth, a_kind, a_arrayArg, a_indexArg, a_elementArg, a_indexTerm, a_rank, a_litEqual, a_litLeft, a_litRight, a_litLevel, a_trial, a_parent, a_label, a_kept⟩ := u
  obtain ⟨g_termLimit, g_indexLimit, g_literalLimit, g_terms, g_literals, g_depth, g_kept, g_trialWidth, g_keptWidth, b_kind, b_arrayArg, b_indexArg, b_elementArg, b_equal, b_left, b_right, b_level, b_index, b_cell, b_digit⟩ := v
  have J : ar_rel f_termLimit f_indexLimit f_literalLimit f_stride f_termCount f_indexCount f_literalCount f_depth f_trialWidth f_hasModel f_keptWidth a_kind a_arrayArg a_indexArg a_elementArg a_indexTerm a_rank a_litEqual a_litLeft a_litRight a_litLevel a_trial a_parent a_label a_kept g_termLimit g_indexLimit g_literalLimit g_terms g_literals g_depth g_kept g_trialWidth g_keptWidth b_kind b_arrayArg b_indexArg b_elementArg b_equal b_left b_right b_level b_index b_cell b_digit := I
  obtain ⟨nt, TL, IL, LL, nl, dp, hm, K, A, I', E, Lq, Ll, Lr, Lv, ⟨e1, e2, e3, e4, e5, e6, e7, e8⟩, ⟨d1, d2, d3, d4, d5, d6, d7⟩, hT, hL, hM⟩ := J
  subst e1 e2 e3 e4 e5 e6 e7 e8 d1 d2 d3 d4 d5 d6 d7
  exact h nt TL IL LL nl dp hm K A I' E Lq Ll Lr Lv _ _ _ _ _ _ _ _ _ _ _ _ _ _ _ _ _ _ _ _ _ _ _ _ _ _ _ _ _ _ hT hL hM
section
variable {f_termLimit f_indexLimit f_literalLimit f_stride f_termCount f_indexCount f_literalCount f_depth f_trialWidth f_hasModel f_keptWidth : Int32} {a_kind a_arrayArg a_indexArg a_elementArg a_indexTerm a_rank a_litEqual a_litLeft a_litRight a_litLevel a_trial a_parent a_label a_kept : Nat → Int32} {g_termLimit g_indexLimit g_literalLimit g_terms g_literals g_depth g_kept g_trialWidth g_keptWidth : Int32} {b_kind b_arrayArg b_indexArg b_elementArg b_equal b_left b_right b_level b_index b_cell b_digit : Nat → Int32} {nt TL IL LL nl dp hm : Nat} {K A I E Lq Ll Lr Lv : Nat → Nat}
theorem ar_in {k : Nat} (hT : ar_rT nt TL IL K A I E a_kind a_arrayArg a_indexArg a_elementArg a_indexTerm a_rank b_kind b_arrayArg b_indexArg b_elementArg)
    (hL : ar_rL nt nl LL dp K Lq Ll Lr Lv a_litEqual a_litLeft a_litRight a_litLevel b_equal b_left b_right b_level) (hM : ar_rM nt hm K f_keptWidth g_keptWidth a_kept b_index b_cell) :
    i_Rel k (nI TL, nI IL, nI LL, f_stride, nI nt, nI (ar_ci K nt), nI nl, nI dp, f_trialWidth, nI hm, f_keptWidth, a_kind, a_arrayArg, a_indexArg, a_elementArg, a_indexTerm, a_rank, a_litEqual, a_litLeft, a_litRight, a_litLevel, a_trial, a_parent, a_label, a_kept)
      (nI TL, nI IL, nI LL, nI nt, nI nl, nI dp, nI hm, g_trialWidth, g_keptWidth, b_kind, b_arrayArg, b_indexArg, b_elementArg, b_equal, b_left, b_right, b_level, b_index, b_cell, b_digit) :=
  ⟨nt, TL, IL, LL, nl, dp, hm, K, A, I, E, Lq, Ll, Lr, Lv, ⟨rfl, rfl, rfl, rfl, rfl, rfl, rfl, rfl⟩, ⟨rfl, rfl, rfl, rfl, rfl, rfl, rfl⟩, hT, hL, hM⟩
end
/-! one more term -/
theorem ar_tw_add {nt kd a i e : Nat} {K A I E : Nat → Nat} (h : ar_tw nt K A I E) (h4 : kd ≤ 4) (h3 : 3 ≤ kd → a < nt ∧ ar_so (K a) = 2 ∧ i < nt ∧ K i = 0) (he : kd = 4 → e < nt ∧ ar_so (K e) = 1) :
    ar_tw (nt + 1) (ar_up K nt kd) (ar_up A nt a) (ar_up I nt i) (ar_up E nt e) := by
  intro t ht
  by_cases e0 : t = nt
  · subst e0
    rw [ar_us, ar_us, ar_us, ar_us]
    refine ⟨h4, fun z => ?_, fun z => ?_⟩
    · obtain ⟨a1, a2, a3, a4⟩ := h3 z
      rw [ar_un (by omega), ar_un (by omega)]
      exact ⟨a1, a2, a3, a4⟩
    · obtain ⟨a1, a2⟩ := he z
      rw [ar_un (by omega)]
      exact ⟨a1, a2⟩
  · rw [ar_un e0, ar_un e0, ar_un e0, ar_un e0]
    obtain ⟨w1, w2, w3⟩ := h t (by omega)
    refine ⟨w1, fun z => ?_, fun z => ?_⟩
    · obtain ⟨a1, a2, a3, a4⟩ := w2 z
      rw [ar_un (by omega), ar_un (by omega)]
      exact ⟨a1, a2, a3, a4⟩
    · obtain ⟨a1, a2⟩ := w3 z
      rw [ar_un (by omega)]
      exact ⟨a1, a2⟩
theorem ar_tm_add {nt kd a i e : Nat} {K A I E : Nat → Nat} {ak aa ai ae : Nat → Int32} {va vi ve : Int32} (h : ar_tm nt K A I E ak aa ai ae) (h3 : 3 ≤ kd → va = nI a ∧ vi = nI i) (he : kd = 4 → ve = nI e) :
    ar_tm (nt + 1) (ar_up K nt kd) (ar_up A nt a) (ar_up I nt i) (ar_up E nt e) (upd ak nt (nI kd)) (upd aa nt va) (upd ai nt vi) (upd ae nt ve) := by
  intro t ht
  by_cases e0 : t = nt
  · subst e0
    rw [ar_us, ar_us, ar_us, ar_us, pk_us, pk_us, pk_us, pk_us]
    exact ⟨rfl, h3, he⟩
  · rw [ar_un e0, ar_un e0, ar_un e0, ar_un e0, pk_un e0, pk_un e0, pk_un e0, pk_un e0]
    exact h t (by omega)
theorem ar_ci_add {nt kd : Nat} {K : Nat → Nat} : ∀ t, t ≤ nt → ar_ci (ar_up K nt kd) t = ar_ci K t := fun t ht => ar_ci_cg t (fun j hj => ar_un (by omega))
theorem ar_ci_add1 {nt kd : Nat} {K : Nat → Nat} : ar_ci (ar_up K nt kd) (nt + 1) = if kd = 0 then ar_ci K nt + 1 else ar_ci K nt := by
  rw [ar_ci_s, ar_us, ar_ci_add nt (Nat.le_refl _)]
theorem ar_ix_add0 {nt : Nat} {K : Nat → Nat} {ait ark : Nat → Int32} (h : ar_ix nt K ait ark) : ar_ix (nt + 1) (ar_up K nt 0) (upd ait (ar_ci K nt) (nI nt)) (upd ark nt (nI (ar_ci K nt))) := by
  intro t ht hk
  rw [ar_ci_add t (by omega)]
  by_cases e0 : t = nt
  · subst e0
    rw [pk_us, pk_us]
    exact ⟨rfl, rfl⟩
  · rw [ar_un e0] at hk
    have := ar_ci_lt (K := K) (t := t) (s := nt) (by omega) hk
    rw [pk_un e0, pk_un (by omega)]
    exact h t (by omega) hk
theorem ar_ix_addn {nt kd : Nat} {K : Nat → Nat} {ait ark : Nat → Int32} (hkd : kd ≠ 0) (h : ar_ix nt K ait ark) : ar_ix (nt + 1) (ar_up K nt kd) ait ark := by
  intro t ht hk
  rw [ar_ci_add t (by omega)]
  by_cases e0 : t = nt
  · subst e0
    rw [ar_us] at hk
    exact absurd hk hkd
  · rw [ar_un e0] at hk
    exact h t (by omega) hk
theorem ar_lm_t {n nt kd : Nat} {K Lq Ll Lr : Nat → Nat} {aq al ar : Nat → Int32} (h : ar_lm n nt K Lq Ll Lr aq al ar) : ar_lm n (nt + 1) (ar_up K nt kd) Lq Ll Lr aq al ar := by
  intro l hl
  obtain ⟨h1, h2, h3, h4, h5, h6, h7⟩ := h l hl
  refine ⟨h1, h2, h3, h4, by omega, by omega, ?_⟩
  rw [ar_un (by omega), ar_un (by omega)]
  exact h7
theorem ar_rL_t {nt nl LL dp kd : Nat} {K Lq Ll Lr Lv : Nat → Nat} {aq al ar av bq bl br bv : Nat → Int32} (h : ar_rL nt nl LL dp K Lq Ll Lr Lv aq al ar av bq bl br bv) : ar_rL (nt + 1) nl LL dp (ar_up K nt kd) Lq Ll Lr Lv aq al ar av bq bl br bv := by
  obtain ⟨h1, h2, h3, h4, h5, h6, h7⟩ := h
  exact ⟨h1, h2, h3, ar_lm_t h4, ar_lm_t h5, h6, h7⟩
theorem ar_rM_t {nt hm kd : Nat} {K : Nat → Nat} {fk gk : Int32} {ke ix ce : Nat → Int32} (hkd : 3 ≤ kd) (h : ar_rM nt hm K fk gk ke ix ce) : ar_rM (nt + 1) hm (ar_up K nt kd) fk gk ke ix ce := by
  refine ⟨h.1, fun z => ?_⟩
  obtain ⟨w, KV, m1, m2, m3, m4, m5, m6⟩ := h.2 z
  have hh : ∀ t j, t < nt + 1 → j < 3 → ar_up K nt kd t = j → t < nt ∧ K t = j := by
    intro t j ht hj hk
    by_cases e0 : t = nt
    · subst e0
      rw [ar_us] at hk
      omega
    · rw [ar_un e0] at hk
      exact ⟨by omega, hk⟩
  refine ⟨w, KV, m1, m2, m3, fun t ht hk => ?_, fun t ht hk => ?_, fun t ht hk => ?_⟩
  · obtain ⟨a, b⟩ := hh t 0 ht (by omega) hk
    exact m4 t a b
  · obtain ⟨a, b⟩ := hh t 1 ht (by omega) hk
    exact m5 t a b
  · obtain ⟨a, b⟩ := hh t 2 ht (by omega) hk
    exact m6 t a b
theorem ar_rM_0 {nt : Nat} {K : Nat → Nat} {fk gk : Int32} {ke ix ce : Nat → Int32} : ar_rM nt 0 K fk gk ke ix ce := ⟨by omega, fun z => absurd z (by omega)⟩
/-- a term that isn't an index constant -/
theorem ar_rT_addn {nt TL IL kd a i e : Nat} {K A I E : Nat → Nat} {ak aa ai ae ait ark bk ba bi be : Nat → Int32} {va vi ve wa wi we : Int32} (h : ar_rT nt TL IL K A I E ak aa ai ae ait ark bk ba bi be) (hlt : nt < TL)
    (hkd : kd ≠ 0) (h4 : kd ≤ 4) (h3 : 3 ≤ kd → a < nt ∧ ar_so (K a) = 2 ∧ i < nt ∧ K i = 0) (he : kd = 4 → e < nt ∧ ar_so (K e) = 1)
    (x3 : 3 ≤ kd → va = nI a ∧ vi = nI i) (xe : kd = 4 → ve = nI e) (y3 : 3 ≤ kd → wa = nI a ∧ wi = nI i) (ye : kd = 4 → we = nI e) (z3 : kd < 3 → wa = -1 ∧ wi = -1) (ze : kd ≠ 4 → we = -1) :
    ar_rT (nt + 1) TL IL (ar_up K nt kd) (ar_up A nt a) (ar_up I nt i) (ar_up E nt e) (upd ak nt (nI kd)) (upd aa nt va) (upd ai nt vi) (upd ae nt ve) ait ark (upd bk nt (nI kd)) (upd ba nt wa) (upd bi nt wi) (upd be nt we) := by
  obtain ⟨h1, h2, h3', h4', h5, h6, h7, h8, h9⟩ := h
  refine ⟨hlt, h2, h3', ?_, ar_tw_add h5 h4 h3 he, ar_tm_add h6 x3 xe, ar_tm_add h7 y3 ye, fun t ht => ?_, ar_ix_addn hkd h9⟩
  · rw [ar_ci_add1, if_neg hkd]; exact h4'
  · by_cases e0 : t = nt
    · subst e0
      rw [ar_us, pk_us, pk_us, pk_us]
      exact ⟨z3, ze⟩
    · rw [ar_un e0, pk_un e0, pk_un e0, pk_un e0]
      exact h8 t (by omega)
theorem ar_rT_add0 {nt TL IL : Nat} {K A I E : Nat → Nat} {ak aa ai ae ait ark bk ba bi be : Nat → Int32} (h : ar_rT nt TL IL K A I E ak aa ai ae ait ark bk ba bi be) (hlt : nt < TL) (hil : ar_ci K nt < IL) :
    ar_rT (nt + 1) TL IL (ar_up K nt 0) (ar_up A nt 0) (ar_up I nt 0) (ar_up E nt 0) (upd ak nt (nI 0)) (upd aa nt (nI 0)) (upd ai nt (nI 0)) (upd ae nt (nI 0)) (upd ait (ar_ci K nt) (nI nt)) (upd ark nt (nI (ar_ci K nt))) (upd bk nt (nI 0)) (upd ba nt (-1)) (upd bi nt (-1)) (upd be nt (-1)) := by
  obtain ⟨h1, h2, h3', h4', h5, h6, h7, h8, h9⟩ := h
  refine ⟨hlt, h2, h3', ?_, ar_tw_add h5 (by omega) (fun z => absurd z (by omega)) (fun z => absurd z (by omega)), ar_tm_add h6 (fun z => absurd z (by omega)) (fun z => absurd z (by omega)), ar_tm_add h7 (fun z => absurd z (by omega)) (fun z => absurd z (by omega)), fun t ht => ?_, ar_ix_add0 h9⟩
  · rw [ar_ci_add1, if_pos rfl]; exact hil
  · by_cases e0 : t = nt
    · subst e0
      rw [ar_us, pk_us, pk_us, pk_us]
      exact ⟨fun _ => ⟨rfl, rfl⟩, fun _ => rfl⟩
    · rw [ar_un e0, pk_un e0, pk_un e0, pk_un e0]
      exact h8 t (by omega)
/-! one more literal -/
theorem ar_lm_add {n nt q t u : Nat} {K Lq Ll Lr : Nat → Nat} {aq al ar : Nat → Int32} (h : ar_lm n nt K Lq Ll Lr aq al ar) (hq : q ≤ 1) (ht : t < nt) (hu : u < nt) (hs : ar_so (K t) = ar_so (K u)) :
    ar_lm (n + 1) nt K (ar_up Lq n q) (ar_up Ll n t) (ar_up Lr n u) (upd aq n (nI q)) (upd al n (nI t)) (upd ar n (nI u)) := by
  intro l hl
  by_cases e0 : l = n
  · subst e0
    rw [ar_us, ar_us, ar_us, pk_us, pk_us, pk_us]
    exact ⟨rfl, rfl, rfl, hq, ht, hu, hs⟩
  · rw [ar_un e0, ar_un e0, ar_un e0, pk_un e0, pk_un e0, pk_un e0]
    exact h l (by omega)
theorem ar_lm_sp {n nt : Nat} {K Lq Ll Lr : Nat → Nat} {aq al ar : Nat → Int32} {x y z : Int32} (h : ar_lm n nt K Lq Ll Lr aq al ar) : ar_lm n nt K Lq Ll Lr (upd aq n x) (upd al n y) (upd ar n z) := by
  intro l hl
  rw [pk_un (by omega), pk_un (by omega), pk_un (by omega)]
  exact h l hl
end
section
/-! the small methods -/
section
variable {f_termLimit f_indexLimit f_literalLimit f_stride f_termCount f_indexCount f_literalCount f_depth f_trialWidth f_hasModel f_keptWidth : Int32} {a_kind a_arrayArg a_indexArg a_elementArg a_indexTerm a_rank a_litEqual a_litLeft a_litRight a_litLevel a_trial a_parent a_label a_kept : Nat → Int32} {g_termLimit g_indexLimit g_literalLimit g_terms g_literals g_depth g_kept g_trialWidth g_keptWidth : Int32} {b_kind b_arrayArg b_indexArg b_elementArg b_equal b_left b_right b_level b_index b_cell b_digit : Nat → Int32} {nt TL IL LL nl dp hm : Nat} {K A I E Lq Ll Lr Lv : Nat → Nat}
theorem ar_in' {k ci : Nat} (e : ci = ar_ci K nt) (hT : ar_rT nt TL IL K A I E a_kind a_arrayArg a_indexArg a_elementArg a_indexTerm a_rank b_kind b_arrayArg b_indexArg b_elementArg)
    (hL : ar_rL nt nl LL dp K Lq Ll Lr Lv a_litEqual a_litLeft a_litRight a_litLevel b_equal b_left b_right b_level) (hM : ar_rM nt hm K f_keptWidth g_keptWidth a_kept b_index b_cell) :
    i_Rel k (nI TL, nI IL, nI LL, f_stride, nI nt, nI ci, nI nl, nI dp, f_trialWidth, nI hm, f_keptWidth, a_kind, a_arrayArg, a_indexArg, a_elementArg, a_indexTerm, a_rank, a_litEqual, a_litLeft, a_litRight, a_litLevel, a_trial, a_parent, a_label, a_kept) (nI TL, nI IL, nI LL, nI nt, nI nl, nI dp, nI hm, g_trialWidth, g_keptWidth, b_kind, b_arrayArg, b_indexArg, b_elementArg, b_equal, b_left, b_right, b_level, b_index, b_cell, b_digit) := by
  subst e
  exact ar_in hT hL hM
theorem xx_at {post : Int32 → SX → Prop} {p0 p1 p2 p3 : Int32} (hn : nt < 24)
    (H : post (nI nt) (f_termLimit, f_indexLimit, f_literalLimit, f_stride, nI (nt + 1), f_indexCount, f_literalCount, f_depth, f_trialWidth, f_hasModel, f_keptWidth, upd a_kind nt p0, upd a_arrayArg nt p1, upd a_indexArg nt p2, upd a_elementArg nt p3, a_indexTerm, a_rank, a_litEqual, a_litLeft, a_litRight, a_litLevel, a_trial, a_parent, a_label, a_kept)) : wpX_addTerm post (f_termLimit, f_indexLimit, f_literalLimit, f_stride, nI nt, f_indexCount, f_literalCount, f_depth, f_trialWidth, f_hasModel, f_keptWidth, a_kind, a_arrayArg, a_indexArg, a_elementArg, a_indexTerm, a_rank, a_litEqual, a_litLeft, a_litRight, a_litLevel, a_trial, a_parent, a_label, a_kept) p0 p1 p2 p3 := by
  have hin : vp_in (nI nt) 24 := vp_in_nI hn (by decide)
  have hc : (nI nt).toNatClampNeg = nt := nI_clamp (by omega)
  unfold wpX_addTerm
  refine ⟨hin, nm_r (e' := upd a_kind nt p0) (by rw [hc]) ⟨hin, nm_r (e' := upd a_arrayArg nt p1) (by rw [hc]) ⟨hin, nm_r (e' := upd a_indexArg nt p2) (by rw [hc]) ⟨hin, nm_r (e' := upd a_elementArg nt p3) (by rw [hc]) (nm_r (nI_1 nt) H)⟩⟩⟩⟩
theorem yy_at {post : Int32 → SY → Prop} {p0 p1 p2 p3 : Int32} (hn : nt < TL) (hT : TL ≤ 24)
    (H : post (nI nt) (nI TL, g_indexLimit, g_literalLimit, nI (nt + 1), g_literals, g_depth, g_kept, g_trialWidth, g_keptWidth, upd b_kind nt p0, upd b_arrayArg nt p1, upd b_indexArg nt p2, upd b_elementArg nt p3, b_equal, b_left, b_right, b_level, b_index, b_cell, b_digit)) : wpY_add post (nI TL, g_indexLimit, g_literalLimit, nI nt, g_literals, g_depth, g_kept, g_trialWidth, g_keptWidth, b_kind, b_arrayArg, b_indexArg, b_elementArg, b_equal, b_left, b_right, b_level, b_index, b_cell, b_digit) p0 p1 p2 p3 := by
  have hin : vp_in (nI nt) 24 := vp_in_nI (by omega) (by decide)
  have hc : (nI nt).toNatClampNeg = nt := nI_clamp (by omega)
  unfold wpY_add
  refine br_t (nI_lt hn (by omega)) ⟨hin, nm_r (e' := upd b_kind nt p0) (by rw [hc]) ⟨hin, nm_r (e' := upd b_arrayArg nt p1) (by rw [hc]) ⟨hin, nm_r (e' := upd b_indexArg nt p2) (by rw [hc]) ⟨hin, nm_r (e' := upd b_elementArg nt p3) (by rw [hc]) (nm_r (nI_1 nt) ?_)⟩⟩⟩⟩
  rw [nI_pred]
  exact H
theorem yy_atf {post : Int32 → SY → Prop} {p0 p1 p2 p3 : Int32} (hn : TL ≤ nt) (h : nt ≤ 24) (H : post (-2) (nI TL, g_indexLimit, g_literalLimit, nI nt, g_literals, g_depth, g_kept, g_trialWidth, g_keptWidth, b_kind, b_arrayArg, b_indexArg, b_elementArg, b_equal, b_left, b_right, b_level, b_index, b_cell, b_digit)) : wpY_add post (nI TL, g_indexLimit, g_literalLimit, nI nt, g_literals, g_depth, g_kept, g_trialWidth, g_keptWidth, b_kind, b_arrayArg, b_indexArg, b_elementArg, b_equal, b_left, b_right, b_level, b_index, b_cell, b_digit) p0 p1 p2 p3 := by
  unfold wpY_add
  exact br_f (nI_nlt hn (by omega)) H
theorem yy_co {post : Int32 → SY → Prop} {s : Nat} (hs : s ≤ 2) (H : wY_constant_16 post (nI s) g_termLimit g_indexLimit g_literalLimit g_terms g_literals g_depth g_kept g_trialWidth g_keptWidth b_kind b_arrayArg b_indexArg b_elementArg b_equal b_left b_right b_level b_index b_cell b_digit) : wpY_constant post (g_termLimit, g_indexLimit, g_literalLimit, g_terms, g_literals, g_depth, g_kept, g_trialWidth, g_keptWidth, b_kind, b_arrayArg, b_indexArg, b_elementArg, b_equal, b_left, b_right, b_level, b_index, b_cell, b_digit) (nI s) := by
  unfold wpY_constant
  exact pk_eq s 0 (fun _ => H) (fun e0 => pk_eq s 1 (fun _ => H) (fun e1 => pk_eq s 2 (fun _ => H) (fun e2 => absurd hs (by omega))))
theorem yy_con {post : Int32 → SY → Prop} {p : Int32} (hs : ∀ s, s ≤ 2 → ¬ p = nI s) (H : post (-1) (g_termLimit, g_indexLimit, g_literalLimit, g_terms, g_literals, g_depth, g_kept, g_trialWidth, g_keptWidth, b_kind, b_arrayArg, b_indexArg, b_elementArg, b_equal, b_left, b_right, b_level, b_index, b_cell, b_digit)) : wpY_constant post (g_termLimit, g_indexLimit, g_literalLimit, g_terms, g_literals, g_depth, g_kept, g_trialWidth, g_keptWidth, b_kind, b_arrayArg, b_indexArg, b_elementArg, b_equal, b_left, b_right, b_level, b_index, b_cell, b_digit) p := by
  unfold wpY_constant
  exact br_f (hs 0 (by omega)) (br_f (hs 1 (by omega)) (br_f (hs 2 (by omega)) H))
end
theorem ar_clamp (p : Int32) {lo hi : Nat} (h : lo ≤ hi) (hh : hi < 2 ^ 31) : ∃ j, lo ≤ j ∧ j ≤ hi ∧ ∀ B : Int32 → Prop, B (nI j) → ((nI lo ≤ p → ((p ≤ nI hi → B p) ∧ (¬ p ≤ nI hi → B (nI hi)))) ∧ (¬ nI lo ≤ p → B (nI lo))) := by
  by_cases h1 : nI lo ≤ p
  · by_cases h2 : p ≤ nI hi
    · have h0 : ¬ p < 0 := by
        intro z
        have := Int32.lt_of_le_of_lt h1 z
        exact nI_pos (by omega) this
      obtain ⟨j, hj, e⟩ := nI_of h0
      subst e
      exact ⟨j, (nI_leI (by omega) hj).mp h1, (nI_leI hj hh).mp h2, fun B hB => br_t h1 (br_t h2 hB)⟩
    · exact ⟨hi, h, Nat.le_refl _, fun B hB => br_t h1 (br_f h2 hB)⟩
  · exact ⟨lo, Nat.le_refl _, h, fun B hB => br_f h1 hB⟩
theorem xx_cl {f_termLimit f_indexLimit f_literalLimit f_stride f_termCount f_indexCount f_literalCount f_depth f_trialWidth f_hasModel f_keptWidth : Int32} {a_kind a_arrayArg a_indexArg a_elementArg a_indexTerm a_rank a_litEqual a_litLeft a_litRight a_litLevel a_trial a_parent a_label a_kept : Nat → Int32} {post : Int32 → Prop} {p : Int32} {lo hi j : Nat} (h : ∀ B : Int32 → Prop, B (nI j) → ((nI lo ≤ p → ((p ≤ nI hi → B p) ∧ (¬ p ≤ nI hi → B (nI hi)))) ∧ (¬ nI lo ≤ p → B (nI lo)))) (H : post (nI j)) : wpX_clamp post (f_termLimit, f_indexLimit, f_literalLimit, f_stride, f_termCount, f_indexCount, f_literalCount, f_depth, f_trialWidth, f_hasModel, f_keptWidth, a_kind, a_arrayArg, a_indexArg, a_elementArg, a_indexTerm, a_rank, a_litEqual, a_litLeft, a_litRight, a_litLevel, a_trial, a_parent, a_label, a_kept) p (nI lo) (nI hi) := by
  unfold wpX_clamp
  exact h post H
section
variable {g_termLimit g_indexLimit g_literalLimit g_terms g_literals g_depth g_kept g_trialWidth g_keptWidth : Int32} {b_kind b_arrayArg b_indexArg b_elementArg b_equal b_left b_right b_level b_index b_cell b_digit : Nat → Int32} {TL IL LL : Nat} {k0 k1 k2 : Int32}
theorem yy_i139 {post : SY → Prop} (c3 : ∀ B : Int32 → Prop, B (nI LL) → ((nI 4 ≤ k2 → ((k2 ≤ nI 16 → B k2) ∧ (¬ k2 ≤ nI 16 → B (nI 16)))) ∧ (¬ nI 4 ≤ k2 → B (nI 4)))) (H : post (g_termLimit, nI IL, nI LL, g_terms, g_literals, g_depth, g_kept, g_trialWidth, g_keptWidth, b_kind, b_arrayArg, b_indexArg, b_elementArg, b_equal, b_left, b_right, b_level, b_index, b_cell, b_digit)) : wY_init_139 post k2 (nI IL) g_termLimit g_indexLimit g_literalLimit g_terms g_literals g_depth g_kept g_trialWidth g_keptWidth b_kind b_arrayArg b_indexArg b_elementArg b_equal b_left b_right b_level b_index b_cell b_digit := by
  unfold wY_init_139
  exact c3 (fun z => post (g_termLimit, nI IL, z, g_terms, g_literals, g_depth, g_kept, g_trialWidth, g_keptWidth, b_kind, b_arrayArg, b_indexArg, b_elementArg, b_equal, b_left, b_right, b_level, b_index, b_cell, b_digit)) H
theorem yy_i116 {post : SY → Prop} (b3 : ∀ B : Int32 → Prop, B (nI IL) → ((nI 1 ≤ k1 → ((k1 ≤ nI 5 → B k1) ∧ (¬ k1 ≤ nI 5 → B (nI 5)))) ∧ (¬ nI 1 ≤ k1 → B (nI 1)))) (c3 : ∀ B : Int32 → Prop, B (nI LL) → ((nI 4 ≤ k2 → ((k2 ≤ nI 16 → B k2) ∧ (¬ k2 ≤ nI 16 → B (nI 16)))) ∧ (¬ nI 4 ≤ k2 → B (nI 4)))) (H : post (nI TL, nI IL, nI LL, g_terms, g_literals, g_depth, g_kept, g_trialWidth, g_keptWidth, b_kind, b_arrayArg, b_indexArg, b_elementArg, b_equal, b_left, b_right, b_level, b_index, b_cell, b_digit)) : wY_init_116 post k1 k2 (nI TL) g_termLimit g_indexLimit g_literalLimit g_terms g_literals g_depth g_kept g_trialWidth g_keptWidth b_kind b_arrayArg b_indexArg b_elementArg b_equal b_left b_right b_level b_index b_cell b_digit := by
  unfold wY_init_116
  exact b3 (fun z => wY_init_139 post k2 z (nI TL) g_indexLimit g_literalLimit g_terms g_literals g_depth g_kept g_trialWidth g_keptWidth b_kind b_arrayArg b_indexArg b_elementArg b_equal b_left b_right b_level b_index b_cell b_digit) (yy_i139 c3 H)
theorem yy_ini {post : SY → Prop} (a3 : ∀ B : Int32 → Prop, B (nI TL) → ((nI 8 ≤ k0 → ((k0 ≤ nI 24 → B k0) ∧ (¬ k0 ≤ nI 24 → B (nI 24)))) ∧ (¬ nI 8 ≤ k0 → B (nI 8)))) (b3 : ∀ B : Int32 → Prop, B (nI IL) → ((nI 1 ≤ k1 → ((k1 ≤ nI 5 → B k1) ∧ (¬ k1 ≤ nI 5 → B (nI 5)))) ∧ (¬ nI 1 ≤ k1 → B (nI 1)))) (c3 : ∀ B : Int32 → Prop, B (nI LL) → ((nI 4 ≤ k2 → ((k2 ≤ nI 16 → B k2) ∧ (¬ k2 ≤ nI 16 → B (nI 16)))) ∧ (¬ nI 4 ≤ k2 → B (nI 4)))) (H : post (nI TL, nI IL, nI LL, 0, 0, 0, 0, 0, 0, fun _ => 0, fun _ => 0, fun _ => 0, fun _ => 0, fun _ => 0, fun _ => 0, fun _ => 0, fun _ => 0, fun _ => 0, fun _ => 0, fun _ => 0)) : wpY_init post k0 k1 k2 := by
  unfold wpY_init
  exact a3 (fun z => wY_init_116 post k1 k2 z 0 0 0 0 0 0 0 0 0 (fun _ => 0) (fun _ => 0) (fun _ => 0) (fun _ => 0) (fun _ => 0) (fun _ => 0) (fun _ => 0) (fun _ => 0) (fun _ => 0) (fun _ => 0) (fun _ => 0)) (yy_i116 b3 c3 H)
end
theorem i_vc0 (k0 : Int32) (k1 : Int32) (k2 : Int32) : wpX_init (fun u => wpY_init (fun v => i_Rel 3 u v) k0 k1 k2) k0 k1 k2 := by
  obtain ⟨TL, a1, a2, a3⟩ := ar_clamp k0 (lo := 8) (hi := 24) (by omega) (by omega)
  obtain ⟨IL, b1, b2, b3⟩ := ar_clamp k1 (lo := 1) (hi := 5) (by omega) (by omega)
  obtain ⟨LL, c1, c2, c3⟩ := ar_clamp k2 (lo := 4) (hi := 16) (by omega) (by omega)
  unfold wpX_init
  refine xx_cl a3 ?_
  refine xx_cl b3 ?_
  refine xx_cl c3 ?_
  refine yy_ini a3 b3 c3 ?_
  refine ar_in (nt := 0) (nl := 0) (dp := 0) (hm := 0) (K := fun _ => 0) (A := fun _ => 0) (I := fun _ => 0) (E := fun _ => 0) (Lq := fun _ => 0) (Ll := fun _ => 0) (Lr := fun _ => 0) (Lv := fun _ => 0) ?_ ?_ ar_rM_0
  · exact ⟨by omega, a2, b2, Nat.zero_le _, fun t ht => absurd ht (Nat.not_lt_zero t), fun t ht => absurd ht (Nat.not_lt_zero t), fun t ht => absurd ht (Nat.not_lt_zero t), fun t ht => absurd ht (Nat.not_lt_zero t), fun t ht => absurd ht (Nat.not_lt_zero t)⟩
  · exact ⟨by omega, c2, by omega, fun t ht => absurd ht (Nat.not_lt_zero t), fun t ht => absurd ht (Nat.not_lt_zero t), fun t ht => absurd ht (Nat.not_lt_zero t), fun l m _ hm => absurd hm (Nat.not_lt_zero m)⟩
theorem i_vc_constant {k : Nat} {u : SX} {v : SY} (I : i_Rel k u v) (hk : k + 4 ≤ 2051) (v1 : Int32) : wpX_constant (fun r u' => wpY_constant (fun r' v' => r' = r ∧ i_Rel (k + 4) u' v') v v1) u v1 := by
  refine ar_el (Q := fun u v => wpX_constant (fun r u' => wpY_constant (fun r' v' => r' = r ∧ i_Rel (k + 4) u' v') v v1) u v1) ?_ I
  intro nt TL IL LL nl dp hm K A I E Lq Ll Lr Lv f_stride f_trialWidth f_keptWidth a_kind a_arrayArg a_indexArg a_elementArg a_indexTerm a_rank a_litEqual a_litLeft a_litRight a_litLevel a_trial a_parent a_label a_kept g_trialWidth g_keptWidth b_kind b_arrayArg b_indexArg b_elementArg b_equal b_left b_right b_level b_index b_cell b_digit hT hL hM
  have hT' := hT
  obtain ⟨t1, t2, t3, t4, t5, t6, t7, t8, t9⟩ := hT'
  unfold wpX_constant
  by_cases hneg : v1 < 0
  · refine br_t hneg (yy_con (fun s hs e => ?_) ⟨rfl, ar_in hT hL hM⟩)
    rw [e] at hneg
    exact nI_pos (by omega) hneg
  · refine br_f hneg ?_
    by_cases h2 : v1 ≤ 2
    · obtain ⟨s, hs, e⟩ := nI_of2 (M := 2) (n := 2) (by decide) hneg h2
      subst e
      refine br_t h2 (pk_lt nt TL (fun hlt => ?_) (fun hge => ?_))
      · refine pk_eq s 0 (fun e => ?_) (fun e => ?_)
        · subst e
          refine pk_lt (ar_ci K nt) IL (fun hil => ?_) (fun hil => ?_)
          · unfold wX_constant_43
            refine br_t rfl ⟨vp_in_nI (by omega) (by decide), nm_r (e' := upd a_indexTerm (ar_ci K nt) (nI nt)) (by rw [nI_clamp (by omega)]) ⟨vp_in_nI (by omega) (by decide), nm_r (e' := upd a_rank nt (nI (ar_ci K nt))) (by rw [nI_clamp (by omega)]) (nm_r (nI_1 _) ?_)⟩⟩
            unfold wX_constant_83
            refine xx_at (by omega) ?_
            refine yy_co hs ?_
            unfold wY_constant_16
            refine br_t (nI_lt hlt (by omega)) (br_t rfl (yy_ic (by omega) t7 t5 (br_t (nI_lt hil (by omega)) ?_)))
            unfold wY_constant_48
            refine yy_at hlt t2 ⟨rfl, ?_⟩
            exact ar_in' (hm := 0) (by rw [ar_ci_add1, if_pos rfl]) (ar_rT_add0 hT hlt hil) (ar_rL_t hL) ar_rM_0
          · refine yy_co hs ?_
            unfold wY_constant_16
            exact br_t (nI_lt hlt (by omega)) (br_t rfl (yy_ic (by omega) t7 t5 (br_f (nI_nlt hil (by omega)) ⟨rfl, ar_in hT hL hM⟩)))
        · have ne : ¬ nI s = 0 := nI_ne0 (by omega) (by omega)
          unfold wX_constant_43
          refine br_f ne ?_
          unfold wX_constant_83
          refine xx_at (by omega) ?_
          refine yy_co hs ?_
          unfold wY_constant_16
          refine br_t (nI_lt hlt (by omega)) (br_f ne ?_)
          unfold wY_constant_48
          refine yy_at hlt t2 ⟨rfl, ?_⟩
          exact ar_in' (hm := 0) (by rw [ar_ci_add1, if_neg e]) (ar_rT_addn (a := 0) (i := 0) (e := 0) hT hlt e (by omega) (fun z => absurd z (by omega)) (fun z => absurd z (by omega)) (fun z => absurd z (by omega)) (fun z => absurd z (by omega)) (fun z => absurd z (by omega)) (fun z => absurd z (by omega)) (fun _ => ⟨rfl, rfl⟩) (fun _ => rfl)) (ar_rL_t hL) ar_rM_0
      · refine yy_co hs ?_
        unfold wY_constant_16
        exact br_f (nI_nlt hge (by omega)) ⟨rfl, ar_in hT hL hM⟩
    · refine br_f h2 (yy_con (fun s hs e => ?_) ⟨rfl, ar_in hT hL hM⟩)
      rw [e] at h2
      exact h2 (nI_le (b := 2) hs (by omega))
theorem i_vc_read {k : Nat} {u : SX} {v : SY} (I : i_Rel k u v) (hk : k + 4 ≤ 2051) (v1 : Int32) (v2 : Int32) : wpX_read (fun r u' => wpY_read (fun r' v' => r' = r ∧ i_Rel (k + 4) u' v') v v1 v2) u v1 v2 := by
  refine ar_el (Q := fun u v => wpX_read (fun r u' => wpY_read (fun r' v' => r' = r ∧ i_Rel (k + 4) u' v') v v1 v2) u v1 v2) ?_ I
  intro nt TL IL LL nl dp hm K A I E Lq Ll Lr Lv f_stride f_trialWidth f_keptWidth a_kind a_arrayArg a_indexArg a_elementArg a_indexTerm a_rank a_litEqual a_litLeft a_litRight a_litLevel a_trial a_parent a_label a_kept g_trialWidth g_keptWidth b_kind b_arrayArg b_indexArg b_elementArg b_equal b_left b_right b_level b_index b_cell b_digit hT hL hM
  have hT' := hT
  obtain ⟨t1, t2, t3, t4, t5, t6, t7, t8, t9⟩ := hT'
  have hn : nt ≤ 24 := by omega
  unfold wpX_read
  refine xx_hs (s := 2) (by omega) hn t6 t5 (fun h1 => br_f (by decide) ?_) (fun h1 => br_t rfl ?_)
  · refine xx_hs (s := 0) (by omega) hn t6 t5 (fun h2 => br_f (by decide) ?_) (fun h2 => br_t rfl ?_)
    · refine pk_lt nt TL (fun hlt => ?_) (fun hge => ?_)
      · refine xx_at (by omega) ?_
        unfold wpY_read
        refine yy_hs (s := 2) (by omega) hn t7 t5 (fun _ => ?_) (fun z => absurd h1 z)
        refine yy_hs (s := 0) (by omega) hn t7 t5 (fun _ => ?_) (fun z => absurd h2 z)
        refine yy_at hlt t2 ⟨rfl, ?_⟩
        obtain ⟨a, a1, a2, a3⟩ := h1
        obtain ⟨i, i1, i2, i3⟩ := h2
        exact ar_in' (by rw [ar_ci_add1, if_neg (by omega)]) (ar_rT_addn (kd := 3) (a := a) (i := i) (e := 0) hT hlt (by omega) (by omega) (fun _ => ⟨a1, a3, i1, ar_so0.mp i3⟩) (fun z => absurd z (by omega)) (fun _ => ⟨a2, i2⟩) (fun z => absurd z (by omega)) (fun _ => ⟨a2, i2⟩) (fun z => absurd z (by omega)) (fun z => absurd z (by omega)) (fun _ => rfl)) (ar_rL_t hL) (ar_rM_t (by omega) hM)
      · unfold wpY_read
        refine yy_hs (s := 2) (by omega) hn t7 t5 (fun _ => ?_) (fun z => absurd h1 z)
        refine yy_hs (s := 0) (by omega) hn t7 t5 (fun _ => ?_) (fun z => absurd h2 z)
        exact yy_atf hge hn ⟨rfl, ar_in hT hL hM⟩
    · unfold wpY_read
      refine yy_hs (s := 2) (by omega) hn t7 t5 (fun _ => ?_) (fun z => absurd h1 z)
      exact yy_hs (s := 0) (by omega) hn t7 t5 (fun z => absurd z h2) (fun _ => ⟨rfl, ar_in hT hL hM⟩)
  · unfold wpY_read
    exact yy_hs (s := 2) (by omega) hn t7 t5 (fun z => absurd z h1) (fun _ => ⟨rfl, ar_in hT hL hM⟩)
theorem i_vc_write {k : Nat} {u : SX} {v : SY} (I : i_Rel k u v) (hk : k + 4 ≤ 2051) (v1 : Int32) (v2 : Int32) (v3 : Int32) : wpX_write (fun r u' => wpY_write (fun r' v' => r' = r ∧ i_Rel (k + 4) u' v') v v1 v2 v3) u v1 v2 v3 := by
  refine ar_el (Q := fun u v => wpX_write (fun r u' => wpY_write (fun r' v' => r' = r ∧ i_Rel (k + 4) u' v') v v1 v2 v3) u v1 v2 v3) ?_ I
  intro nt TL IL LL nl dp hm K A I E Lq Ll Lr Lv f_stride f_trialWidth f_keptWidth a_kind a_arrayArg a_indexArg a_elementArg a_indexTerm a_rank a_litEqual a_litLeft a_litRight a_litLevel a_trial a_parent a_label a_kept g_trialWidth g_keptWidth b_kind b_arrayArg b_indexArg b_elementArg b_equal b_left b_right b_level b_index b_cell b_digit hT hL hM
  have hT' := hT
  obtain ⟨t1, t2, t3, t4, t5, t6, t7, t8, t9⟩ := hT'
  have hn : nt ≤ 24 := by omega
  unfold wpX_write
  refine xx_hs (s := 2) (by omega) hn t6 t5 (fun h1 => br_f (by decide) ?_) (fun h1 => br_t rfl ?_)
  · refine xx_hs (s := 0) (by omega) hn t6 t5 (fun h2 => br_f (by decide) ?_) (fun h2 => br_t rfl ?_)
    · refine xx_hs (s := 1) (by omega) hn t6 t5 (fun h3 => br_f (by decide) ?_) (fun h3 => br_t rfl ?_)
      · refine pk_lt nt TL (fun hlt => ?_) (fun hge => ?_)
        · refine xx_at (by omega) ?_
          unfold wpY_write
          refine yy_hs (s := 2) (by omega) hn t7 t5 (fun _ => ?_) (fun z => absurd h1 z)
          refine yy_hs (s := 0) (by omega) hn t7 t5 (fun _ => ?_) (fun z => absurd h2 z)
          refine yy_hs (s := 1) (by omega) hn t7 t5 (fun _ => ?_) (fun z => absurd h3 z)
          refine yy_at hlt t2 ⟨rfl, ?_⟩
          obtain ⟨a, a1, a2, a3⟩ := h1
          obtain ⟨i, i1, i2, i3⟩ := h2
          obtain ⟨e, e1, e2, e3⟩ := h3
          exact ar_in' (by rw [ar_ci_add1, if_neg (by omega)]) (ar_rT_addn (kd := 4) (a := a) (i := i) (e := e) hT hlt (by omega) (by omega) (fun _ => ⟨a1, a3, i1, ar_so0.mp i3⟩) (fun _ => ⟨e1, e3⟩) (fun _ => ⟨a2, i2⟩) (fun _ => e2) (fun _ => ⟨a2, i2⟩) (fun _ => e2) (fun z => absurd z (by omega)) (fun z => absurd rfl z)) (ar_rL_t hL) (ar_rM_t (by omega) hM)
        · unfold wpY_write
          refine yy_hs (s := 2) (by omega) hn t7 t5 (fun _ => ?_) (fun z => absurd h1 z)
          refine yy_hs (s := 0) (by omega) hn t7 t5 (fun _ => ?_) (fun z => absurd h2 z)
          refine yy_hs (s := 1) (by omega) hn t7 t5 (fun _ => ?_) (fun z => absurd h3 z)
          exact yy_atf hge hn ⟨rfl, ar_in hT hL hM⟩
      · unfold wpY_write
        refine yy_hs (s := 2) (by omega) hn t7 t5 (fun _ => ?_) (fun z => absurd h1 z)
        refine yy_hs (s := 0) (by omega) hn t7 t5 (fun _ => ?_) (fun z => absurd h2 z)
        exact yy_hs (s := 1) (by omega) hn t7 t5 (fun z => absurd z h3) (fun _ => ⟨rfl, ar_in hT hL hM⟩)
    · unfold wpY_write
      refine yy_hs (s := 2) (by omega) hn t7 t5 (fun _ => ?_) (fun z => absurd h1 z)
      exact yy_hs (s := 0) (by omega) hn t7 t5 (fun z => absurd z h2) (fun _ => ⟨rfl, ar_in hT hL hM⟩)
  · unfold wpY_write
    exact yy_hs (s := 2) (by omega) hn t7 t5 (fun z => absurd z h1) (fun _ => ⟨rfl, ar_in hT hL hM⟩)
end
section
/-! parts, literals, scopes, counts -/
section
variable {f_termLimit f_indexLimit f_literalLimit f_stride f_termCount f_indexCount f_literalCount f_depth f_trialWidth f_hasModel f_keptWidth : Int32} {a_kind a_arrayArg a_indexArg a_elementArg a_indexTerm a_rank a_litEqual a_litLeft a_litRight a_litLevel a_trial a_parent a_label a_kept : Nat → Int32} {g_termLimit g_indexLimit g_literalLimit g_terms g_literals g_depth g_kept g_trialWidth g_keptWidth : Int32} {b_kind b_arrayArg b_indexArg b_elementArg b_equal b_left b_right b_level b_index b_cell b_digit : Nat → Int32} {nt TL IL LL nl dp hm : Nat} {K A I E Lq Ll Lr Lv : Nat → Nat}
theorem yy_cp {A1 A0 : Prop} {p q : Int32} (hn : nt ≤ 24) (hm : ar_tm nt K A I E b_kind b_arrayArg b_indexArg b_elementArg) (hw : ar_tw nt K A I E)
    (h1 : ar_cp nt K p q → A1) (h0 : ¬ ar_cp nt K p q → A0) :
    wpY_isTerm (fun r => ((r = 0 → A0) ∧ (¬ r = 0 → wpY_isTerm (fun r2 => ((r2 = 0 → A0) ∧ (¬ r2 = 0 → wpY_sortOf (fun r3 => wpY_sortOf (fun r4 => ((r3 = r4 → A1) ∧ (¬ r3 = r4 → A0))) (g_termLimit, g_indexLimit, g_literalLimit, nI nt, g_literals, g_depth, g_kept, g_trialWidth, g_keptWidth, b_kind, b_arrayArg, b_indexArg, b_elementArg, b_equal, b_left, b_right, b_level, b_index, b_cell, b_digit) q) (g_termLimit, g_indexLimit, g_literalLimit, nI nt, g_literals, g_depth, g_kept, g_trialWidth, g_keptWidth, b_kind, b_arrayArg, b_indexArg, b_elementArg, b_equal, b_left, b_right, b_level, b_index, b_cell, b_digit) p))) (g_termLimit, g_indexLimit, g_literalLimit, nI nt, g_literals, g_depth, g_kept, g_trialWidth, g_keptWidth, b_kind, b_arrayArg, b_indexArg, b_elementArg, b_equal, b_left, b_right, b_level, b_index, b_cell, b_digit) q))) (g_termLimit, g_indexLimit, g_literalLimit, nI nt, g_literals, g_depth, g_kept, g_trialWidth, g_keptWidth, b_kind, b_arrayArg, b_indexArg, b_elementArg, b_equal, b_left, b_right, b_level, b_index, b_cell, b_digit) p := by
  rcases ar_tix p hn with h | ⟨t, ht, e⟩
  · refine yy_isn h (br_t rfl (h0 ?_))
    intro ⟨t, _, t1, _, t2, _⟩
    exact ar_tno hn h t1 t2
  · subst e
    refine yy_isy hn ht (br_f (by decide) ?_)
    rcases ar_tix q hn with h | ⟨u, hu, e⟩
    · refine yy_isn h (br_t rfl (h0 ?_))
      intro ⟨_, t, _, t1, _, t2, _⟩
      exact ar_tno hn h t1 t2
    · subst e
      have hb := ar_so_le (hw t ht).1
      have hc := ar_so_le (hw u hu).1
      refine yy_isy hn hu (br_f (by decide) (yy_so hn hm hw ht (yy_so hn hm hw hu ?_)))
      refine pk_eq (ar_so (K t)) (ar_so (K u)) (fun e => h1 ⟨t, u, ht, hu, rfl, rfl, e⟩) (fun e => h0 ?_)
      intro ⟨a, b, a1, b1, a2, b2, ab⟩
      rw [ar_inj a2 (by omega) (by omega), ar_inj b2 (by omega) (by omega)] at e
      exact e ab
theorem xx_sl {post : SX → Prop} {n q : Nat} {p1 p2 p3 : Int32} (hn : n < 17) (hq : vp_nar .boolean p1 = nI q)
    (H : post (f_termLimit, f_indexLimit, f_literalLimit, f_stride, f_termCount, f_indexCount, f_literalCount, f_depth, f_trialWidth, f_hasModel, f_keptWidth, a_kind, a_arrayArg, a_indexArg, a_elementArg, a_indexTerm, a_rank, upd a_litEqual n (nI q), upd a_litLeft n p2, upd a_litRight n p3, upd a_litLevel n f_depth, a_trial, a_parent, a_label, a_kept)) : wpX_setLiteral post (f_termLimit, f_indexLimit, f_literalLimit, f_stride, f_termCount, f_indexCount, f_literalCount, f_depth, f_trialWidth, f_hasModel, f_keptWidth, a_kind, a_arrayArg, a_indexArg, a_elementArg, a_indexTerm, a_rank, a_litEqual, a_litLeft, a_litRight, a_litLevel, a_trial, a_parent, a_label, a_kept) (nI n) p1 p2 p3 := by
  have hin : vp_in (nI n) 17 := vp_in_nI hn (by decide)
  have hc : (nI n).toNatClampNeg = n := nI_clamp (by omega)
  unfold wpX_setLiteral
  exact ⟨hin, nm_r (e' := upd a_litEqual n (nI q)) (by rw [hc, hq]) ⟨hin, nm_r (e' := upd a_litLeft n p2) (by rw [hc]) ⟨hin, nm_r (e' := upd a_litRight n p3) (by rw [hc]) ⟨hin, nm_r (e' := upd a_litLevel n f_depth) (by rw [hc]) H⟩⟩⟩⟩
theorem ar_bz (x : Int32) : ∃ q, q ≤ 1 ∧ vp_nar .boolean (lw_bz x) = nI q := by
  rcases lw_bz_01 x with h | h
  · exact ⟨0, by omega, by rw [h]; exact ar_nb0⟩
  · exact ⟨1, by omega, by rw [h]; exact ar_nb1⟩
end
theorem i_vc_termPart {k : Nat} {u : SX} {v : SY} (I : i_Rel k u v) (hk : k + 4 ≤ 2051) (v1 : Int32) (v2 : Int32) : wpX_termPart (fun r => wpY_termPart (fun r' => r' = r ∧ i_Rel (k + 4) u v) v v1 v2) u v1 v2 := by
  refine ar_el (Q := fun u v => wpX_termPart (fun r => wpY_termPart (fun r' => r' = r ∧ i_Rel (k + 4) u v) v v1 v2) u v1 v2) ?_ I
  intro nt TL IL LL nl dp hm K A I E Lq Ll Lr Lv f_stride f_trialWidth f_keptWidth a_kind a_arrayArg a_indexArg a_elementArg a_indexTerm a_rank a_litEqual a_litLeft a_litRight a_litLevel a_trial a_parent a_label a_kept g_trialWidth g_keptWidth b_kind b_arrayArg b_indexArg b_elementArg b_equal b_left b_right b_level b_index b_cell b_digit hT hL hM
  have hT' := hT
  obtain ⟨t1, t2, t3, t4, t5, t6, t7, t8, t9⟩ := hT'
  have hn : nt ≤ 24 := by omega
  have hR : i_Rel (k + 4) (nI TL, nI IL, nI LL, f_stride, nI nt, nI (ar_ci K nt), nI nl, nI dp, f_trialWidth, nI hm, f_keptWidth, a_kind, a_arrayArg, a_indexArg, a_elementArg, a_indexTerm, a_rank, a_litEqual, a_litLeft, a_litRight, a_litLevel, a_trial, a_parent, a_label, a_kept) (nI TL, nI IL, nI LL, nI nt, nI nl, nI dp, nI hm, g_trialWidth, g_keptWidth, b_kind, b_arrayArg, b_indexArg, b_elementArg, b_equal, b_left, b_right, b_level, b_index, b_cell, b_digit) := ar_in hT hL hM
  unfold wpX_termPart
  rcases ar_tix v1 hn with h | ⟨t, ht, e⟩
  · refine xx_isn h (br_t rfl ?_)
    unfold wpY_termPart
    exact yy_isn h (br_t rfl ⟨rfl, hR⟩)
  · subst e
    have hin : vp_in (nI t) 24 := vp_in_nI (by omega) (by decide)
    obtain ⟨x1, x2, x3⟩ := t6 t ht
    obtain ⟨y1, y2, y3⟩ := t7 t ht
    obtain ⟨z1, z2⟩ := t8 t ht
    have w4 := (t5 t ht).1
    have rx1 := ar_rd (t := t) (by omega) x1
    have ry1 := ar_rd (t := t) (by omega) y1
    -- the reference's own walk for each part
    have Y : ∀ Q : Int32 → Prop, (v2 = 0 → Q (nI (K t))) → (v2 = 1 → Q (nI (ar_so (K t)))) → (v2 = 2 → Q (b_arrayArg t)) → (v2 = 3 → Q (b_indexArg t)) → (v2 = 4 → Q (b_elementArg t)) → (¬ v2 = 0 → ¬ v2 = 1 → ¬ v2 = 2 → ¬ v2 = 3 → ¬ v2 = 4 → Q (-1)) → wpY_termPart Q (nI TL, nI IL, nI LL, nI nt, nI nl, nI dp, nI hm, g_trialWidth, g_keptWidth, b_kind, b_arrayArg, b_indexArg, b_elementArg, b_equal, b_left, b_right, b_level, b_index, b_cell, b_digit) (nI t) v2 := by
      intro Q q0 q1 q2 q3 q4 q5
      unfold wpY_termPart
      refine yy_isy hn ht (br_f (by decide) (br_c (fun e => ⟨hin, ?_⟩) (fun e0 => br_c (fun e => ?_) (fun e1 => br_c (fun e => ⟨hin, ?_⟩) (fun e2 => br_c (fun e => ⟨hin, ?_⟩) (fun e3 => br_c (fun e => ⟨hin, ?_⟩) (fun e4 => ?_)))))))
      · rw [ry1]; exact q0 e
      · exact yy_so hn t7 t5 ht (q1 e)
      · rw [nI_clamp (by omega)]; exact q2 e
      · rw [nI_clamp (by omega)]; exact q3 e
      · rw [nI_clamp (by omega)]; exact q4 e
      · exact q5 e0 e1 e2 e3 e4
    refine xx_isy hn ht (br_f (by decide) (br_c (fun e => ⟨hin, ?_⟩) (fun e0 => br_c (fun e => ?_) (fun e1 => ?_))))
    · subst e
      rw [rx1]
      exact Y _ (fun _ => ⟨rfl, hR⟩) (fun z => absurd z (by decide)) (fun z => absurd z (by decide)) (fun z => absurd z (by decide)) (fun z => absurd z (by decide)) (fun z => absurd rfl z)
    · subst e
      refine xx_so hn t6 t5 ht ?_
      exact Y _ (fun z => absurd z (by decide)) (fun _ => ⟨rfl, hR⟩) (fun z => absurd z (by decide)) (fun z => absurd z (by decide)) (fun z => absurd z (by decide)) (fun _ z => absurd rfl z)
    · by_cases e2 : v2 = 2
      · subst e2
        refine br_t rfl ⟨hin, pk_lt (K t) 3 (fun h3 => ?_) (fun h3 => ⟨hin, ?_⟩) rx1⟩
        · unfold wX_termPart_54 wX_termPart_76
          refine br_f (by decide) (br_f (by decide) ?_)
          exact Y _ (fun z => absurd z (by decide)) (fun z => absurd z (by decide)) (fun _ => ⟨(z1 h3).1, hR⟩) (fun z => absurd z (by decide)) (fun z => absurd z (by decide)) (fun _ _ z => absurd rfl z)
        · rw [nI_clamp (by omega)]
          exact Y _ (fun z => absurd z (by decide)) (fun z => absurd z (by decide)) (fun _ => ⟨(y2 h3).1.trans (x2 h3).1.symm, hR⟩) (fun z => absurd z (by decide)) (fun z => absurd z (by decide)) (fun _ _ z => absurd rfl z)
      · refine br_f e2 ?_
        unfold wX_termPart_54
        by_cases e3 : v2 = 3
        · subst e3
          refine br_t rfl ⟨hin, pk_lt (K t) 3 (fun h3 => ?_) (fun h3 => ⟨hin, ?_⟩) rx1⟩
          · unfold wX_termPart_76
            refine br_f (by decide) ?_
            exact Y _ (fun z => absurd z (by decide)) (fun z => absurd z (by decide)) (fun z => absurd z (by decide)) (fun _ => ⟨(z1 h3).2, hR⟩) (fun z => absurd z (by decide)) (fun _ _ _ z => absurd rfl z)
          · rw [nI_clamp (by omega)]
            exact Y _ (fun z => absurd z (by decide)) (fun z => absurd z (by decide)) (fun z => absurd z (by decide)) (fun _ => ⟨(y2 h3).2.trans (x2 h3).2.symm, hR⟩) (fun z => absurd z (by decide)) (fun _ _ _ z => absurd rfl z)
        · refine br_f e3 ?_
          unfold wX_termPart_76
          by_cases e4 : v2 = 4
          · subst e4
            refine br_t rfl ⟨hin, pk_eq (K t) 4 (fun h3 => ⟨hin, ?_⟩) (fun h3 => ?_) rx1⟩
            · rw [nI_clamp (by omega)]
              exact Y _ (fun z => absurd z (by decide)) (fun z => absurd z (by decide)) (fun z => absurd z (by decide)) (fun z => absurd z (by decide)) (fun _ => ⟨(y3 h3).trans (x3 h3).symm, hR⟩) (fun _ _ _ _ z => absurd rfl z)
            · exact Y _ (fun z => absurd z (by decide)) (fun z => absurd z (by decide)) (fun z => absurd z (by decide)) (fun z => absurd z (by decide)) (fun _ => ⟨z2 h3, hR⟩) (fun _ _ _ _ z => absurd rfl z)
          · exact br_f e4 (Y _ (fun z => absurd z e0) (fun z => absurd z e1) (fun z => absurd z e2) (fun z => absurd z e3) (fun z => absurd z e4) (fun _ _ _ _ _ => ⟨rfl, hR⟩))
theorem i_vc_assertLiteral {k : Nat} {u : SX} {v : SY} (I : i_Rel k u v) (hk : k + 4 ≤ 2051) (v1 : Int32) (v2 : Int32) (v3 : Int32) : wpX_assertLiteral (fun r u' => wpY_assertLiteral (fun r' v' => r' = r ∧ i_Rel (k + 4) u' v') v (lw_bz v1) v2 v3) u (lw_bz v1) v2 v3 := by
  refine ar_el (Q := fun u v => wpX_assertLiteral (fun r u' => wpY_assertLiteral (fun r' v' => r' = r ∧ i_Rel (k + 4) u' v') v (lw_bz v1) v2 v3) u (lw_bz v1) v2 v3) ?_ I
  intro nt TL IL LL nl dp hm K A I E Lq Ll Lr Lv f_stride f_trialWidth f_keptWidth a_kind a_arrayArg a_indexArg a_elementArg a_indexTerm a_rank a_litEqual a_litLeft a_litRight a_litLevel a_trial a_parent a_label a_kept g_trialWidth g_keptWidth b_kind b_arrayArg b_indexArg b_elementArg b_equal b_left b_right b_level b_index b_cell b_digit hT hL hM
  have hT' := hT
  obtain ⟨t1, t2, t3, t4, t5, t6, t7, t8, t9⟩ := hT'
  have hL' := hL
  obtain ⟨l1, l2, l3, l4, l5, l6, l7⟩ := hL'
  have hn : nt ≤ 24 := by omega
  obtain ⟨q, q1, q2⟩ := ar_bz v1
  unfold wpX_assertLiteral
  refine xx_cp hn t6 t5 (fun hc => br_f (by decide) ?_) (fun hc => br_t rfl ?_)
  · refine pk_lt nl LL (fun hlt => ?_) (fun hge => ?_)
    · refine xx_sl (by omega) q2 (nm_r (nI_1 nl) ?_)
      rw [nI_pred nl]
      unfold wpY_assertLiteral
      refine yy_cp hn t7 t5 (fun _ => ?_) (fun z => absurd hc z)
      have hin : vp_in (nI nl) 17 := vp_in_nI (by omega) (by decide)
      have hcl : (nI nl).toNatClampNeg = nl := nI_clamp (by omega)
      refine br_t (nI_lt hlt (by omega)) ⟨hin, nm_r (e' := upd b_equal nl (nI q)) (by rw [hcl, q2]) ⟨hin, nm_r (e' := upd b_left nl v2) (by rw [hcl]) ⟨hin, nm_r (e' := upd b_right nl v3) (by rw [hcl]) ⟨hin, nm_r (e' := upd b_level nl (nI dp)) (by rw [hcl]) (nm_r (nI_1 nl) ?_)⟩⟩⟩⟩
      rw [nI_pred nl]
      obtain ⟨t, u, ht, hu, e1, e2, hs⟩ := hc
      subst e1 e2
      refine ⟨rfl, ar_in (Lv := ar_up Lv nl dp) hT ⟨hlt, l2, l3, ar_lm_add l4 q1 ht hu hs, ar_lm_add l5 q1 ht hu hs, fun l hl => ?_, fun l m hlm hm => ?_⟩ hM⟩
      · by_cases e : l = nl
        · rw [e, pk_us, pk_us, ar_us]; exact ⟨rfl, rfl, Nat.le_refl _⟩
        · rw [pk_un e, pk_un e, ar_un e]; exact l6 l (by omega)
      · by_cases e : m = nl
        · rw [e, ar_us]
          by_cases e2 : l = nl
          · rw [e2, ar_us]; exact Nat.le_refl _
          · rw [ar_un e2]; exact (l6 l (by omega)).2.2
        · rw [ar_un e, ar_un (by omega)]; exact l7 l m hlm (by omega)
    · unfold wpY_assertLiteral
      refine yy_cp hn t7 t5 (fun _ => ?_) (fun z => absurd hc z)
      exact br_f (nI_nlt hge (by omega)) ⟨rfl, ar_in hT hL hM⟩
  · unfold wpY_assertLiteral
    exact yy_cp hn t7 t5 (fun z => absurd z hc) (fun _ => ⟨rfl, ar_in hT hL hM⟩)
theorem i_vc_literalPart {k : Nat} {u : SX} {v : SY} (I : i_Rel k u v) (hk : k + 4 ≤ 2051) (v1 : Int32) (v2 : Int32) : wpX_literalPart (fun r => wpY_literalPart (fun r' => r' = r ∧ i_Rel (k + 4) u v) v v1 v2) u v1 v2 := by
  refine ar_el (Q := fun u v => wpX_literalPart (fun r => wpY_literalPart (fun r' => r' = r ∧ i_Rel (k + 4) u v) v v1 v2) u v1 v2) ?_ I
  intro nt TL IL LL nl dp hm K A I E Lq Ll Lr Lv f_stride f_trialWidth f_keptWidth a_kind a_arrayArg a_indexArg a_elementArg a_indexTerm a_rank a_litEqual a_litLeft a_litRight a_litLevel a_trial a_parent a_label a_kept g_trialWidth g_keptWidth b_kind b_arrayArg b_indexArg b_elementArg b_equal b_left b_right b_level b_index b_cell b_digit hT hL hM
  have hR : i_Rel (k + 4) (nI TL, nI IL, nI LL, f_stride, nI nt, nI (ar_ci K nt), nI nl, nI dp, f_trialWidth, nI hm, f_keptWidth, a_kind, a_arrayArg, a_indexArg, a_elementArg, a_indexTerm, a_rank, a_litEqual, a_litLeft, a_litRight, a_litLevel, a_trial, a_parent, a_label, a_kept) (nI TL, nI IL, nI LL, nI nt, nI nl, nI dp, nI hm, g_trialWidth, g_keptWidth, b_kind, b_arrayArg, b_indexArg, b_elementArg, b_equal, b_left, b_right, b_level, b_index, b_cell, b_digit) := ar_in hT hL hM
  obtain ⟨l1, l2, l3, l4, l5, l6, l7⟩ := hL
  unfold wpX_literalPart
  by_cases hneg : v1 < 0
  · refine br_t hneg ?_
    unfold wpY_literalPart
    exact br_t hneg ⟨rfl, hR⟩
  · obtain ⟨j, hj, e⟩ := nI_of hneg
    subst e
    refine br_f hneg (pk_lt j nl (fun hlt => ?_) (fun hge => ?_))
    · obtain ⟨x1, x2, x3, x4, x5, x6, x7⟩ := l4 j hlt
      obtain ⟨y1, y2, y3, _⟩ := l5 j hlt
      obtain ⟨z1, z2, z3⟩ := l6 j hlt
      have hin : vp_in (nI j) 17 := vp_in_nI (by omega) (by decide)
      have Y : ∀ Q : Int32 → Prop, (v2 = 0 → Q (nI (Lq j))) → (v2 = 1 → Q (nI (Ll j))) → (v2 = 2 → Q (nI (Lr j))) → (v2 = 3 → Q (nI (Lv j))) → (¬ v2 = 0 → ¬ v2 = 1 → ¬ v2 = 2 → ¬ v2 = 3 → Q (-1)) → wpY_literalPart Q (nI TL, nI IL, nI LL, nI nt, nI nl, nI dp, nI hm, g_trialWidth, g_keptWidth, b_kind, b_arrayArg, b_indexArg, b_elementArg, b_equal, b_left, b_right, b_level, b_index, b_cell, b_digit) (nI j) v2 := by
        intro Q q0 q1 q2 q3 q4
        unfold wpY_literalPart
        refine br_f hneg (br_t (nI_lt hlt (by omega)) (br_c (fun e => ⟨hin, ?_⟩) (fun e0 => br_c (fun e => ⟨hin, ?_⟩) (fun e1 => br_c (fun e => ⟨hin, ?_⟩) (fun e2 => br_c (fun e => ⟨hin, ?_⟩) (fun e3 => ?_))))))
        · have q := q0 e
          refine pk_eq (Lq j) 0 (fun e => ?_) (fun e => ?_) (ar_rd hj y1)
          · rw [e] at q; exact q
          · rw [show Lq j = 1 from by omega] at q; exact q
        · rw [ar_rd hj y2]; exact q1 e
        · rw [ar_rd hj y3]; exact q2 e
        · rw [ar_rd hj z2]; exact q3 e
        · exact q4 e0 e1 e2 e3
      refine br_c (fun e => ⟨hin, ?_⟩) (fun e0 => br_c (fun e => ⟨hin, ?_⟩) (fun e1 => br_c (fun e => ⟨hin, ?_⟩) (fun e2 => br_c (fun e => ⟨hin, ?_⟩) (fun e3 => ?_))))
      · subst e
        refine pk_eq (Lq j) 0 (fun e => ?_) (fun e => ?_) (ar_rd hj x1)
        · exact Y _ (fun _ => ⟨by rw [e]; rfl, hR⟩) (fun z => absurd z (by decide)) (fun z => absurd z (by decide)) (fun z => absurd z (by decide)) (fun z => absurd rfl z)
        · exact Y _ (fun _ => ⟨by rw [show Lq j = 1 from by omega]; rfl, hR⟩) (fun z => absurd z (by decide)) (fun z => absurd z (by decide)) (fun z => absurd z (by decide)) (fun z => absurd rfl z)
      · subst e
        rw [ar_rd hj x2]
        exact Y _ (fun z => absurd z (by decide)) (fun _ => ⟨rfl, hR⟩) (fun z => absurd z (by decide)) (fun z => absurd z (by decide)) (fun _ z => absurd rfl z)
      · subst e
        rw [ar_rd hj x3]
        exact Y _ (fun z => absurd z (by decide)) (fun z => absurd z (by decide)) (fun _ => ⟨rfl, hR⟩) (fun z => absurd z (by decide)) (fun _ _ z => absurd rfl z)
      · subst e
        rw [ar_rd hj z1]
        exact Y _ (fun z => absurd z (by decide)) (fun z => absurd z (by decide)) (fun z => absurd z (by decide)) (fun _ => ⟨rfl, hR⟩) (fun _ _ _ z => absurd rfl z)
      · exact Y _ (fun z => absurd z e0) (fun z => absurd z e1) (fun z => absurd z e2) (fun z => absurd z e3) (fun _ _ _ _ => ⟨rfl, hR⟩)
    · unfold wpY_literalPart
      exact br_f hneg (br_f (nI_nlt hge hj) ⟨rfl, hR⟩)
theorem i_vc_push {k : Nat} {u : SX} {v : SY} (I : i_Rel k u v) (hk : k + 4 ≤ 2051) : wpX_push (fun r u' => wpY_push (fun r' v' => r' = r ∧ i_Rel (k + 4) u' v') v) u := by
  refine ar_el (Q := fun u v => wpX_push (fun r u' => wpY_push (fun r' v' => r' = r ∧ i_Rel (k + 4) u' v') v) u) ?_ I
  intro nt TL IL LL nl dp hm K A I E Lq Ll Lr Lv f_stride f_trialWidth f_keptWidth a_kind a_arrayArg a_indexArg a_elementArg a_indexTerm a_rank a_litEqual a_litLeft a_litRight a_litLevel a_trial a_parent a_label a_kept g_trialWidth g_keptWidth b_kind b_arrayArg b_indexArg b_elementArg b_equal b_left b_right b_level b_index b_cell b_digit hT hL hM
  have hL' := hL
  obtain ⟨l1, l2, l3, l4, l5, l6, l7⟩ := hL'
  unfold wpX_push
  refine pk_lt dp 8 (fun h => nm_r (nI_1 dp) ?_) (fun h => ?_)
  · unfold wpY_push
    refine br_t (nI_lt (b := 8) h (by omega)) (nm_r (nI_1 dp) ⟨rfl, ?_⟩)
    exact ar_in hT ⟨l1, l2, h, l4, l5, fun l hl => by obtain ⟨a, b, c⟩ := l6 l hl; exact ⟨a, b, by omega⟩, l7⟩ hM
  · unfold wpY_push
    exact br_f (nI_nlt (b := 8) h (by omega)) ⟨rfl, ar_in hT hL hM⟩
section
variable {f_termLimit f_indexLimit f_literalLimit f_stride f_termCount f_indexCount f_literalCount f_depth f_trialWidth f_hasModel f_keptWidth : Int32} {a_kind a_arrayArg a_indexArg a_elementArg a_indexTerm a_rank a_litEqual a_litLeft a_litRight a_litLevel a_trial a_parent a_label a_kept : Nat → Int32} {g_termLimit g_indexLimit g_literalLimit g_terms g_literals g_depth g_kept g_trialWidth g_keptWidth : Int32} {b_kind b_arrayArg b_indexArg b_elementArg b_equal b_left b_right b_level b_index b_cell b_digit : Nat → Int32} {nt TL IL LL nl dp hm : Nat} {K A I E Lq Ll Lr Lv : Nat → Nat}
theorem xx_po16 {post : Int32 → SX → Prop} (hnl : nl ≤ 16) (hdp : dp ≤ 8) (hv : ∀ l, l < nl → a_litLevel l = nI (Lv l) ∧ Lv l ≤ dp)
    (H : ∀ m, m ≤ nl → (∀ j, m ≤ j → j < nl → Lv j = dp) → (m = 0 ∨ Lv (m - 1) ≠ dp) → wX_pop_44 post f_termLimit f_indexLimit f_literalLimit f_stride f_termCount f_indexCount (nI m) (nI dp) f_trialWidth f_hasModel f_keptWidth a_kind a_arrayArg a_indexArg a_elementArg a_indexTerm a_rank a_litEqual a_litLeft a_litRight a_litLevel a_trial a_parent a_label a_kept) :
    ∀ m n, m ≤ nl → m < n → (∀ j, m ≤ j → j < nl → Lv j = dp) → wX_pop_16 post f_termLimit f_indexLimit f_literalLimit f_stride f_termCount f_indexCount (nI dp) f_trialWidth f_hasModel f_keptWidth a_kind a_arrayArg a_indexArg a_elementArg a_indexTerm a_rank a_litEqual a_litLeft a_litRight a_litLevel a_trial a_parent a_label a_kept n (ar_vz m) (nI m) := by
  intro m
  induction m with
  | zero =>
    intro n hm hn hj
    obtain ⟨n, rfl⟩ : ∃ m, n = m + 1 := ⟨n - 1, by omega⟩
    exact br_t (by decide) (H 0 hm hj (Or.inl rfl))
  | succ m ih =>
    intro n hm hn hj
    obtain ⟨n, rfl⟩ : ∃ m, n = m + 1 := ⟨n - 1, by omega⟩
    obtain ⟨a, b⟩ := hv m (by omega)
    rw [ar_vzs (by omega), Nat.add_sub_cancel]
    refine br_f (nI_pos (by omega)) ⟨vp_in_nI (by omega) (by decide), pk_eq (Lv m) dp (fun e => nm_r (ar_vzm m) (ih n (by omega) (by omega) (fun j h1 h2 => ?_))) (fun e => ?_) (ar_rd (by omega) a)⟩
    · by_cases hjm : j = m
      · rw [hjm]; exact e
      · exact hj j (by omega) h2
    · exact H (m + 1) hm hj (Or.inr e)
theorem yy_po13 {post : Int32 → SY → Prop} {m : Nat} (hnl : nl ≤ 16) (hdp : dp ≤ 8) (h0 : 0 < dp) (hm : m ≤ nl) (hv : ∀ l, l < nl → b_level l = nI (Lv l)) (h1 : ∀ j, j < m → Lv j < dp) (h2 : ∀ j, m ≤ j → j < nl → Lv j = dp)
    (H : post (nI (dp - 1)) (g_termLimit, g_indexLimit, g_literalLimit, g_terms, nI m, nI (dp - 1), g_kept, g_trialWidth, g_keptWidth, b_kind, b_arrayArg, b_indexArg, b_elementArg, b_equal, b_left, b_right, b_level, b_index, b_cell, b_digit)) :
    ∀ k n l, l + k = nl → k < n → wY_pop_13 post g_termLimit g_indexLimit g_literalLimit g_terms (nI nl) (nI dp) g_kept g_trialWidth g_keptWidth b_kind b_arrayArg b_indexArg b_elementArg b_equal b_left b_right b_level b_index b_cell b_digit n (nI (if l ≤ m then l else m)) (nI l) := by
  intro k
  induction k with
  | zero =>
    intro n l hx hk
    obtain ⟨n, rfl⟩ : ∃ m, n = m + 1 := ⟨n - 1, by omega⟩
    have e : (if l ≤ m then l else m) = m := by split <;> omega
    rw [e]
    exact br_t (nI_le (by omega) (by omega)) (nm_r (ar_s1 h0) H)
  | succ k ih =>
    intro n l hx hk
    obtain ⟨n, rfl⟩ : ∃ m, n = m + 1 := ⟨n - 1, by omega⟩
    have key := ih n (l + 1) (by omega) (by omega)
    refine br_f (nI_ge (by omega) (by omega)) ⟨vp_in_nI (by omega) (by decide), ?_⟩
    by_cases hlm : l < m
    · have := h1 l hlm
      rw [if_pos (by omega)]
      rw [if_pos (by omega)] at key
      refine br_f (by rw [ar_rd (t := l) (by omega) (hv l (by omega))]; exact nI_ge this (by omega)) (nm_r (nI_1 l) (nm_r (nI_1 l) key))
    · have := h2 l (by omega) (by omega)
      have e : (if l ≤ m then l else m) = m := by split <;> omega
      rw [e]
      rw [if_neg (by omega)] at key
      refine br_t (by rw [ar_rd (t := l) (by omega) (hv l (by omega)), this]; exact nI_le (by omega) (by omega)) (nm_r (nI_1 l) key)
end
theorem i_vc_pop {k : Nat} {u : SX} {v : SY} (I : i_Rel k u v) (hk : k + 4 ≤ 2051) : wpX_pop (fun r u' => wpY_pop (fun r' v' => r' = r ∧ i_Rel (k + 4) u' v') v) u := by
  refine ar_el (Q := fun u v => wpX_pop (fun r u' => wpY_pop (fun r' v' => r' = r ∧ i_Rel (k + 4) u' v') v) u) ?_ I
  intro nt TL IL LL nl dp hm K A I E Lq Ll Lr Lv f_stride f_trialWidth f_keptWidth a_kind a_arrayArg a_indexArg a_elementArg a_indexTerm a_rank a_litEqual a_litLeft a_litRight a_litLevel a_trial a_parent a_label a_kept g_trialWidth g_keptWidth b_kind b_arrayArg b_indexArg b_elementArg b_equal b_left b_right b_level b_index b_cell b_digit hT hL hM
  have hL' := hL
  obtain ⟨l1, l2, l3, l4, l5, l6, l7⟩ := hL'
  unfold wpX_pop
  refine pk_eq dp 0 (fun e => ?_) (fun e => ?_)
  · subst e
    unfold wpY_pop
    exact br_t rfl ⟨rfl, ar_in hT hL hM⟩
  · refine nm_r (e' := ar_vz nl) ?_ ⟨nl + 1, ?_⟩
    · cases nl with
      | zero => decide
      | succ n => exact nI_pred n
    · refine xx_po16 (nl := nl) (dp := dp) (by omega) l3 (fun l hl => ⟨(l6 l hl).1, (l6 l hl).2.2⟩) (fun m hm h1 h2 => ?_) nl (nl + 1) (Nat.le_refl _) (by omega) (fun j h1 h2 => by omega)
      have hlow : ∀ j, j < m → Lv j < dp := by
        intro j hj
        have a := l7 j (m - 1) (by omega) (by omega)
        have b := (l6 (m - 1) (by omega)).2.2
        rcases h2 with h2 | h2
        · omega
        · omega
      unfold wX_pop_44
      refine nm_r (ar_s1 (by omega)) ?_
      unfold wpY_pop
      refine br_f (nI_ne0 (by omega) (by omega)) ⟨nl + 1, ?_⟩
      refine yy_po13 (m := m) (by omega) l3 (by omega) hm (fun l hl => (l6 l hl).2.1) hlow h1 ⟨rfl, ?_⟩ nl (nl + 1) 0 (by omega) (by omega)
      exact ar_in hT ⟨by omega, l2, by omega, fun l hl => l4 l (by omega), fun l hl => l5 l (by omega), fun l hl => by obtain ⟨a, b, c⟩ := l6 l (by omega); exact ⟨a, b, by have := hlow l hl; omega⟩, fun l m' a b => l7 l m' a (by omega)⟩ hM
theorem i_vc_count {k : Nat} {u : SX} {v : SY} (I : i_Rel k u v) (hk : k + 4 ≤ 2051) (v1 : Int32) : wpX_count (fun r => wpY_count (fun r' => r' = r ∧ i_Rel (k + 4) u v) v v1) u v1 := by
  refine ar_el (Q := fun u v => wpX_count (fun r => wpY_count (fun r' => r' = r ∧ i_Rel (k + 4) u v) v v1) u v1) ?_ I
  intro nt TL IL LL nl dp hm K A I E Lq Ll Lr Lv f_stride f_trialWidth f_keptWidth a_kind a_arrayArg a_indexArg a_elementArg a_indexTerm a_rank a_litEqual a_litLeft a_litRight a_litLevel a_trial a_parent a_label a_kept g_trialWidth g_keptWidth b_kind b_arrayArg b_indexArg b_elementArg b_equal b_left b_right b_level b_index b_cell b_digit hT hL hM
  have hR : i_Rel (k + 4) (nI TL, nI IL, nI LL, f_stride, nI nt, nI (ar_ci K nt), nI nl, nI dp, f_trialWidth, nI hm, f_keptWidth, a_kind, a_arrayArg, a_indexArg, a_elementArg, a_indexTerm, a_rank, a_litEqual, a_litLeft, a_litRight, a_litLevel, a_trial, a_parent, a_label, a_kept) (nI TL, nI IL, nI LL, nI nt, nI nl, nI dp, nI hm, g_trialWidth, g_keptWidth, b_kind, b_arrayArg, b_indexArg, b_elementArg, b_equal, b_left, b_right, b_level, b_index, b_cell, b_digit) := ar_in hT hL hM
  obtain ⟨t1, t2, t3, t4, t5, t6, t7, t8, t9⟩ := hT
  have hno : (∀ j, j ≤ 6 → ¬ v1 = nI j) → wpY_count (fun r' => r' = -1 ∧ i_Rel (k + 4) (nI TL, nI IL, nI LL, f_stride, nI nt, nI (ar_ci K nt), nI nl, nI dp, f_trialWidth, nI hm, f_keptWidth, a_kind, a_arrayArg, a_indexArg, a_elementArg, a_indexTerm, a_rank, a_litEqual, a_litLeft, a_litRight, a_litLevel, a_trial, a_parent, a_label, a_kept) (nI TL, nI IL, nI LL, nI nt, nI nl, nI dp, nI hm, g_trialWidth, g_keptWidth, b_kind, b_arrayArg, b_indexArg, b_elementArg, b_equal, b_left, b_right, b_level, b_index, b_cell, b_digit)) (nI TL, nI IL, nI LL, nI nt, nI nl, nI dp, nI hm, g_trialWidth, g_keptWidth, b_kind, b_arrayArg, b_indexArg, b_elementArg, b_equal, b_left, b_right, b_level, b_index, b_cell, b_digit) v1 := by
    intro h
    unfold wpY_count
    exact br_f (h 0 (by omega)) (br_f (h 1 (by omega)) (br_f (h 2 (by omega)) (br_f (h 3 (by omega)) (br_f (h 4 (by omega)) (br_f (h 5 (by omega)) (br_f (h 6 (by omega)) ⟨rfl, hR⟩))))))
  unfold wpX_count
  by_cases hneg : v1 < 0
  · refine br_t hneg (hno (fun j hj e => ?_))
    rw [e] at hneg
    exact nI_pos (by omega) hneg
  · obtain ⟨j, hj, e⟩ := nI_of hneg
    subst e
    refine br_f hneg (pk_lt 6 j (fun h6 => hno (fun i hi e => ?_)) (fun h6 => ?_))
    · have := ar_inj e hj (by omega)
      omega
    · have : j = 0 ∨ j = 1 ∨ j = 2 ∨ j = 3 ∨ j = 4 ∨ j = 5 ∨ j = 6 := by omega
      rcases this with e | e | e | e | e | e | e
      · subst e
        refine br_t rfl ?_
        unfold wpY_count
        exact br_t rfl ⟨rfl, hR⟩
      · subst e
        refine br_f (by decide) (br_t rfl ?_)
        unfold wpY_count
        exact br_f (by decide) (br_t rfl ⟨rfl, hR⟩)
      · subst e
        refine br_f (by decide) (br_f (by decide) (br_t rfl ?_))
        unfold wpY_count
        exact br_f (by decide) (br_f (by decide) (br_t rfl ⟨rfl, hR⟩))
      · subst e
        refine br_f (by decide) (br_f (by decide) (br_f (by decide) (br_t rfl ?_)))
        unfold wpY_count
        exact br_f (by decide) (br_f (by decide) (br_f (by decide) (br_t rfl (yy_ic (by omega) t7 t5 ⟨rfl, hR⟩))))
      · subst e
        refine br_f (by decide) (br_f (by decide) (br_f (by decide) (br_f (by decide) (br_t rfl ?_))))
        unfold wpY_count
        exact br_f (by decide) (br_f (by decide) (br_f (by decide) (br_f (by decide) (br_t rfl ⟨rfl, hR⟩))))
      · subst e
        refine br_f (by decide) (br_f (by decide) (br_f (by decide) (br_f (by decide) (br_f (by decide) (br_t rfl ?_)))))
        unfold wpY_count
        exact br_f (by decide) (br_f (by decide) (br_f (by decide) (br_f (by decide) (br_f (by decide) (br_t rfl ⟨rfl, hR⟩)))))
      · subst e
        refine br_f (by decide) (br_f (by decide) (br_f (by decide) (br_f (by decide) (br_f (by decide) (br_f (by decide) (br_t rfl ?_))))))
        unfold wpY_count
        exact br_f (by decide) (br_f (by decide) (br_f (by decide) (br_f (by decide) (br_f (by decide) (br_f (by decide) (br_t rfl ⟨rfl, hR⟩))))))
theorem i_vc_width {k : Nat} {u : SX} {v : SY} (I : i_Rel k u v) (hk : k + 4 ≤ 2051) : wpX_width (fun r => wpY_width (fun r' => r' = r ∧ i_Rel (k + 4) u v) v) u := by
  refine ar_el (Q := fun u v => wpX_width (fun r => wpY_width (fun r' => r' = r ∧ i_Rel (k + 4) u v) v) u) ?_ I
  intro nt TL IL LL nl dp hm K A I E Lq Ll Lr Lv f_stride f_trialWidth f_keptWidth a_kind a_arrayArg a_indexArg a_elementArg a_indexTerm a_rank a_litEqual a_litLeft a_litRight a_litLevel a_trial a_parent a_label a_kept g_trialWidth g_keptWidth b_kind b_arrayArg b_indexArg b_elementArg b_equal b_left b_right b_level b_index b_cell b_digit hT hL hM
  have hR : i_Rel (k + 4) (nI TL, nI IL, nI LL, f_stride, nI nt, nI (ar_ci K nt), nI nl, nI dp, f_trialWidth, nI hm, f_keptWidth, a_kind, a_arrayArg, a_indexArg, a_elementArg, a_indexTerm, a_rank, a_litEqual, a_litLeft, a_litRight, a_litLevel, a_trial, a_parent, a_label, a_kept) (nI TL, nI IL, nI LL, nI nt, nI nl, nI dp, nI hm, g_trialWidth, g_keptWidth, b_kind, b_arrayArg, b_indexArg, b_elementArg, b_equal, b_left, b_right, b_level, b_index, b_cell, b_digit) := ar_in hT hL hM
  obtain ⟨m1, m2⟩ := hM
  unfold wpX_width
  refine pk_eq hm 0 (fun e => ?_) (fun e => ?_)
  · unfold wpY_width
    exact br_t (by rw [e]; rfl) ⟨rfl, hR⟩
  · obtain ⟨w, KV, w1, w2, _⟩ := m2 (by omega)
    unfold wpY_width
    exact br_f (nI_ne0 (by omega) (by omega)) ⟨w2.trans w1.symm, hR⟩
end
section
/-! check and implied -/
theorem ar_Pb {nt N c : Nat} {K A I E Lq Ll Lr : Nat → Nat} {aq al ar : Nat → Int32} (hn : nt ≤ 24) (h5 : ar_ci K nt ≤ 5) (hw : ar_tw nt K A I E) (ok : ar_ok (ar_ci K nt) (ar_dg c)) (hL : ar_lm N nt K Lq Ll Lr aq al ar) :
    ∀ g, g < 144 → ar_P nt K A I E Lq Ll Lr N c g < 144 :=
  ar_cl_b N (fun l hl x hx => by
    have := ar_enb hw (ar_VW ok) (ar_W5 h5) (hL l hl).2.2.2.2.2.1 hx
    omega)
/-- the two kept models agree -/
theorem ar_mo_s2 {nt w c : Nat} {K P : Nat → Nat} {ke ix ix0 ce : Nat → Int32} (hn : nt ≤ 24) (hw5 : w ≤ 5) (hV : ∀ t, t < nt → K t = 0 → ar_V K c t ≤ w)
    (h1 : ∀ g, (ar_s2 nt K P w).1 g ≠ 0 → ke g = nI ((ar_s2 nt K P w).1 g - 1)) (h2 : ∀ t, t < nt → K t = 0 → ke (t * 6) = nI (ar_V K c t))
    (h3 : ∀ i, i < 24 → ix (24 + i) = ix0 i) (h4 : ∀ t, t < nt → K t = 0 → ix0 t = nI (ar_V K c t)) (h5 : ar_yn P (ar_s2 nt K P w) ce) :
    ar_mo nt w K (ar_V K c) (nI w) (nI w) ke ix ce := by
  refine ⟨rfl, rfl, hw5, fun t ht hk => ⟨hV t ht hk, h2 t ht hk, ?_⟩, fun t ht hk => ?_, fun t ht hk x hx => ?_⟩
  · rw [h3 t (by omega)]; exact h4 t ht hk
  · have hne : (ar_s2 nt K P w).1 (t * 6) ≠ 0 := ar_ts_n nt (Or.inl (ar_ts_n nt (Or.inr ⟨t, 0, ht, hk, by omega, rfl⟩)))
    rw [h1 _ hne, h5.2 _ (by omega), ar_vzs hne]
  · have hne : (ar_s2 nt K P w).1 (t * 6 + x) ≠ 0 := ar_ts_n nt (Or.inr ⟨t, x, ht, hk, by omega, rfl⟩)
    rw [h1 _ hne, h5.2 _ (by omega), ar_vzs hne]
theorem ar_mxu {G : Nat → Prop} {c d : Nat} (h1 : G c) (h2 : ∀ e, c < e → ¬ G e) (h3 : G d) (h4 : ∀ e, d < e → ¬ G e) : d = c := by
  rcases Nat.lt_trichotomy d c with a | a | a
  · exact absurd h1 (h4 c a)
  · exact a
  · exact absurd h3 (h2 d a)
theorem i_vc_check {k : Nat} {u : SX} {v : SY} (I : i_Rel k u v) (hk : k + 4 ≤ 2051) : wpX_check (fun r u' => wpY_check (fun r' v' => r' = r ∧ i_Rel (k + 4) u' v') v) u := by
  refine ar_el (Q := fun u v => wpX_check (fun r u' => wpY_check (fun r' v' => r' = r ∧ i_Rel (k + 4) u' v') v) u) ?_ I
  intro nt TL IL LL nl dp hm K A I E Lq Ll Lr Lv f_stride f_trialWidth f_keptWidth a_kind a_arrayArg a_indexArg a_elementArg a_indexTerm a_rank a_litEqual a_litLeft a_litRight a_litLevel a_trial a_parent a_label a_kept g_trialWidth g_keptWidth b_kind b_arrayArg b_indexArg b_elementArg b_equal b_left b_right b_level b_index b_cell b_digit hT hL hM
  have hT' := hT
  obtain ⟨t1, t2, t3, t4, t5, t6, t7, t8, t9⟩ := hT'
  have hL' := hL
  obtain ⟨l1, l2, l3, l4, l5, l6, l7⟩ := hL'
  have hn : nt ≤ 24 := by omega
  have h5 : ar_ci K nt ≤ 5 := by omega
  unfold wpX_check
  refine xx_se (N := nl) hn h5 t6 t5 t9 (by omega) l4 (fun c tr pa hG hmax htr huf => ⟨narrow_b1, by decide, ?_⟩) (fun hno w' tr pa => ⟨narrow_b0, by decide, ?_⟩)
  · refine br_f (by decide) ?_
    refine xx_km (c := c) (P := ar_P nt K A I E Lq Ll Lr nl c) hn h5 t6 t5 t9 (ar_W5 h5) htr huf (fun pa2 la ke hke1 hke2 => ?_)
    unfold wpY_check
    refine yy_sv (N := nl) hn h5 t7 t5 (by omega) l5 (fun d ix ce di hGd hmaxd hix _ hce => ?_) (fun hno => absurd hG (hno c))
    have hdc := ar_mxu hG hmax hGd hmaxd
    subst hdc
    refine br_f (by decide) ?_
    refine yy_ke (P := ar_P nt K A I E Lq Ll Lr nl d) hn t7 t5 (ar_Pb hn h5 t5 hG.2.1 l4) (ar_W5 h5) hce.1 (fun ix2 ce2 hi2 hc2 => ⟨rfl, ?_⟩)
    exact ar_in (hm := 1) hT hL ⟨by omega, fun _ => ⟨_, _, ar_mo_s2 (c := d) hn (ar_W5 h5) (ar_VW hG.2.1) hke1 hke2 hi2 hix hc2⟩⟩
  · refine br_t rfl ?_
    unfold wpY_check
    refine yy_sv (N := nl) hn h5 t7 t5 (by omega) l5 (fun d ix ce di hGd hmaxd hix _ hce => absurd hGd (hno d)) (fun _ w2 ix ce di _ _ => ?_)
    exact br_t rfl ⟨rfl, ar_in (hm := 0) hT hL ar_rM_0⟩
/-- a question: met with an equality or with its denial -/
theorem ar_imp {nt nl t u c : Nat} {K A I E Lq Ll Lr : Nat → Nat} (h : ar_G nt K A I E Lq Ll Lr nl c) :
    ar_G nt K A I E (ar_up Lq nl 1) (ar_up Ll nl t) (ar_up Lr nl u) (nl + 1) c ∨ ar_G nt K A I E (ar_up Lq nl 0) (ar_up Ll nl t) (ar_up Lr nl u) (nl + 1) c := by
  rcases ar_ft_up h.2.2 t u with a | a
  · exact Or.inl ⟨h.1, h.2.1, a⟩
  · exact Or.inr ⟨h.1, h.2.1, a⟩
theorem ar_imd {nt nl t u q c : Nat} {K A I E Lq Ll Lr : Nat → Nat} (h : ar_G nt K A I E (ar_up Lq nl q) (ar_up Ll nl t) (ar_up Lr nl u) (nl + 1) c) : ar_G nt K A I E Lq Ll Lr nl c :=
  ⟨h.1, h.2.1, ar_ft_cg (fun l hl => ⟨(ar_un (by omega)).symm, (ar_un (by omega)).symm, (ar_un (by omega)).symm⟩) (ar_ft_dn h.2.2)⟩
section
variable {f_termLimit f_indexLimit f_literalLimit f_stride f_termCount f_indexCount f_literalCount f_depth f_trialWidth f_hasModel f_keptWidth : Int32} {a_kind a_arrayArg a_indexArg a_elementArg a_indexTerm a_rank a_litEqual a_litLeft a_litRight a_litLevel a_trial a_parent a_label a_kept : Nat → Int32} {g_termLimit g_indexLimit g_literalLimit g_terms g_literals g_depth g_kept g_trialWidth g_keptWidth : Int32} {b_kind b_arrayArg b_indexArg b_elementArg b_equal b_left b_right b_level b_index b_cell b_digit : Nat → Int32} {nt TL IL LL nl dp hm : Nat} {K A I E Lq Ll Lr Lv : Nat → Nat}
theorem xx_ps {post : Int32 → SX → Prop} {q t u : Nat} {p0 : Int32} (hp0 : vp_nar .boolean p0 = nI q) (hn : nt ≤ 24) (h5 : ar_ci K nt ≤ 5) (hm : ar_tm nt K A I E a_kind a_arrayArg a_indexArg a_elementArg) (hw : ar_tw nt K A I E) (hix : ar_ix nt K a_indexTerm a_rank)
    (hN : nl ≤ 16) (hL : ar_lm nl nt K Lq Ll Lr a_litEqual a_litLeft a_litRight) (hq : q ≤ 1) (ht : t < nt) (hu : u < nt) (hs : ar_so (K t) = ar_so (K u))
    (H1 : (∃ c, ar_G nt K A I E (ar_up Lq nl q) (ar_up Ll nl t) (ar_up Lr nl u) (nl + 1) c) → ∀ w' tr pa, post 1 (f_termLimit, f_indexLimit, f_literalLimit, f_stride, nI nt, nI (ar_ci K nt), nI nl, f_depth, w', f_hasModel, f_keptWidth, a_kind, a_arrayArg, a_indexArg, a_elementArg, a_indexTerm, a_rank, upd a_litEqual nl (nI q), upd a_litLeft nl (nI t), upd a_litRight nl (nI u), upd a_litLevel nl f_depth, tr, pa, a_label, a_kept))
    (H0 : (¬ ∃ c, ar_G nt K A I E (ar_up Lq nl q) (ar_up Ll nl t) (ar_up Lr nl u) (nl + 1) c) → ∀ w' tr pa, post 0 (f_termLimit, f_indexLimit, f_literalLimit, f_stride, nI nt, nI (ar_ci K nt), nI nl, f_depth, w', f_hasModel, f_keptWidth, a_kind, a_arrayArg, a_indexArg, a_elementArg, a_indexTerm, a_rank, upd a_litEqual nl (nI q), upd a_litLeft nl (nI t), upd a_litRight nl (nI u), upd a_litLevel nl f_depth, tr, pa, a_label, a_kept)) :
    wpX_possible post (f_termLimit, f_indexLimit, f_literalLimit, f_stride, nI nt, nI (ar_ci K nt), nI nl, f_depth, f_trialWidth, f_hasModel, f_keptWidth, a_kind, a_arrayArg, a_indexArg, a_elementArg, a_indexTerm, a_rank, a_litEqual, a_litLeft, a_litRight, a_litLevel, a_trial, a_parent, a_label, a_kept) p0 (nI t) (nI u) := by
  unfold wpX_possible
  refine xx_sl (by omega) hp0 ?_
  show wpX_search _ _ (nI nl + 1)
  rw [nI_1 nl]
  refine xx_se (N := nl + 1) hn h5 hm hw hix (by omega) (ar_lm_add hL hq ht hu hs) (fun c tr pa hG _ _ _ => ⟨narrow_b1, ?_⟩) (fun hno w' tr pa => ⟨narrow_b0, ?_⟩)
  · exact H1 ⟨c, hG⟩ _ tr pa
  · exact H0 (fun ⟨c, hG⟩ => hno c hG) w' tr pa
theorem yy_svx {post : Int32 → SY → Prop} {N : Nat} (hn : nt ≤ 24) (h5 : ar_ci K nt ≤ 5) (hm : ar_tm nt K A I E b_kind b_arrayArg b_indexArg b_elementArg) (hw : ar_tw nt K A I E)
    (hN : N ≤ 17) (hL : ar_lm N nt K Lq Ll Lr b_equal b_left b_right)
    (H1 : (∃ c, ar_G nt K A I E Lq Ll Lr N c) → ∀ w' ix ce di, (∀ i, 24 ≤ i → ix i = b_index i) → (∀ i, 144 ≤ i → ce i = b_cell i) → post 1 (g_termLimit, g_indexLimit, g_literalLimit, nI nt, g_literals, g_depth, g_kept, w', g_keptWidth, b_kind, b_arrayArg, b_indexArg, b_elementArg, b_equal, b_left, b_right, b_level, ix, ce, di))
    (H0 : (¬ ∃ c, ar_G nt K A I E Lq Ll Lr N c) → ∀ w' ix ce di, (∀ i, 24 ≤ i → ix i = b_index i) → (∀ i, 144 ≤ i → ce i = b_cell i) → post 0 (g_termLimit, g_indexLimit, g_literalLimit, nI nt, g_literals, g_depth, g_kept, w', g_keptWidth, b_kind, b_arrayArg, b_indexArg, b_elementArg, b_equal, b_left, b_right, b_level, ix, ce, di)) :
    wpY_solve post (g_termLimit, g_indexLimit, g_literalLimit, nI nt, g_literals, g_depth, g_kept, g_trialWidth, g_keptWidth, b_kind, b_arrayArg, b_indexArg, b_elementArg, b_equal, b_left, b_right, b_level, b_index, b_cell, b_digit) (nI N) :=
  yy_sv hn h5 hm hw hN hL (fun c ix ce di hG _ _ a1 a2 => H1 ⟨c, hG⟩ _ ix ce di a1 a2.2) (fun hno w' ix ce di a1 a2 => H0 (fun ⟨c, hG⟩ => hno c hG) w' ix ce di a1 a2)
theorem ar_rM_f {fk gk : Int32} {ke ix ix' ce ce' : Nat → Int32} (hn : nt ≤ 24) (h : ar_rM nt hm K fk gk ke ix ce) (h1 : ∀ i, 24 ≤ i → ix' i = ix i) (h2 : ∀ i, 144 ≤ i → ce' i = ce i) : ar_rM nt hm K fk gk ke ix' ce' := by
  refine ⟨h.1, fun z => ?_⟩
  obtain ⟨w, KV, m1, m2, m3, m4, m5, m6⟩ := h.2 z
  refine ⟨w, KV, m1, m2, m3, fun t ht hk => ?_, fun t ht hk => ?_, fun t ht hk x hx => ?_⟩
  · rw [h1 _ (by omega)]; exact m4 t ht hk
  · rw [h2 _ (by omega)]; exact m5 t ht hk
  · rw [h2 _ (by omega)]; exact m6 t ht hk x hx
/-- the reference's question -/
theorem yy_im {post : Int32 → SY → Prop} {t u : Nat} (hn : nt ≤ 24) (h5 : ar_ci K nt ≤ 5) (hm : ar_tm nt K A I E b_kind b_arrayArg b_indexArg b_elementArg) (hw : ar_tw nt K A I E)
    (hN : nl ≤ 16) (hL : ar_lm nl nt K Lq Ll Lr b_equal b_left b_right) (ht : t < nt) (hu : u < nt) (hs : ar_so (K t) = ar_so (K u))
    (H : ∀ r, (((∃ c, ar_G nt K A I E (ar_up Lq nl 1) (ar_up Ll nl t) (ar_up Lr nl u) (nl + 1) c) ∧ (∃ c, ar_G nt K A I E (ar_up Lq nl 0) (ar_up Ll nl t) (ar_up Lr nl u) (nl + 1) c) → r = 4) ∧
        ((∃ c, ar_G nt K A I E (ar_up Lq nl 1) (ar_up Ll nl t) (ar_up Lr nl u) (nl + 1) c) ∧ (¬ ∃ c, ar_G nt K A I E (ar_up Lq nl 0) (ar_up Ll nl t) (ar_up Lr nl u) (nl + 1) c) → r = 2) ∧
        ((¬ ∃ c, ar_G nt K A I E (ar_up Lq nl 1) (ar_up Ll nl t) (ar_up Lr nl u) (nl + 1) c) ∧ (∃ c, ar_G nt K A I E (ar_up Lq nl 0) (ar_up Ll nl t) (ar_up Lr nl u) (nl + 1) c) → r = 3) ∧
        ((¬ ∃ c, ar_G nt K A I E (ar_up Lq nl 1) (ar_up Ll nl t) (ar_up Lr nl u) (nl + 1) c) ∧ (¬ ∃ c, ar_G nt K A I E (ar_up Lq nl 0) (ar_up Ll nl t) (ar_up Lr nl u) (nl + 1) c) → r = 0)) →
      ∀ w' ix ce di bq bl br, (∀ i, 24 ≤ i → ix i = b_index i) → (∀ i, 144 ≤ i → ce i = b_cell i) → ar_lm nl nt K Lq Ll Lr bq bl br → post r (g_termLimit, g_indexLimit, g_literalLimit, nI nt, nI nl, g_depth, g_kept, w', g_keptWidth, b_kind, b_arrayArg, b_indexArg, b_elementArg, bq, bl, br, b_level, ix, ce, di)) :
    wpY_implied post (g_termLimit, g_indexLimit, g_literalLimit, nI nt, nI nl, g_depth, g_kept, g_trialWidth, g_keptWidth, b_kind, b_arrayArg, b_indexArg, b_elementArg, b_equal, b_left, b_right, b_level, b_index, b_cell, b_digit) (nI t) (nI u) := by
  have hin : vp_in (nI nl) 17 := vp_in_nI (by omega) (by decide)
  have hcl : (nI nl).toNatClampNeg = nl := nI_clamp (by omega)
  unfold wpY_implied
  refine yy_cp hn hm hw (fun _ => ?_) (fun z => absurd ⟨t, u, ht, hu, rfl, rfl, hs⟩ z)
  refine yy_svx (N := nl) hn h5 hm hw (by omega) hL (fun hB w1 i1 c1 d1 a1 b1 => ?_) (fun hB w1 i1 c1 d1 a1 b1 => ?_)
  · refine br_f (by decide) ⟨hin, nm_r (e' := upd b_left nl (nI t)) (by rw [hcl]) ⟨hin, nm_r (e' := upd b_right nl (nI u)) (by rw [hcl]) ⟨hin, nm_r (e' := upd b_equal nl (nI 0)) (by rw [hcl, ar_nb0]; rfl) ?_⟩⟩⟩
    rw [nI_1 nl]
    refine yy_svx (N := nl + 1) hn h5 hm hw (by omega) (ar_lm_add (q := 0) hL (by omega) ht hu hs) (fun hD w2 i2 c2 d2 a2 b2 => ?_) (fun hD w2 i2 c2 d2 a2 b2 => ?_)
    · refine br_f (by decide) ⟨hin, nm_r (e' := upd (upd b_equal nl (nI 0)) nl (nI 1)) (by rw [hcl, ar_nb1]; rfl) ?_⟩
      rw [nI_1 nl]
      have hL3 : ar_lm (nl + 1) nt K (ar_up Lq nl 1) (ar_up Ll nl t) (ar_up Lr nl u) (upd (upd b_equal nl (nI 0)) nl (nI 1)) (upd b_left nl (nI t)) (upd b_right nl (nI u)) := by
        intro l hl
        have := ar_lm_add (q := 1) hL (by omega) ht hu hs l hl
        by_cases e : l = nl
        · rw [e, pk_us]; rw [e, pk_us] at this; exact this
        · rw [pk_un e, pk_un e]; rw [pk_un e] at this; exact this
      have hLn : ar_lm nl nt K Lq Ll Lr (upd (upd b_equal nl (nI 0)) nl (nI 1)) (upd b_left nl (nI t)) (upd b_right nl (nI u)) := by
        intro l hl
        rw [pk_un (by omega), pk_un (by omega), pk_un (by omega), pk_un (by omega)]
        exact hL l hl
      refine yy_svx (N := nl + 1) hn h5 hm hw (by omega) hL3 (fun hE w3 i3 c3 d3 a3 b3 => ?_) (fun hE w3 i3 c3 d3 a3 b3 => ?_)
      · refine br_f (by decide) (H 4 ⟨fun _ => rfl, fun z => absurd hD z.2, fun z => absurd hE z.1, fun z => absurd hE z.1⟩ _ _ _ _ _ _ _ ?_ ?_ hLn)
        · exact fun i hi => ((a3 i hi).trans (a2 i hi)).trans (a1 i hi)
        · exact fun i hi => ((b3 i hi).trans (b2 i hi)).trans (b1 i hi)
      · refine br_t rfl (H 3 ⟨fun z => absurd z.1 hE, fun z => absurd z.1 hE, fun _ => rfl, fun z => absurd hD z.2⟩ _ _ _ _ _ _ _ ?_ ?_ hLn)
        · exact fun i hi => ((a3 i hi).trans (a2 i hi)).trans (a1 i hi)
        · exact fun i hi => ((b3 i hi).trans (b2 i hi)).trans (b1 i hi)
    · have hE : ∃ c, ar_G nt K A I E (ar_up Lq nl 1) (ar_up Ll nl t) (ar_up Lr nl u) (nl + 1) c := by
        obtain ⟨c, hG⟩ := hB
        rcases ar_imp (t := t) (u := u) hG with a | a
        · exact ⟨c, a⟩
        · exact absurd ⟨c, a⟩ hD
      refine br_t rfl (H 2 ⟨fun z => absurd z.2 hD, fun _ => rfl, fun z => absurd hE z.1, fun z => absurd hE z.1⟩ _ _ _ _ _ _ _ ?_ ?_ (ar_lm_sp hL))
      · exact fun i hi => (a2 i hi).trans (a1 i hi)
      · exact fun i hi => (b2 i hi).trans (b1 i hi)
  · have hE : ∀ q, ¬ ∃ c, ar_G nt K A I E (ar_up Lq nl q) (ar_up Ll nl t) (ar_up Lr nl u) (nl + 1) c := fun q ⟨c, hG⟩ => hB ⟨c, ar_imd hG⟩
    exact br_t rfl (H 0 ⟨fun z => absurd z.1 (hE 1), fun z => absurd z.1 (hE 1), fun z => absurd z.2 (hE 0), fun _ => rfl⟩ _ _ _ _ _ _ _ a1 b1 hL)
end
theorem i_vc_implied {k : Nat} {u : SX} {v : SY} (I : i_Rel k u v) (hk : k + 4 ≤ 2051) (v1 : Int32) (v2 : Int32) : wpX_implied (fun r u' => wpY_implied (fun r' v' => r' = r ∧ i_Rel (k + 4) u' v') v v1 v2) u v1 v2 := by
  refine ar_el (Q := fun u v => wpX_implied (fun r u' => wpY_implied (fun r' v' => r' = r ∧ i_Rel (k + 4) u' v') v v1 v2) u v1 v2) ?_ I
  intro nt TL IL LL nl dp hm K A I E Lq Ll Lr Lv f_stride f_trialWidth f_keptWidth a_kind a_arrayArg a_indexArg a_elementArg a_indexTerm a_rank a_litEqual a_litLeft a_litRight a_litLevel a_trial a_parent a_label a_kept g_trialWidth g_keptWidth b_kind b_arrayArg b_indexArg b_elementArg b_equal b_left b_right b_level b_index b_cell b_digit hT hL hM
  have hT' := hT
  obtain ⟨t1, t2, t3, t4, t5, t6, t7, t8, t9⟩ := hT'
  have hL' := hL
  obtain ⟨l1, l2, l3, l4, l5, l6, l7⟩ := hL'
  have hn : nt ≤ 24 := by omega
  have h5 : ar_ci K nt ≤ 5 := by omega
  unfold wpX_implied
  refine xx_cp hn t6 t5 (fun hc => br_f (by decide) ?_) (fun hc => br_t rfl ?_)
  · obtain ⟨t, u, ht, hu, e1, e2, hs⟩ := hc
    subst e1 e2
    -- the end, whatever was found
    have fin : ∀ (r : Int32), (((∃ c, ar_G nt K A I E (ar_up Lq nl 1) (ar_up Ll nl t) (ar_up Lr nl u) (nl + 1) c) ∧ (∃ c, ar_G nt K A I E (ar_up Lq nl 0) (ar_up Ll nl t) (ar_up Lr nl u) (nl + 1) c) → r = 4) ∧
        ((∃ c, ar_G nt K A I E (ar_up Lq nl 1) (ar_up Ll nl t) (ar_up Lr nl u) (nl + 1) c) ∧ (¬ ∃ c, ar_G nt K A I E (ar_up Lq nl 0) (ar_up Ll nl t) (ar_up Lr nl u) (nl + 1) c) → r = 2) ∧
        ((¬ ∃ c, ar_G nt K A I E (ar_up Lq nl 1) (ar_up Ll nl t) (ar_up Lr nl u) (nl + 1) c) ∧ (∃ c, ar_G nt K A I E (ar_up Lq nl 0) (ar_up Ll nl t) (ar_up Lr nl u) (nl + 1) c) → r = 3) ∧
        ((¬ ∃ c, ar_G nt K A I E (ar_up Lq nl 1) (ar_up Ll nl t) (ar_up Lr nl u) (nl + 1) c) ∧ (¬ ∃ c, ar_G nt K A I E (ar_up Lq nl 0) (ar_up Ll nl t) (ar_up Lr nl u) (nl + 1) c) → r = 0)) →
        ∀ f_trialWidth a_litEqual a_litLeft a_litRight a_litLevel a_trial a_parent, ar_lm nl nt K Lq Ll Lr a_litEqual a_litLeft a_litRight → (∀ l, l < nl → a_litLevel l = nI (Lv l)) →
        wpY_implied (fun r' v' => r' = r ∧ i_Rel (k + 4) (nI TL, nI IL, nI LL, f_stride, nI nt, nI (ar_ci K nt), nI nl, nI dp, f_trialWidth, nI hm, f_keptWidth, a_kind, a_arrayArg, a_indexArg, a_elementArg, a_indexTerm, a_rank, a_litEqual, a_litLeft, a_litRight, a_litLevel, a_trial, a_parent, a_label, a_kept) v') (nI TL, nI IL, nI LL, nI nt, nI nl, nI dp, nI hm, g_trialWidth, g_keptWidth, b_kind, b_arrayArg, b_indexArg, b_elementArg, b_equal, b_left, b_right, b_level, b_index, b_cell, b_digit) (nI t) (nI u) := by
      intro r hr f_trialWidth a_litEqual a_litLeft a_litRight a_litLevel a_trial a_parent hl hlv
      refine yy_im hn h5 t7 t5 (by omega) l5 ht hu hs (fun r' hr' w' ix ce di bq bl br a1 a2 a3 => ⟨?_, ?_⟩)
      · by_cases p : ∃ c, ar_G nt K A I E (ar_up Lq nl 1) (ar_up Ll nl t) (ar_up Lr nl u) (nl + 1) c
        · by_cases q : ∃ c, ar_G nt K A I E (ar_up Lq nl 0) (ar_up Ll nl t) (ar_up Lr nl u) (nl + 1) c
          · rw [hr.1 ⟨p, q⟩, hr'.1 ⟨p, q⟩]
          · rw [hr.2.1 ⟨p, q⟩, hr'.2.1 ⟨p, q⟩]
        · by_cases q : ∃ c, ar_G nt K A I E (ar_up Lq nl 0) (ar_up Ll nl t) (ar_up Lr nl u) (nl + 1) c
          · rw [hr.2.2.1 ⟨p, q⟩, hr'.2.2.1 ⟨p, q⟩]
          · rw [hr.2.2.2 ⟨p, q⟩, hr'.2.2.2 ⟨p, q⟩]
      · exact ar_in hT ⟨l1, l2, l3, hl, a3, fun l hl2 => ⟨hlv l hl2, (l6 l hl2).2⟩, l7⟩ (ar_rM_f hn hM a1 a2)
    have hlv1 : ∀ l, l < nl → upd a_litLevel nl (nI dp) l = nI (Lv l) := fun l hl => by rw [pk_un (by omega)]; exact (l6 l hl).1
    have hlv2 : ∀ l, l < nl → upd (upd a_litLevel nl (nI dp)) nl (nI dp) l = nI (Lv l) := fun l hl => by rw [pk_un (by omega)]; exact hlv1 l hl
    refine xx_ps (q := 1) ar_nb1 hn h5 t6 t5 t9 (by omega) l4 (by omega) ht hu hs (fun hE w1 tr1 pa1 => ?_) (fun hE w1 tr1 pa1 => ?_)
    · refine xx_ps (q := 0) ar_nb0 hn h5 t6 t5 t9 (by omega) (ar_lm_sp l4) (by omega) ht hu hs (fun hD w2 tr2 pa2 => ?_) (fun hD w2 tr2 pa2 => ?_)
      · refine br_f (by decide) (br_f (by decide) ?_)
        exact fin 4 ⟨fun _ => rfl, fun z => absurd hD z.2, fun z => absurd hE z.1, fun z => absurd hE z.1⟩ _ _ _ _ _ _ _ (ar_lm_sp (ar_lm_sp l4)) hlv2
      · refine br_f (by decide) (br_t rfl ?_)
        unfold wX_implied_39
        refine br_f (by decide) ?_
        exact fin 2 ⟨fun z => absurd z.2 hD, fun _ => rfl, fun z => absurd hE z.1, fun z => absurd hE z.1⟩ _ _ _ _ _ _ _ (ar_lm_sp (ar_lm_sp l4)) hlv2
    · refine xx_ps (q := 0) ar_nb0 hn h5 t6 t5 t9 (by omega) (ar_lm_sp l4) (by omega) ht hu hs (fun hD w2 tr2 pa2 => ?_) (fun hD w2 tr2 pa2 => ?_)
      · refine br_t rfl ?_
        unfold wX_implied_39
        refine br_t rfl (br_f (by decide) ?_)
        exact fin 3 ⟨fun z => absurd z.1 hE, fun z => absurd z.1 hE, fun _ => rfl, fun z => absurd hD z.2⟩ _ _ _ _ _ _ _ (ar_lm_sp (ar_lm_sp l4)) hlv2
      · refine br_t rfl ?_
        unfold wX_implied_39
        refine br_t rfl (br_t rfl ?_)
        exact fin 0 ⟨fun z => absurd z.1 hE, fun z => absurd z.1 hE, fun z => absurd z.2 hD, fun _ => rfl⟩ _ _ _ _ _ _ _ (ar_lm_sp (ar_lm_sp l4)) hlv2
  · unfold wpY_implied
    exact yy_cp hn t7 t5 (fun z => absurd z hc) (fun _ => ⟨rfl, ar_in hT hL hM⟩)
end
section
/-! questions about the kept model -/
theorem ar_mv {nt w t x : Nat} {K A I E KV : Nat → Nat} {fk gk : Int32} {ke ix ce : Nat → Int32} (hw : ar_tw nt K A I E) (h : ar_mo nt w K KV fk gk ke ix ce) (ht : t < nt) (hk : K t ≠ 0) (hx : x ≤ w) :
    ke (ar_en K A I E KV t x) = ce (144 + ar_en K A I E KV t x) := by
  obtain ⟨m1, m2, m3, m4, m5, m6⟩ := h
  obtain ⟨c, y, r1, r2, r3, r4, r5, r6⟩ := ar_enf hw (fun t ht hk => (m4 t ht hk).1) (t + 1) t x (by omega) ht hx
  rw [r2]
  have hc0 : K c ≠ 0 := by
    intro z
    have := (r6 z).1
    rw [this] at z
    exact hk z
  by_cases h1 : K c = 1
  · rw [r5 h1]
    exact m5 c r1 h1
  · exact m6 c r1 (by omega) y r3
section
variable {f_termLimit f_indexLimit f_literalLimit f_stride f_termCount f_indexCount f_literalCount f_depth f_trialWidth f_hasModel f_keptWidth : Int32} {a_kind a_arrayArg a_indexArg a_elementArg a_indexTerm a_rank a_litEqual a_litLeft a_litRight a_litLevel a_trial a_parent a_label a_kept : Nat → Int32} {g_termLimit g_indexLimit g_literalLimit g_terms g_literals g_depth g_kept g_trialWidth g_keptWidth : Int32} {b_kind b_arrayArg b_indexArg b_elementArg b_equal b_left b_right b_level b_index b_cell b_digit : Nat → Int32} {nt TL IL LL nl dp hm : Nat} {K A I E Lq Ll Lr Lv KV : Nat → Nat}
theorem xx_lok {fk gk : Int32} {w t x : Nat} {post : Int32 → Prop} (hn : nt ≤ 24) (ha : ar_tm nt K A I E a_kind a_arrayArg a_indexArg a_elementArg) (hw : ar_tw nt K A I E) (hM : ar_mo nt w K KV fk gk a_kept b_index b_cell)
    (ht : t < nt) (hx : x ≤ w) (h1 : K t = 1 → x = 0) (hp : ar_en K A I E KV t x < 144 → post (nI (ar_en K A I E KV t x))) : wpX_locate post (f_termLimit, f_indexLimit, f_literalLimit, f_stride, nI nt, f_indexCount, f_literalCount, f_depth, f_trialWidth, f_hasModel, f_keptWidth, a_kind, a_arrayArg, a_indexArg, a_elementArg, a_indexTerm, a_rank, a_litEqual, a_litLeft, a_litRight, a_litLevel, a_trial, a_parent, a_label, a_kept) 1 (nI t) (nI x) := by
  obtain ⟨m1, m2, m3, m4, m5, m6⟩ := hM
  have hb := ar_enb hw (fun t ht hk => (m4 t ht hk).1) m3 ht hx
  exact xx_lo hn ha hw (fun i hi hk => xx_iv1 (by omega) (m4 i hi hk).2.1) (fun i hi hk => Nat.le_trans (m4 i hi hk).1 m3) ht (by omega) h1 (hp (by omega))
theorem yy_enk {fk gk : Int32} {w t x : Nat} {post : Int32 → Prop} (hn : nt ≤ 24) (hb : ar_tm nt K A I E b_kind b_arrayArg b_indexArg b_elementArg) (hw : ar_tw nt K A I E) (hM : ar_mo nt w K KV fk gk a_kept b_index b_cell)
    (ht : t < nt) (hx : x ≤ w) (hp : ar_en K A I E KV t x < 144 → post (nI (144 + ar_en K A I E KV t x))) : wpY_entry post (g_termLimit, g_indexLimit, g_literalLimit, g_terms, g_literals, g_depth, g_kept, g_trialWidth, g_keptWidth, b_kind, b_arrayArg, b_indexArg, b_elementArg, b_equal, b_left, b_right, b_level, b_index, b_cell, b_digit) 24 (nI t) (nI x) := by
  obtain ⟨m1, m2, m3, m4, m5, m6⟩ := hM
  have hbb := ar_enb hw (fun t ht hk => (m4 t ht hk).1) m3 ht hx
  exact yy_en (base := 24) (by omega) hn hb hw (fun i hi hk => (m4 i hi hk).2.2) (fun i hi hk => Nat.le_trans (m4 i hi hk).1 m3) ht (by omega) (hp (by omega))
theorem yy_ce {w t x : Nat} {post : Int32 → Prop} (hn : nt ≤ 24) (hb : ar_tm nt K A I E b_kind b_arrayArg b_indexArg b_elementArg) (hw : ar_tw nt K A I E) (hM : ar_mo nt w K KV f_keptWidth (nI w) a_kept b_index b_cell) (hm1 : hm ≠ 0) (hm2 : hm ≤ 1)
    (ht : t < nt) (hs : ar_so (K t) = 2) (hx : x < 2 ^ 31) (hp : post (b_cell (144 + ar_en K A I E KV t (if x ≤ w then x else w)))) : wpY_cell post (g_termLimit, g_indexLimit, g_literalLimit, nI nt, g_literals, g_depth, nI hm, g_trialWidth, nI w, b_kind, b_arrayArg, b_indexArg, b_elementArg, b_equal, b_left, b_right, b_level, b_index, b_cell, b_digit) (nI t) (nI x) := by
  have hw5 := hM.2.2.1
  unfold wpY_cell
  refine yy_so hn hb hw ht (br_t (congrArg nI hs) (br_t (nI_pos' hx) (br_f (nI_ne0 (by omega) (by omega)) (pk_le x w (fun hle => ?_) (fun hgt => ?_)))))
  · rw [if_pos hle] at hp
    unfold wY_cell_43
    refine yy_enk hn hb hw hM ht hle (fun hb => ⟨vp_in_nI (by omega) (by decide), ?_⟩)
    rw [nI_clamp (by omega)]
    exact hp
  · rw [if_neg (by omega)] at hp
    unfold wY_cell_43
    refine yy_enk hn hb hw hM ht (Nat.le_refl w) (fun hb => ⟨vp_in_nI (by omega) (by decide), ?_⟩)
    rw [nI_clamp (by omega)]
    exact hp
theorem xx_fd21 {gk : Int32} {w t u last : Nat} {post : Int32 → Prop} (hn : nt ≤ 24) (ha : ar_tm nt K A I E a_kind a_arrayArg a_indexArg a_elementArg) (hw : ar_tw nt K A I E) (hM : ar_mo nt w K KV f_keptWidth gk a_kept b_index b_cell)
    (ht : t < nt) (hu : u < nt) (hl : last ≤ w) (h1 : K t = 1 → last = 0) (h2 : K u = 1 → last = 0)
    (H1 : (∀ y, y ≤ last → a_kept (ar_en K A I E KV t y) = a_kept (ar_en K A I E KV u y)) → post (-4))
    (H0 : ∀ y, y ≤ last → (∀ z, z < y → a_kept (ar_en K A I E KV t z) = a_kept (ar_en K A I E KV u z)) → a_kept (ar_en K A I E KV t y) ≠ a_kept (ar_en K A I E KV u y) → post (nI y)) :
    ∀ k n x, x + k = last + 1 → k < n → (∀ y, y < x → a_kept (ar_en K A I E KV t y) = a_kept (ar_en K A I E KV u y)) → wX_firstDifference_21 post (nI t) (nI u) (nI last) f_termLimit f_indexLimit f_literalLimit f_stride (nI nt) f_indexCount f_literalCount f_depth f_trialWidth f_hasModel f_keptWidth a_kind a_arrayArg a_indexArg a_elementArg a_indexTerm a_rank a_litEqual a_litLeft a_litRight a_litLevel a_trial a_parent a_label a_kept n (nI x) := by
  have hw5 := hM.2.2.1
  intro k
  induction k with
  | zero =>
    intro n x hx hk hy
    obtain ⟨n, rfl⟩ : ∃ m, n = m + 1 := ⟨n - 1, by omega⟩
    exact br_t (nI_lt (by omega) (by omega)) (H1 (fun y h => hy y (by omega)))
  | succ k ih =>
    intro n x hx hk hy
    obtain ⟨n, rfl⟩ : ∃ m, n = m + 1 := ⟨n - 1, by omega⟩
    refine br_f (nI_nlt (by omega) (by omega)) ?_
    refine xx_lok hn ha hw hM ht (by omega) (fun z => by have := h1 z; omega) (fun b1 => ?_)
    refine xx_lok hn ha hw hM hu (by omega) (fun z => by have := h2 z; omega) (fun b2 => ?_)
    refine ⟨vp_in_nI b1 (by decide), vp_in_nI b2 (by decide), ?_⟩
    rw [nI_clamp (by omega), nI_clamp (by omega)]
    refine br_c (fun e => nm_r (nI_1 x) (ih n (x + 1) (by omega) (by omega) (fun y hyx => ?_))) (fun e => H0 x (by omega) hy e)
    by_cases h : y = x
    · rw [h]; exact e
    · exact hy y (by omega)
theorem xx_fd {gk : Int32} {w t u last : Nat} {post : Int32 → Prop} (hn : nt ≤ 24) (ha : ar_tm nt K A I E a_kind a_arrayArg a_indexArg a_elementArg) (hw : ar_tw nt K A I E) (hM : ar_mo nt w K KV (nI w) gk a_kept b_index b_cell)
    (ht : t < nt) (hu : u < nt) (hs : ar_so (K t) = ar_so (K u)) (hl : last = if ar_so (K t) = 2 then w else 0)
    (H1 : (∀ y, y ≤ last → a_kept (ar_en K A I E KV t y) = a_kept (ar_en K A I E KV u y)) → post (-4))
    (H0 : ∀ y, y ≤ last → (∀ z, z < y → a_kept (ar_en K A I E KV t z) = a_kept (ar_en K A I E KV u z)) → a_kept (ar_en K A I E KV t y) ≠ a_kept (ar_en K A I E KV u y) → post (nI y)) :
    wpX_firstDifference post (f_termLimit, f_indexLimit, f_literalLimit, f_stride, nI nt, f_indexCount, f_literalCount, f_depth, f_trialWidth, f_hasModel, nI w, a_kind, a_arrayArg, a_indexArg, a_elementArg, a_indexTerm, a_rank, a_litEqual, a_litLeft, a_litRight, a_litLevel, a_trial, a_parent, a_label, a_kept) (nI t) (nI u) := by
  unfold wpX_firstDifference
  have hb := ar_so_le (hw t ht).1
  refine xx_so hn ha hw ht (pk_eq (ar_so (K t)) 2 (fun e => ⟨last + 2, ?_⟩) (fun e => ⟨last + 2, ?_⟩))
  · rw [if_pos e] at hl
    subst hl
    refine xx_fd21 hn ha hw hM ht hu (Nat.le_refl _) (fun z => ?_) (fun z => ?_) H1 H0 (last + 1) (last + 2) 0 (by omega) (by omega) (fun y hy => absurd hy (Nat.not_lt_zero y))
    · rw [z] at e; exact absurd e (by decide)
    · rw [hs, z] at e; exact absurd e (by decide)
  · rw [if_neg e] at hl
    subst hl
    exact xx_fd21 hn ha hw hM ht hu (Nat.zero_le _) (fun _ => rfl) (fun _ => rfl) H1 H0 1 2 0 (by omega) (by omega) (fun y hy => absurd hy (Nat.not_lt_zero y))
theorem yy_wi32 {w t u : Nat} {post : Int32 → Prop} (hn : nt ≤ 24) (hb : ar_tm nt K A I E b_kind b_arrayArg b_indexArg b_elementArg) (hw : ar_tw nt K A I E) (hM : ar_mo nt w K KV f_keptWidth (nI w) a_kept b_index b_cell) (hm1 : hm ≠ 0) (hm2 : hm ≤ 1)
    (ht : t < nt) (hu : u < nt) (st : ar_so (K t) = 2) (su : ar_so (K u) = 2)
    (H1 : (∀ y, y ≤ w → b_cell (144 + ar_en K A I E KV t y) = b_cell (144 + ar_en K A I E KV u y)) → post (-4))
    (H0 : ∀ y, y ≤ w → (∀ z, z < y → b_cell (144 + ar_en K A I E KV t z) = b_cell (144 + ar_en K A I E KV u z)) → b_cell (144 + ar_en K A I E KV t y) ≠ b_cell (144 + ar_en K A I E KV u y) → post (nI y)) :
    ∀ k n x, x + k = w + 1 → k < n → (∀ y, y < x → b_cell (144 + ar_en K A I E KV t y) = b_cell (144 + ar_en K A I E KV u y)) → wY_witness_32 post (nI t) (nI u) g_termLimit g_indexLimit g_literalLimit (nI nt) g_literals g_depth (nI hm) g_trialWidth (nI w) b_kind b_arrayArg b_indexArg b_elementArg b_equal b_left b_right b_level b_index b_cell b_digit n (nI x) := by
  have hw5 := hM.2.2.1
  intro k
  induction k with
  | zero =>
    intro n x hx hk hy
    obtain ⟨n, rfl⟩ : ∃ m, n = m + 1 := ⟨n - 1, by omega⟩
    exact br_t (nI_lt (by omega) (by omega)) (H1 (fun y h => hy y (by omega)))
  | succ k ih =>
    intro n x hx hk hy
    obtain ⟨n, rfl⟩ : ∃ m, n = m + 1 := ⟨n - 1, by omega⟩
    refine br_f (nI_nlt (by omega) (by omega)) ?_
    refine yy_ce hn hb hw hM hm1 hm2 ht st (by omega) ?_
    refine yy_ce hn hb hw hM hm1 hm2 hu su (by omega) ?_
    rw [if_pos (show x ≤ w by omega)]
    refine br_c (fun e => nm_r (nI_1 x) (ih n (x + 1) (by omega) (by omega) (fun y hyx => ?_))) (fun e => H0 x (by omega) hy e)
    by_cases h : y = x
    · rw [h]; exact e
    · exact hy y (by omega)
end
theorem i_vc_value {k : Nat} {u : SX} {v : SY} (I : i_Rel k u v) (hk : k + 4 ≤ 2051) (v1 : Int32) : wpX_value (fun r => wpY_value (fun r' => r' = r ∧ i_Rel (k + 4) u v) v v1) u v1 := by
  refine ar_el (Q := fun u v => wpX_value (fun r => wpY_value (fun r' => r' = r ∧ i_Rel (k + 4) u v) v v1) u v1) ?_ I
  intro nt TL IL LL nl dp hm K A I E Lq Ll Lr Lv f_stride f_trialWidth f_keptWidth a_kind a_arrayArg a_indexArg a_elementArg a_indexTerm a_rank a_litEqual a_litLeft a_litRight a_litLevel a_trial a_parent a_label a_kept g_trialWidth g_keptWidth b_kind b_arrayArg b_indexArg b_elementArg b_equal b_left b_right b_level b_index b_cell b_digit hT hL hM
  have hR : i_Rel (k + 4) (nI TL, nI IL, nI LL, f_stride, nI nt, nI (ar_ci K nt), nI nl, nI dp, f_trialWidth, nI hm, f_keptWidth, a_kind, a_arrayArg, a_indexArg, a_elementArg, a_indexTerm, a_rank, a_litEqual, a_litLeft, a_litRight, a_litLevel, a_trial, a_parent, a_label, a_kept) (nI TL, nI IL, nI LL, nI nt, nI nl, nI dp, nI hm, g_trialWidth, g_keptWidth, b_kind, b_arrayArg, b_indexArg, b_elementArg, b_equal, b_left, b_right, b_level, b_index, b_cell, b_digit) := ar_in hT hL hM
  obtain ⟨t1, t2, t3, t4, t5, t6, t7, t8, t9⟩ := hT
  have hn : nt ≤ 24 := by omega
  obtain ⟨m1, m2⟩ := hM
  unfold wpX_value
  rcases ar_tix v1 hn with h | ⟨t, ht, e⟩
  · refine xx_isn h (br_t rfl ?_)
    unfold wpY_value
    exact yy_isn h (br_t rfl ⟨rfl, hR⟩)
  · subst e
    have hb := ar_so_le (t5 t ht).1
    refine xx_isy hn ht (br_f (by decide) (xx_so hn t6 t5 ht (pk_eq (ar_so (K t)) 2 (fun e => ?_) (fun e => ?_))))
    · unfold wpY_value
      exact yy_isy hn ht (br_f (by decide) (yy_so hn t7 t5 ht (br_t (congrArg nI e) ⟨rfl, hR⟩)))
    · have ne2 : ¬ nI (ar_so (K t)) = 2 := fun z => e (ar_inj (b := 2) z (by omega) (by omega))
      refine pk_eq hm 0 (fun h0 => ?_) (fun h0 => ?_)
      · unfold wpY_value
        exact yy_isy hn ht (br_f (by decide) (yy_so hn t7 t5 ht (br_f ne2 (br_t (congrArg nI h0) ⟨rfl, hR⟩))))
      · obtain ⟨w, KV, hmo⟩ := m2 (by omega)
        refine xx_lok (x := 0) hn t6 t5 hmo ht (Nat.zero_le w) (fun _ => rfl) (fun hlt => ⟨vp_in_nI hlt (by decide), ?_⟩)
        rw [nI_clamp (by omega)]
        unfold wpY_value
        have h4 := (t5 t ht).1
        refine yy_isy hn ht (br_f (by decide) (yy_so hn t7 t5 ht (br_f ne2 (br_f (nI_ne0 (by omega) (by omega)) ⟨vp_in_nI (by omega) (by decide), pk_eq (K t) 0 (fun k0 => ?_) (fun k0 => ?_) (ar_rd (by omega) (t7 t ht).1)⟩))))
        · obtain ⟨_, _, _, q4, _⟩ := hmo
          obtain ⟨_, p2, p3⟩ := q4 t ht k0
          rw [ar_24, ar_rd (t := 24 + t) (by omega) p3, ar_enc 0 (Or.inl k0)]
          exact ⟨vp_in_nI (by omega) (by decide), p2.symm, hR⟩
        · refine yy_enk (x := 0) hn t7 t5 hmo ht (Nat.zero_le w) (fun hlt => ⟨vp_in_nI (by omega) (by decide), ?_⟩)
          rw [nI_clamp (by omega)]
          exact ⟨(ar_mv t5 hmo ht k0 (Nat.zero_le w)).symm, hR⟩
theorem i_vc_cell {k : Nat} {u : SX} {v : SY} (I : i_Rel k u v) (hk : k + 4 ≤ 2051) (v1 : Int32) (v2 : Int32) : wpX_cell (fun r => wpY_cell (fun r' => r' = r ∧ i_Rel (k + 4) u v) v v1 v2) u v1 v2 := by
  refine ar_el (Q := fun u v => wpX_cell (fun r => wpY_cell (fun r' => r' = r ∧ i_Rel (k + 4) u v) v v1 v2) u v1 v2) ?_ I
  intro nt TL IL LL nl dp hm K A I E Lq Ll Lr Lv f_stride f_trialWidth f_keptWidth a_kind a_arrayArg a_indexArg a_elementArg a_indexTerm a_rank a_litEqual a_litLeft a_litRight a_litLevel a_trial a_parent a_label a_kept g_trialWidth g_keptWidth b_kind b_arrayArg b_indexArg b_elementArg b_equal b_left b_right b_level b_index b_cell b_digit hT hL hM
  have hR : i_Rel (k + 4) (nI TL, nI IL, nI LL, f_stride, nI nt, nI (ar_ci K nt), nI nl, nI dp, f_trialWidth, nI hm, f_keptWidth, a_kind, a_arrayArg, a_indexArg, a_elementArg, a_indexTerm, a_rank, a_litEqual, a_litLeft, a_litRight, a_litLevel, a_trial, a_parent, a_label, a_kept) (nI TL, nI IL, nI LL, nI nt, nI nl, nI dp, nI hm, g_trialWidth, g_keptWidth, b_kind, b_arrayArg, b_indexArg, b_elementArg, b_equal, b_left, b_right, b_level, b_index, b_cell, b_digit) := ar_in hT hL hM
  obtain ⟨t1, t2, t3, t4, t5, t6, t7, t8, t9⟩ := hT
  have hn : nt ≤ 24 := by omega
  obtain ⟨m1, m2⟩ := hM
  unfold wpX_cell
  refine xx_hs (s := 2) (by omega) hn t6 t5 (fun h1 => br_f (by decide) ?_) (fun h1 => br_t rfl ?_)
  · obtain ⟨t, ht, e, hs⟩ := h1
    subst e
    by_cases h0 : 0 ≤ v2
    · refine br_t h0 ?_
      obtain ⟨x, hx, e⟩ := nI_of (x := v2) (Int32.not_lt.mpr h0)
      subst e
      refine pk_eq hm 0 (fun e0 => ?_) (fun e0 => ?_)
      · unfold wpY_cell
        exact yy_so hn t7 t5 ht (br_t (congrArg nI hs) (br_t h0 (br_t (congrArg nI e0) ⟨rfl, hR⟩)))
      · obtain ⟨w, KV, hmo⟩ := m2 (by omega)
        have hw5 := hmo.2.2.1
        have e1 := hmo.1
        have e2 := hmo.2.1
        subst e1 e2
        have hk0 : K t ≠ 0 := fun z => by rw [z] at hs; exact absurd hs (by decide)
        have hk1 : K t ≠ 1 := fun z => by rw [z] at hs; exact absurd hs (by decide)
        refine pk_le x w (fun hle => ?_) (fun hgt => ?_)
        · unfold wX_cell_41
          refine xx_lok hn t6 t5 hmo ht hle (fun z => absurd z hk1) (fun hlt => ⟨vp_in_nI hlt (by decide), ?_⟩)
          rw [nI_clamp (by omega)]
          refine yy_ce hn t7 t5 hmo e0 m1 ht hs hx ⟨?_, hR⟩
          rw [if_pos hle]
          exact (ar_mv t5 hmo ht hk0 hle).symm
        · unfold wX_cell_41
          refine xx_lok hn t6 t5 hmo ht (Nat.le_refl w) (fun z => absurd z hk1) (fun hlt => ⟨vp_in_nI hlt (by decide), ?_⟩)
          rw [nI_clamp (by omega)]
          refine yy_ce hn t7 t5 hmo e0 m1 ht hs hx ⟨?_, hR⟩
          rw [if_neg (by omega)]
          exact (ar_mv t5 hmo ht hk0 (Nat.le_refl w)).symm
    · refine br_f h0 ?_
      unfold wpY_cell
      exact yy_so hn t7 t5 ht (br_t (congrArg nI hs) (br_f h0 ⟨rfl, hR⟩))
  · unfold wpY_cell
    exact yy_hs (s := 2) (by omega) hn t7 t5 (fun z => absurd z h1) (fun _ => ⟨rfl, hR⟩)
theorem i_vc_witness {k : Nat} {u : SX} {v : SY} (I : i_Rel k u v) (hk : k + 4 ≤ 2051) (v1 : Int32) (v2 : Int32) : wpX_witness (fun r => wpY_witness (fun r' => r' = r ∧ i_Rel (k + 4) u v) v v1 v2) u v1 v2 := by
  refine ar_el (Q := fun u v => wpX_witness (fun r => wpY_witness (fun r' => r' = r ∧ i_Rel (k + 4) u v) v v1 v2) u v1 v2) ?_ I
  intro nt TL IL LL nl dp hm K A I E Lq Ll Lr Lv f_stride f_trialWidth f_keptWidth a_kind a_arrayArg a_indexArg a_elementArg a_indexTerm a_rank a_litEqual a_litLeft a_litRight a_litLevel a_trial a_parent a_label a_kept g_trialWidth g_keptWidth b_kind b_arrayArg b_indexArg b_elementArg b_equal b_left b_right b_level b_index b_cell b_digit hT hL hM
  have hR : i_Rel (k + 4) (nI TL, nI IL, nI LL, f_stride, nI nt, nI (ar_ci K nt), nI nl, nI dp, f_trialWidth, nI hm, f_keptWidth, a_kind, a_arrayArg, a_indexArg, a_elementArg, a_indexTerm, a_rank, a_litEqual, a_litLeft, a_litRight, a_litLevel, a_trial, a_parent, a_label, a_kept) (nI TL, nI IL, nI LL, nI nt, nI nl, nI dp, nI hm, g_trialWidth, g_keptWidth, b_kind, b_arrayArg, b_indexArg, b_elementArg, b_equal, b_left, b_right, b_level, b_index, b_cell, b_digit) := ar_in hT hL hM
  obtain ⟨t1, t2, t3, t4, t5, t6, t7, t8, t9⟩ := hT
  have hn : nt ≤ 24 := by omega
  obtain ⟨m1, m2⟩ := hM
  unfold wpX_witness
  refine xx_hs (s := 2) (by omega) hn t6 t5 (fun h1 => br_f (by decide) ?_) (fun h1 => br_t rfl ?_)
  · refine xx_hs (s := 2) (by omega) hn t6 t5 (fun h2 => br_f (by decide) ?_) (fun h2 => br_t rfl ?_)
    · have go : ∀ (Q : Int32 → Prop), (hm = 0 → Q (-3)) → (hm ≠ 0 → ∃ n, wY_witness_32 Q v1 v2 (nI TL) (nI IL) (nI LL) (nI nt) (nI nl) (nI dp) (nI hm) g_trialWidth g_keptWidth b_kind b_arrayArg b_indexArg b_elementArg b_equal b_left b_right b_level b_index b_cell b_digit n 0) → wpY_witness Q (nI TL, nI IL, nI LL, nI nt, nI nl, nI dp, nI hm, g_trialWidth, g_keptWidth, b_kind, b_arrayArg, b_indexArg, b_elementArg, b_equal, b_left, b_right, b_level, b_index, b_cell, b_digit) v1 v2 := by
        intro Q q0 q1
        unfold wpY_witness
        refine yy_hs (s := 2) (by omega) hn t7 t5 (fun _ => ?_) (fun z => absurd h1 z)
        refine yy_hs (s := 2) (by omega) hn t7 t5 (fun _ => ?_) (fun z => absurd h2 z)
        exact pk_eq hm 0 q0 q1
      refine pk_eq hm 0 (fun e0 => ?_) (fun e0 => ?_)
      · exact go _ (fun _ => ⟨rfl, hR⟩) (fun z => absurd e0 z)
      · obtain ⟨w, KV, hmo⟩ := m2 (by omega)
        have e1 := hmo.1
        have e2 := hmo.2.1
        subst e1 e2
        obtain ⟨t, ht, e, st⟩ := h1
        obtain ⟨u, hu, e', su⟩ := h2
        subst e e'
        have kt : K t ≠ 0 := fun z => by rw [z] at st; exact absurd st (by decide)
        have ku : K u ≠ 0 := fun z => by rw [z] at su; exact absurd su (by decide)
        have et : ∀ y, y ≤ w → a_kept (ar_en K A I E KV t y) = b_cell (144 + ar_en K A I E KV t y) := fun y hy => ar_mv t5 hmo ht kt hy
        have eu : ∀ y, y ≤ w → a_kept (ar_en K A I E KV u y) = b_cell (144 + ar_en K A I E KV u y) := fun y hy => ar_mv t5 hmo hu ku hy
        refine xx_fd (last := w) hn t6 t5 hmo ht hu (st.trans su.symm) (by rw [if_pos st]) (fun hall => ?_) (fun y hy hz hne => ?_)
        · refine go _ (fun z => absurd z e0) (fun _ => ⟨w + 2, ?_⟩)
          refine yy_wi32 hn t7 t5 hmo e0 m1 ht hu st su (fun _ => ⟨rfl, hR⟩) (fun y hy _ hne => ?_) (w + 1) (w + 2) 0 (by omega) (by omega) (fun y hy => absurd hy (Nat.not_lt_zero y))
          exact absurd (((et y hy).symm.trans (hall y hy)).trans (eu y hy)) hne
        · refine go _ (fun z => absurd z e0) (fun _ => ⟨w + 2, ?_⟩)
          refine yy_wi32 hn t7 t5 hmo e0 m1 ht hu st su (fun hall => ?_) (fun y' hy' hz' hne' => ?_) (w + 1) (w + 2) 0 (by omega) (by omega) (fun y hy => absurd hy (Nat.not_lt_zero y))
          · exact absurd (((et y hy).trans (hall y hy)).trans (eu y hy).symm) hne
          · have : y' = y := by
              rcases Nat.lt_trichotomy y' y with a | a | a
              · exact absurd (((et y' hy').symm.trans (hz y' a)).trans (eu y' hy')) hne'
              · exact a
              · exact absurd (((et y hy).trans (hz' y a)).trans (eu y hy).symm) hne
            rw [this]
            exact ⟨rfl, hR⟩
    · unfold wpY_witness
      refine yy_hs (s := 2) (by omega) hn t7 t5 (fun _ => ?_) (fun z => absurd h1 z)
      exact yy_hs (s := 2) (by omega) hn t7 t5 (fun z => absurd z h2) (fun _ => ⟨rfl, hR⟩)
  · unfold wpY_witness
    exact yy_hs (s := 2) (by omega) hn t7 t5 (fun z => absurd z h1) (fun _ => ⟨rfl, hR⟩)
theorem i_vc_holds {k : Nat} {u : SX} {v : SY} (I : i_Rel k u v) (hk : k + 4 ≤ 2051) (v1 : Int32) : wpX_holds (fun r => wpY_holds (fun r' => r' = r ∧ i_Rel (k + 4) u v) v v1) u v1 := by
  refine ar_el (Q := fun u v => wpX_holds (fun r => wpY_holds (fun r' => r' = r ∧ i_Rel (k + 4) u v) v v1) u v1) ?_ I
  intro nt TL IL LL nl dp hm K A I E Lq Ll Lr Lv f_stride f_trialWidth f_keptWidth a_kind a_arrayArg a_indexArg a_elementArg a_indexTerm a_rank a_litEqual a_litLeft a_litRight a_litLevel a_trial a_parent a_label a_kept g_trialWidth g_keptWidth b_kind b_arrayArg b_indexArg b_elementArg b_equal b_left b_right b_level b_index b_cell b_digit hT hL hM
  have hR : i_Rel (k + 4) (nI TL, nI IL, nI LL, f_stride, nI nt, nI (ar_ci K nt), nI nl, nI dp, f_trialWidth, nI hm, f_keptWidth, a_kind, a_arrayArg, a_indexArg, a_elementArg, a_indexTerm, a_rank, a_litEqual, a_litLeft, a_litRight, a_litLevel, a_trial, a_parent, a_label, a_kept) (nI TL, nI IL, nI LL, nI nt, nI nl, nI dp, nI hm, g_trialWidth, g_keptWidth, b_kind, b_arrayArg, b_indexArg, b_elementArg, b_equal, b_left, b_right, b_level, b_index, b_cell, b_digit) := ar_in hT hL hM
  obtain ⟨t1, t2, t3, t4, t5, t6, t7, t8, t9⟩ := hT
  obtain ⟨l1, l2, l3, l4, l5, l6, l7⟩ := hL
  have hn : nt ≤ 24 := by omega
  obtain ⟨m1, m2⟩ := hM
  unfold wpX_holds
  by_cases hneg : v1 < 0
  · refine br_t hneg ?_
    unfold wpY_holds
    exact br_t hneg ⟨rfl, hR⟩
  · obtain ⟨j, hj, e⟩ := nI_of hneg
    subst e
    refine br_f hneg (pk_lt j nl (fun hlt => ?_) (fun hge => ?_))
    · obtain ⟨x1, x2, x3, x4, x5, x6, x7⟩ := l4 j hlt
      obtain ⟨y1, y2, y3, _⟩ := l5 j hlt
      have hin : vp_in (nI j) 17 := vp_in_nI (by omega) (by decide)
      refine pk_eq hm 0 (fun e0 => ?_) (fun e0 => ⟨hin, hin, ?_⟩)
      · unfold wpY_holds
        exact br_f hneg (br_t (nI_lt hlt (by omega)) (br_t (congrArg nI e0) ⟨rfl, hR⟩))
      · obtain ⟨w, KV, hmo⟩ := m2 (by omega)
        have e1 := hmo.1
        have e2 := hmo.2.1
        have hw5 := hmo.2.2.1
        have q4 := hmo.2.2.2.1
        subst e1 e2
        -- the reference's walk, by what holds in the model
        have Y : ∀ (Q : Int32 → Prop), ((if K (Ll j) = 0 then KV (Ll j) = KV (Lr j) else ∀ y, y ≤ w → b_cell (24 * 6 + ar_en K A I E KV (Ll j) y) = b_cell (24 * 6 + ar_en K A I E KV (Lr j) y)) → ((nI 1 = nI (Lq j) → Q 1) ∧ (¬ nI 1 = nI (Lq j) → Q 0))) →
            ((if K (Ll j) = 0 then KV (Ll j) ≠ KV (Lr j) else ∃ y, y ≤ w ∧ b_cell (24 * 6 + ar_en K A I E KV (Ll j) y) ≠ b_cell (24 * 6 + ar_en K A I E KV (Lr j) y)) → ((nI 0 = nI (Lq j) → Q 1) ∧ (¬ nI 0 = nI (Lq j) → Q 0))) → wpY_holds Q (nI TL, nI IL, nI LL, nI nt, nI nl, nI dp, nI hm, g_trialWidth, nI w, b_kind, b_arrayArg, b_indexArg, b_elementArg, b_equal, b_left, b_right, b_level, b_index, b_cell, b_digit) (nI j) := by
          intro Q q1 q0
          unfold wpY_holds
          refine br_f hneg (br_t (nI_lt hlt (by omega)) (br_f (nI_ne0 (by omega) (by omega)) ⟨hin, hin, ?_⟩))
          rw [ar_rd (t := j) hj y2, ar_rd (t := j) hj y3, ar_rd (t := j) hj y1]
          exact yy_sa (base := 24) (w := w) (W := 0) (Or.inr ⟨rfl, rfl⟩) hn t7 t5 (fun i hi hk => (q4 i hi hk).2.2) (fun i hi hk => (q4 i hi hk).1) hw5 x5 x6 x7 (fun h => ⟨hin, q1 h⟩) (fun h => ⟨hin, q0 h⟩)
        have mv : K (Ll j) ≠ 0 → ∀ y, y ≤ w → (a_kept (ar_en K A I E KV (Ll j) y) = a_kept (ar_en K A I E KV (Lr j) y) ↔ b_cell (24 * 6 + ar_en K A I E KV (Ll j) y) = b_cell (24 * 6 + ar_en K A I E KV (Lr j) y)) := by
          intro k0 y hy
          have k1 : K (Lr j) ≠ 0 := fun z => by
            rw [z] at x7
            exact k0 (ar_so0.mp x7)
          rw [ar_mv t5 hmo x5 k0 hy, ar_mv t5 hmo x6 k1 hy]
        -- index constants
        have mz : K (Ll j) = 0 → (a_kept (ar_en K A I E KV (Ll j) 0) = a_kept (ar_en K A I E KV (Lr j) 0) ↔ KV (Ll j) = KV (Lr j)) := by
          intro k0
          have k1 : K (Lr j) = 0 := by
            rw [k0] at x7
            exact ar_so0.mp x7.symm
          have b1 := (q4 _ x5 k0).1
          have b2 := (q4 _ x6 k1).1
          rw [ar_enc 0 (Or.inl k0), ar_enc 0 (Or.inl k1), Nat.add_zero, Nat.add_zero, (q4 _ x5 k0).2.1, (q4 _ x6 k1).2.1]
          exact nI_eq (by omega) (by omega)
        rw [ar_rd (t := j) hj x2, ar_rd (t := j) hj x3]
        refine xx_fd (last := if ar_so (K (Ll j)) = 2 then w else 0) hn t6 t5 hmo x5 x6 x7 rfl (fun hall => br_t rfl ?_) (fun y hy hz hne => br_f (ar_ns4 ?_) ?_)
        · unfold wX_holds_52
          refine ⟨hin, ?_⟩
          rw [ar_rd (t := j) hj x1]
          have hS : (if K (Ll j) = 0 then KV (Ll j) = KV (Lr j) else ∀ y, y ≤ w → b_cell (24 * 6 + ar_en K A I E KV (Ll j) y) = b_cell (24 * 6 + ar_en K A I E KV (Lr j) y)) := by
            by_cases k0 : K (Ll j) = 0
            · rw [if_pos k0]
              exact (mz k0).mp (hall 0 (Nat.zero_le _))
            · rw [if_neg k0]
              intro y hy
              by_cases s2 : ar_so (K (Ll j)) = 2
              · rw [if_pos s2] at hall
                exact (mv k0 y hy).mp (hall y hy)
              · have s1 : ar_so (K (Ll j)) = 1 := by
                  have := ar_so_le (t5 _ x5).1
                  have : ar_so (K (Ll j)) ≠ 0 := fun z => k0 (ar_so0.mp z)
                  omega
                rw [ar_ene t5 y 0 x5 s1, ar_ene t5 y 0 x6 (x7.symm.trans s1)]
                exact (mv k0 0 (Nat.zero_le w)).mp (hall 0 (Nat.zero_le _))
          have Z : ∀ r, (nI 1 = nI (Lq j) → r = 1) → (¬ nI 1 = nI (Lq j) → r = 0) → wpY_holds (fun r' => r' = r ∧ i_Rel (k + 4) (nI TL, nI IL, nI LL, f_stride, nI nt, nI (ar_ci K nt), nI nl, nI dp, f_trialWidth, nI hm, nI w, a_kind, a_arrayArg, a_indexArg, a_elementArg, a_indexTerm, a_rank, a_litEqual, a_litLeft, a_litRight, a_litLevel, a_trial, a_parent, a_label, a_kept) (nI TL, nI IL, nI LL, nI nt, nI nl, nI dp, nI hm, g_trialWidth, nI w, b_kind, b_arrayArg, b_indexArg, b_elementArg, b_equal, b_left, b_right, b_level, b_index, b_cell, b_digit)) (nI TL, nI IL, nI LL, nI nt, nI nl, nI dp, nI hm, g_trialWidth, nI w, b_kind, b_arrayArg, b_indexArg, b_elementArg, b_equal, b_left, b_right, b_level, b_index, b_cell, b_digit) (nI j) := by
            intro r z1 z0
            refine Y _ (fun _ => br_c (fun e => ⟨(z1 e).symm, hR⟩) (fun e => ⟨(z0 e).symm, hR⟩)) (fun h => ?_)
            exfalso
            by_cases k0 : K (Ll j) = 0
            · rw [if_pos k0] at hS h
              exact h hS
            · rw [if_neg k0] at hS h
              obtain ⟨y, hy, hne⟩ := h
              exact hne (hS y hy)
          exact br_c (fun e => Z 1 (fun _ => rfl) (fun z => absurd e z)) (fun e => Z 0 (fun z => absurd z e) (fun _ => rfl))
        · split at hy <;> omega
        · unfold wX_holds_52
          refine ⟨hin, ?_⟩
          rw [ar_rd (t := j) hj x1]
          have hyw : y ≤ w := by split at hy <;> omega
          have hS : ¬ (if K (Ll j) = 0 then KV (Ll j) = KV (Lr j) else ∀ y, y ≤ w → b_cell (24 * 6 + ar_en K A I E KV (Ll j) y) = b_cell (24 * 6 + ar_en K A I E KV (Lr j) y)) := by
            by_cases k0 : K (Ll j) = 0
            · rw [if_pos k0]
              rw [if_neg (by rw [k0]; decide)] at hy
              have : y = 0 := by omega
              rw [this] at hne
              exact fun z => hne ((mz k0).mpr z)
            · rw [if_neg k0]
              exact fun z => hne ((mv k0 y hyw).mpr (z y hyw))
          have Z : ∀ r, (nI 0 = nI (Lq j) → r = 1) → (¬ nI 0 = nI (Lq j) → r = 0) → wpY_holds (fun r' => r' = r ∧ i_Rel (k + 4) (nI TL, nI IL, nI LL, f_stride, nI nt, nI (ar_ci K nt), nI nl, nI dp, f_trialWidth, nI hm, nI w, a_kind, a_arrayArg, a_indexArg, a_elementArg, a_indexTerm, a_rank, a_litEqual, a_litLeft, a_litRight, a_litLevel, a_trial, a_parent, a_label, a_kept) (nI TL, nI IL, nI LL, nI nt, nI nl, nI dp, nI hm, g_trialWidth, nI w, b_kind, b_arrayArg, b_indexArg, b_elementArg, b_equal, b_left, b_right, b_level, b_index, b_cell, b_digit)) (nI TL, nI IL, nI LL, nI nt, nI nl, nI dp, nI hm, g_trialWidth, nI w, b_kind, b_arrayArg, b_indexArg, b_elementArg, b_equal, b_left, b_right, b_level, b_index, b_cell, b_digit) (nI j) := by
            intro r z1 z0
            exact Y _ (fun h => absurd h hS) (fun _ => br_c (fun e => ⟨(z1 e).symm, hR⟩) (fun e => ⟨(z0 e).symm, hR⟩))
          exact br_c (fun e => Z 1 (fun _ => rfl) (fun z => absurd e z)) (fun e => Z 0 (fun z => absurd z e) (fun _ => rfl))
    · unfold wpY_holds
      exact br_f hneg (br_f (nI_nlt hge hj) ⟨rfl, hR⟩)
end
