section
/-! rows of kit/rows/PURE-ROWS (a starting text) -/
theorem pk_us {f : Nat → Int32} {k : Nat} {x : Int32} : upd f k x k = x := if_pos rfl
theorem pk_un {f : Nat → Int32} {k j : Nat} {x : Int32} (h : j ≠ k) : upd f k x j = f j := if_neg h
theorem pk_sub {a b : Nat} (h : b ≤ a) : nI a - nI b = nI (a - b) := by
  obtain ⟨c, rfl⟩ : ∃ c, a = c + b := ⟨a - b, by omega⟩
  rw [← nI_add, Int32.add_sub_cancel, Nat.add_sub_cancel]
theorem pk_m1 (n : Nat) : nI (n + 1) + (-1) = nI n := by
  rw [← nI_1, Int32.add_assoc, show (1 : Int32) + (-1) = 0 from rfl, Int32.add_zero]
theorem pk_mul (a b : Nat) : nI a * nI b = nI (a * b) := (Int32.ofNat_mul a b).symm
theorem pk_div {a d : Nat} (ha : a < 2 ^ 31) (h0 : 0 < d) (hd : d < 2 ^ 31) : nI a / nI d = nI (a / d) := by
  apply Int32.toInt_inj.mp
  rw [lg_idiv_nonneg (by rw [nI_toInt ha]; omega) (by rw [nI_toInt hd]; omega), nI_toInt ha, nI_toInt hd, nI_toInt (Nat.lt_of_le_of_lt (Nat.div_le_self a d) ha)]
  first | rfl | exact (Int.natCast_ediv _ _).symm
theorem pk_rem {a d : Nat} (ha : a < 2 ^ 31) (h0 : 0 < d) (hd : d < 2 ^ 31) : nI a - nI a / nI d * nI d = nI (a % d) := by
  rw [pk_div ha h0 hd, pk_mul, pk_sub (Nat.div_mul_le_self a d)]
  exact congrArg nI (by have := Nat.div_add_mod' a d; omega)
theorem pk_sub_toInt {a b : Nat} (ha : a < 2 ^ 30) (hb : b < 2 ^ 30) : (nI a - nI b).toInt = (a : Int) - b := by
  rw [Int32.toInt_sub, nI_toInt (by omega), nI_toInt (by omega)]
  exact Int.bmod_eq_of_le (by omega) (by omega)
theorem pk_sneg {a b : Nat} (hb : b < 2 ^ 30) (h : a < b) : nI a - nI b < 0 := by
  rw [Int32.lt_iff_toInt_lt, pk_sub_toInt (by omega) hb, show (0 : Int32).toInt = 0 from by decide]
  omega
theorem pk_ix (x : Int32) {n : Nat} (hn : n < 2 ^ 31) : x < 0 ∨ nI n ≤ x ∨ ∃ j : Nat, j < n ∧ x = nI j := by
  by_cases h : x < 0
  · exact Or.inl h
  · obtain ⟨j, hj, rfl⟩ := nI_of h
    by_cases h2 : j < n
    · exact Or.inr (Or.inr ⟨j, h2, rfl⟩)
    · exact Or.inr (Or.inl (nI_le (by omega) hj))
theorem pk_le {x y : Int32} {A B : Prop} (a b : Nat) (f : a ≤ b → A) (g : b < a → B) (hx : x = nI a := by rfl) (hy : y = nI b := by rfl) (ha : a < 2 ^ 31 := by omega) (hb : b < 2 ^ 31 := by omega) : (x ≤ y → A) ∧ (¬ x ≤ y → B) := by
  subst hx hy
  rw [nI_leI ha hb]
  exact ⟨f, fun z => g (by omega)⟩
theorem pk_lt {x y : Int32} {A B : Prop} (a b : Nat) (f : a < b → A) (g : b ≤ a → B) (hx : x = nI a := by rfl) (hy : y = nI b := by rfl) (ha : a < 2 ^ 31 := by omega) (hb : b < 2 ^ 31 := by omega) : (x < y → A) ∧ (¬ x < y → B) := by
  subst hx hy
  rw [nI_ltI ha hb]
  exact ⟨f, fun z => g (by omega)⟩
theorem pk_eq {x y : Int32} {A B : Prop} (a b : Nat) (f : a = b → A) (g : a ≠ b → B) (hx : x = nI a := by rfl) (hy : y = nI b := by rfl) (ha : a < 2 ^ 31 := by omega) (hb : b < 2 ^ 31 := by omega) : (x = y → A) ∧ (¬ x = y → B) := by
  subst hx hy
  rw [nI_eq ha hb]
  exact ⟨f, g⟩
theorem pk_in {x : Int32} (n N : Nat) (h : n < N) (hx : x = nI n := by rfl) (hN : N < 2 ^ 31 := by omega) : vp_in x N := by
  subst hx
  exact vp_in_nI h hN
theorem pk_cl {x : Int32} (n : Nat) (hx : x = nI n := by rfl) (h : n < 2 ^ 31 := by omega) : x.toNatClampNeg = n := by
  subst hx
  exact nI_clamp h
end
section
/-! counts of positive cells -/
def cn_c (f : Nat → Int32) : Nat → Nat
  | 0 => 0
  | n + 1 => if f n ≤ 0 then cn_c f n else cn_c f n + 1
theorem cn_t {f : Nat → Int32} {n : Nat} (h : f n ≤ 0) : cn_c f (n + 1) = cn_c f n := if_pos h
theorem cn_f {f : Nat → Int32} {n : Nat} (h : ¬ f n ≤ 0) : cn_c f (n + 1) = cn_c f n + 1 := if_neg h
theorem cn_le (f : Nat → Int32) : ∀ n, cn_c f n ≤ n := by
  intro n
  induction n with
  | zero => exact Nat.le_refl 0
  | succ n ih =>
    by_cases h : f n ≤ 0
    · rw [cn_t h]; omega
    · rw [cn_f h]; omega
theorem cn_eq {f g : Nat → Int32} : ∀ n, (∀ q, q < n → (f q ≤ 0 ↔ g q ≤ 0)) → cn_c f n = cn_c g n := by
  intro n
  induction n with
  | zero => intro _; rfl
  | succ n ih =>
    intro h
    have i := ih (fun q hq => h q (by omega))
    have e := h n (by omega)
    by_cases z : f n ≤ 0
    · rw [cn_t z, cn_t (e.mp z), i]
    · rw [cn_f z, cn_f (fun w => z (e.mpr w)), i]
theorem cn_up {f g : Nat → Int32} {p : Nat} (h0 : f p ≤ 0) (h1 : ¬ g p ≤ 0) : ∀ n, p < n → (∀ q, q < n → q ≠ p → (f q ≤ 0 ↔ g q ≤ 0)) → cn_c g n = cn_c f n + 1 := by
  intro n
  induction n with
  | zero => intro h; omega
  | succ n ih =>
    intro hp h
    by_cases e : p = n
    · subst e
      rw [cn_t h0, cn_f h1, cn_eq p (fun q hq => h q (by omega) (by omega))]
    · have i := ih (by omega) (fun q hq hn => h q (by omega) hn)
      have e2 := h n (by omega) (fun z => e z.symm)
      by_cases z : f n ≤ 0
      · rw [cn_t z, cn_t (e2.mp z), i]
      · rw [cn_f z, cn_f (fun w => z (e2.mpr w)), i]
theorem cn_lt {f : Nat → Int32} {p : Nat} (h0 : f p ≤ 0) : ∀ n, p < n → cn_c f n < n := by
  intro n
  induction n with
  | zero => intro h; omega
  | succ n ih =>
    intro hp
    have l := cn_le f n
    by_cases z : f n ≤ 0
    · rw [cn_t z]; omega
    · have e : p ≠ n := fun e => z (e ▸ h0)
      have := ih (by omega)
      rw [cn_f z]; omega

/-! the event queue: X's ring against Y's places -/
def fa_E (e0 e1 : Nat) (ev qu pl : Nat → Int32) : Prop :=
  (∀ i, i < e1 → ∃ p, p < 32 ∧ ev ((e0 + i) % 32) = nI p ∧ pl p = nI (i + 1)) ∧
  (∀ p, p < 32 → (qu p = 0 ∧ pl p = 0) ∨ (qu p = 1 ∧ ∃ i, i < e1 ∧ pl p = nI (i + 1) ∧ ev ((e0 + i) % 32) = nI p)) ∧
  cn_c pl 32 = e1
theorem ev_l {e0 e1 : Nat} {ev qu pl : Nat → Int32} (h : fa_E e0 e1 ev qu pl) : e1 ≤ 32 := by
  rw [← h.2.2]; exact cn_le pl 32
theorem ev_pl {e0 e1 p : Nat} {ev qu pl : Nat → Int32} (h : fa_E e0 e1 ev qu pl) (hp : p < 32) : qu p = 0 ↔ pl p = 0 := by
  have l := ev_l h
  rcases h.2.1 p hp with ⟨a, b⟩ | ⟨a, i, hi, b, _⟩
  · exact ⟨fun _ => b, fun _ => a⟩
  · refine ⟨fun z => ?_, fun z => ?_⟩
    · rw [a] at z; exact absurd z (by decide)
    · rw [b] at z; exact absurd z (nI_ne0 (by omega) (by omega))
theorem ev_00 : (0 : Int32) ≤ 0 := by decide
theorem ev_enq {e0 e1 p : Nat} {ev qu pl : Nat → Int32} (h : fa_E e0 e1 ev qu pl) (h0 : e0 < 32) (hp : p < 32) (hq : qu p = 0) :
    e1 < 32 ∧ fa_E e0 (e1 + 1) (upd ev ((e0 + e1) % 32) (nI p)) (upd qu p 1) (upd pl p (nI (e1 + 1))) := by
  have z : pl p = 0 := (ev_pl h hp).mp hq
  have z0 : pl p ≤ 0 := by rw [z]; exact ev_00
  obtain ⟨A, B, C⟩ := h
  have l : e1 < 32 := by rw [← C]; exact cn_lt z0 32 hp
  have ne : ∀ i, i < e1 → (e0 + i) % 32 ≠ (e0 + e1) % 32 := by intro i hi; omega
  refine ⟨l, ?_, ?_, ?_⟩
  · intro i hi
    by_cases e : i = e1
    · subst e
      exact ⟨p, hp, pk_us, pk_us⟩
    · obtain ⟨q, hq', a, b⟩ := A i (by omega)
      have qp : q ≠ p := by
        intro w; subst w; rw [z] at b; exact nI_ne0 (by omega) (by omega) b.symm
      refine ⟨q, hq', ?_, ?_⟩
      · rw [pk_un (ne i (by omega))]; exact a
      · rw [pk_un qp]; exact b
  · intro q hq'
    by_cases e : q = p
    · subst e
      exact Or.inr ⟨pk_us, e1, by omega, pk_us, pk_us⟩
    · rw [pk_un e, pk_un e]
      rcases B q hq' with ⟨a, b⟩ | ⟨a, i, hi, b, c⟩
      · exact Or.inl ⟨a, b⟩
      · exact Or.inr ⟨a, i, by omega, b, by rw [pk_un (ne i hi)]; exact c⟩
  · have u := cn_up (f := pl) (g := upd pl p (nI (e1 + 1))) (p := p) z0 (by rw [pk_us]; exact nI_nle (by omega) (by omega)) 32 hp (fun q _ e => by rw [pk_un e])
    rw [u, C]
def ev_ds (j : Nat) (pl : Nat → Int32) : Nat → Int32 := fun q => if q < j ∧ ¬ pl q ≤ 0 then pl q - 1 else pl q
theorem ds_0 {j q : Nat} {pl : Nat → Int32} (h : pl q ≤ 0) : ev_ds j pl q = pl q := if_neg (fun z => z.2 h)
theorem ds_1 {j q : Nat} {pl : Nat → Int32} (h : ¬ pl q ≤ 0) (hq : q < j) : ev_ds j pl q = pl q - 1 := if_pos ⟨hq, h⟩
theorem ds_2 {j q : Nat} {pl : Nat → Int32} (hq : j ≤ q) : ev_ds j pl q = pl q := if_neg (fun z => by omega)
theorem ds_z (pl : Nat → Int32) : ev_ds 0 pl = pl := funext fun q => ds_2 (Nat.zero_le q)
theorem ds_s0 {j : Nat} {pl : Nat → Int32} (h : pl j ≤ 0) : ev_ds (j + 1) pl = ev_ds j pl := by
  funext q
  by_cases z : pl q ≤ 0
  · rw [ds_0 z, ds_0 z]
  · by_cases w : q < j
    · rw [ds_1 z w, ds_1 z (by omega)]
    · have e : q ≠ j := fun e => z (e ▸ h)
      rw [ds_2 (by omega), ds_2 (by omega)]
theorem ds_s1 {j : Nat} {pl : Nat → Int32} (h : ¬ pl j ≤ 0) : upd (ev_ds j pl) j (pl j - 1) = ev_ds (j + 1) pl := by
  funext q
  by_cases e : q = j
  · subst e; rw [pk_us, ds_1 h (by omega)]
  · rw [pk_un e]
    by_cases z : pl q ≤ 0
    · rw [ds_0 z, ds_0 z]
    · by_cases w : q < j
      · rw [ds_1 z w, ds_1 z (by omega)]
      · rw [ds_2 (by omega), ds_2 (by omega)]
theorem ds_n {i q : Nat} {pl : Nat → Int32} (hq : q < 32) (hi : i ≤ 40) (h : pl q = nI (i + 1)) : ev_ds 32 pl q = nI i := by
  rw [ds_1 (by rw [h]; exact nI_nle (by omega) (by omega)) hq, h, nI_pred]
theorem ev_pop {e0 e1 : Nat} {ev qu pl : Nat → Int32} (h : fa_E e0 (e1 + 1) ev qu pl) (h0 : e0 < 32) :
    ∃ p, p < 32 ∧ ev e0 = nI p ∧ pl p = nI 1 ∧ (∀ q, q < 32 → q ≠ p → ¬ pl q = nI 1) ∧ fa_E ((e0 + 1) % 32) e1 ev (upd qu p 0) (ev_ds 32 pl) := by
  have l := ev_l h
  obtain ⟨A, B, C⟩ := h
  obtain ⟨p, hp, a, b⟩ := A 0 (by omega)
  rw [show (e0 + 0) % 32 = e0 by omega] at a
  have un : ∀ q, q < 32 → q ≠ p → ¬ pl q = nI 1 := by
    intro q hq e w
    rcases B q hq with ⟨_, d⟩ | ⟨_, i, hi, d, c⟩
    · rw [d] at w; exact nI_ne0 (n := 1) (by omega) (by omega) w.symm
    · rw [d, nI_eq (by omega) (by omega)] at w
      have : i = 0 := by omega
      subst this
      rw [show (e0 + 0) % 32 = e0 by omega, a, nI_eq (by omega) (by omega)] at c
      exact e c.symm
  have dp : ev_ds 32 pl p = 0 := by rw [ds_n hp (by omega) b, nI_0]
  refine ⟨p, hp, a, b, un, ?_, ?_, ?_⟩
  · intro i hi
    obtain ⟨q, hq, c, d⟩ := A (i + 1) (by omega)
    refine ⟨q, hq, ?_, ds_n hq (by omega) d⟩
    rw [show ((e0 + 1) % 32 + i) % 32 = (e0 + (i + 1)) % 32 by omega]
    exact c
  · intro q hq
    by_cases e : q = p
    · subst e
      exact Or.inl ⟨pk_us, dp⟩
    · rw [pk_un e]
      rcases B q hq with ⟨c, d⟩ | ⟨c, i, hi, d, f⟩
      · exact Or.inl ⟨c, by rw [ds_0 (by rw [d]; exact ev_00)]; exact d⟩
      · obtain ⟨i', rfl⟩ : ∃ i', i = i' + 1 := ⟨i - 1, by
          have : i ≠ 0 := by
            intro z; subst z
            exact un q hq e d
          omega⟩
        refine Or.inr ⟨c, i', by omega, ds_n hq (by omega) d, ?_⟩
        rw [show ((e0 + 1) % 32 + i') % 32 = (e0 + (i' + 1)) % 32 by omega]
        exact f
  · have u := cn_up (f := ev_ds 32 pl) (g := pl) (p := p) (by rw [dp]; exact ev_00) (by rw [b]; exact nI_nle (by omega) (by omega)) 32 hp (by
      intro q hq e
      rcases B q hq with ⟨_, d⟩ | ⟨_, i, hi, d, _⟩
      · rw [ds_0 (by rw [d]; exact ev_00)]
      · have : i ≠ 0 := by
          intro z; subst z
          exact un q hq e d
        rw [ds_n hq (by omega) d, d]
        exact ⟨fun z => absurd z (nI_nle (by omega) (by omega)), fun z => absurd z (nI_nle (by omega) (by omega))⟩)
    omega

/-! the two character queues: X's ring against Y's shifted array -/
def fa_Q (h c : Nat) (a b : Nat → Int32) : Prop := ∀ i, i < c → a ((h + i) % 16) = b i
theorem rg_push {h c : Nat} {a b : Nat → Int32} (x : Int32) (hc : c < 16) (q : fa_Q h c a b) : fa_Q h (c + 1) (upd a ((h + c) % 16) x) (upd b c x) := by
  intro i hi
  by_cases e : i = c
  · subst e; rw [pk_us, pk_us]
  · rw [pk_un (show (h + i) % 16 ≠ (h + c) % 16 by omega), pk_un e]
    exact q i (by omega)
def rg_sf (j : Nat) (b : Nat → Int32) : Nat → Int32 := fun q => if q + 1 < j then b (q + 1) else b q
theorem sf_t {j q : Nat} {b : Nat → Int32} (h : q + 1 < j) : rg_sf j b q = b (q + 1) := if_pos h
theorem sf_f {j q : Nat} {b : Nat → Int32} (h : j ≤ q + 1) : rg_sf j b q = b q := if_neg (by omega)
theorem sf_1 (b : Nat → Int32) : rg_sf 1 b = b := funext fun q => sf_f (by omega)
theorem sf_s (k : Nat) (b : Nat → Int32) : upd (rg_sf (k + 1) b) k (rg_sf (k + 1) b (k + 1)) = rg_sf (k + 2) b := by
  funext q
  by_cases e : q = k
  · subst e; rw [pk_us, sf_f (by omega), sf_t (by omega)]
  · rw [pk_un e]
    by_cases w : q < k
    · rw [sf_t (by omega), sf_t (by omega)]
    · rw [sf_f (by omega), sf_f (by omega)]
theorem rg_fst {h c : Nat} {a b : Nat → Int32} (hh : h < 16) (q : fa_Q h (c + 1) a b) : a h = b 0 := by
  have := q 0 (by omega)
  rw [show (h + 0) % 16 = h by omega] at this
  exact this
theorem rg_pop {h c : Nat} {a b : Nat → Int32} (q : fa_Q h (c + 1) a b) : fa_Q ((h + 1) % 16) c a (rg_sf (c + 1) b) := by
  intro i hi
  rw [sf_t (by omega), show ((h + 1) % 16 + i) % 16 = (h + (i + 1)) % 16 by omega]
  exact q (i + 1) (by omega)
theorem rg_16 {a b : Nat} (ha : a < 16) (hb : b ≤ 16) : (nI a + nI b) - (nI a + nI b) / 16 * 16 = nI ((a + b) % 16) := by
  rw [nI_add]; exact pk_rem (d := 16) (by omega) (by omega) (by omega)
theorem rg_32 {a b : Nat} (ha : a < 32) (hb : b ≤ 32) : (nI a + nI b) - (nI a + nI b) / 32 * 32 = nI ((a + b) % 32) := by
  rw [nI_add]; exact pk_rem (d := 32) (by omega) (by omega) (by omega)
theorem rg_161 {a : Nat} (ha : a < 16) : (nI a + 1) - (nI a + 1) / 16 * 16 = nI ((a + 1) % 16) := rg_16 (b := 1) ha (by omega)
theorem rg_321 {a : Nat} (ha : a < 32) : (nI a + 1) - (nI a + 1) / 32 * 32 = nI ((a + 1) % 32) := rg_32 (b := 1) ha (by omega)
theorem rg_n16 : ¬ (16 : Int32) = 0 := by decide
theorem rg_n32 : ¬ (32 : Int32) = 0 := by decide
theorem rg_n4 : ¬ (4 : Int32) = 0 := by decide
theorem rg_n1000 : ¬ (1000 : Int32) = 0 := by decide

/-! instruction codes -/
def fa_k (c : Int32) : Prop := 0 ≤ c.toInt ∧ c.toInt % 1000 ≤ 255
theorem kd_0 : fa_k 0 := by unfold fa_k; decide
theorem kd_n {n : Nat} (h : n < 2 ^ 31) (h2 : n % 1000 ≤ 255) : fa_k (nI n) := by
  unfold fa_k; rw [nI_toInt h]; omega
theorem kd_of {c : Int32} (h : fa_k c) : ∃ n : Nat, n < 2 ^ 31 ∧ n % 1000 ≤ 255 ∧ c = nI n := by
  obtain ⟨h1, h2⟩ := h
  have n0 : ¬ c < 0 := by
    rw [Int32.lt_iff_toInt_lt, show (0 : Int32).toInt = 0 from by decide]; omega
  obtain ⟨n, hn, rfl⟩ := nI_of n0
  rw [nI_toInt hn] at h2
  exact ⟨n, hn, by omega, rfl⟩
theorem kd_a {c : Int32} (h : fa_k c) : ¬ (1000 + (c - c / 1000 * 1000)) < 1000 ∧ 300 + (c - c / 1000 * 1000) < 1000 := by
  obtain ⟨n, hn, h2, rfl⟩ := kd_of h
  have e : nI n - nI n / 1000 * 1000 = nI (n % 1000) := pk_rem (d := 1000) hn (by omega) (by omega)
  have e1 : (1000 : Int32) + nI (n % 1000) = nI (1000 + n % 1000) := nI_add 1000 (n % 1000)
  have e2 : (300 : Int32) + nI (n % 1000) = nI (300 + n % 1000) := nI_add 300 (n % 1000)
  rw [e, e1, e2]
  exact ⟨nI_nlt (b := 1000) (by omega) (by omega), nI_lt (b := 1000) (by omega) (by omega)⟩
theorem kd_mk {a b : Nat} (ha : a ≤ 5) (hb : b ≤ 255) : fa_k (nI a * 1000 + nI b) := by
  have e : nI a * 1000 + nI b = nI (a * 1000 + b) := by
    rw [← nI_add, ← pk_mul]; rfl
  rw [e]
  exact kd_n (by omega) (by omega)
end
section
/-! the facts of the relation -/
def fa_N (nj nw ns nc nt e0 i0 i1 o0 o1 : Nat) : Prop := nj ≤ 8 ∧ nw ≤ 4 ∧ ns ≤ 8 ∧ nc ≤ 16 ∧ 1 ≤ nt ∧ nt ≤ nw ∧ e0 < 32 ∧ i0 < 16 ∧ i1 ≤ nc ∧ o0 < 16 ∧ o1 ≤ nc
def fa_T (te : Int32) : Prop := te = -1 ∨ ∃ t : Nat, t < 8 ∧ te = nI t
def fa_Z (sz : Nat → Int32) : Prop := ∀ j, j < 8 → ∃ s : Nat, s ≤ 4 ∧ sz j = nI s
def fa_L (ns : Nat) (sn : Nat → Int32) : Prop := ∀ g, g < 4 → ∃ m : Nat, m ≤ ns ∧ sn g = nI m
def fa_P (ix ln : Nat → Int32) : Prop := ∀ p, p < 32 → ∃ i m : Nat, i ≤ 8 ∧ m ≤ 8 ∧ ix p = nI i ∧ ln p = nI m
def fa_C (pg cd ln : Nat → Int32) : Prop := ∀ p i : Nat, p < 32 → i < 8 → nI i < ln p → pg (p * 8 + i) = cd (p * 8 + i)
def fa_K (pg sg : Nat → Int32) : Prop := (∀ i : Nat, fa_k (pg i)) ∧ ∀ i : Nat, fa_k (sg i)
def fa_D (sz ac kn pl : Nat → Int32) : Prop := (∀ p, p < 32 → ¬ kn p < 1000 → ¬ ac p < 1000 ∧ pl p = 0) ∧ ∀ j k : Nat, j < 8 → k < 4 → sz j ≤ nI k → pl (j * 4 + k) = 0
/-- x is the slot of a living place of job j -/
def fa_v (sz : Nat → Int32) (j : Nat) (x : Int32) : Prop := j < 8 ∧ ∃ k : Nat, k < 4 ∧ x = nI (j * 4 + k) ∧ ¬ sz j ≤ nI k
def fa_F (nj nw ns nc nt e0 e1 i0 i1 o0 o1 : Nat) (sw te : Int32) (sz ac kn ix ln pg sg sn ev qu ip op pl cd jp jo : Nat → Int32) : Prop :=
  fa_N nj nw ns nc nt e0 i0 i1 o0 o1 ∧ (sw = 0 ∨ sw = 1) ∧ fa_T te ∧ fa_Z sz ∧ fa_L ns sn ∧ fa_P ix ln ∧ fa_C pg cd ln ∧ fa_K pg sg ∧ fa_Q i0 i1 ip jp ∧ fa_Q o0 o1 op jo ∧ fa_E e0 e1 ev qu pl ∧ fa_D sz ac kn pl
/-- the relation: every property of pairs of pictures with these facts holds of u, v -/
def fa_R (u : SX) (v : SY) : Prop := ∀ P : SX → SY → Prop, (∀ (nj nw ns nc nt e0 e1 i0 i1 o0 o1 : Nat) (sw te ex re : Int32) (sz la ac kn ix sp lr mk ln pg sg sn ev qu ip op pl cd jp jo : Nat → Int32), fa_F nj nw ns nc nt e0 e1 i0 i1 o0 o1 sw te sz ac kn ix ln pg sg sn ev qu ip op pl cd jp jo → P (nI nj, nI nw, nI ns, nI nc, nI nt, nI e0, nI e1, nI i0, nI i1, nI o0, nI o1, sw, te, ex, re, sz, la, ac, kn, ix, sp, lr, mk, ln, pg, sg, sn, ev, qu, ip, op) (nI nj, nI nw, nI ns, nI nc, te, sw, ex, re, nI nt, nI i1, nI o1, sz, la, ac, kn, ix, sp, lr, mk, pl, ln, cd, sn, sg, jp, jo)) → P u v
theorem fa_in {nj nw ns nc nt e0 e1 i0 i1 o0 o1 : Nat} {sw te ex re : Int32} {sz la ac kn ix sp lr mk ln pg sg sn ev qu ip op pl cd jp jo : Nat → Int32} (h : fa_F nj nw ns nc nt e0 e1 i0 i1 o0 o1 sw te sz ac kn ix ln pg sg sn ev qu ip op pl cd jp jo) : fa_R (nI nj, nI nw, nI ns, nI nc, nI nt, nI e0, nI e1, nI i0, nI i1, nI o0, nI o1, sw, te, ex, re, sz, la, ac, kn, ix, sp, lr, mk, ln, pg, sg, sn, ev, qu, ip, op) (nI nj, nI nw, nI ns, nI nc, te, sw, ex, re, nI nt, nI i1, nI o1, sz, la, ac, kn, ix, sp, lr, mk, pl, ln, cd, sn, sg, jp, jo) := fun _ k => k nj nw ns nc nt e0 e1 i0 i1 o0 o1 sw te ex re sz la ac kn ix sp lr mk ln pg sg sn ev qu ip op pl cd jp jo h
def i_Rel (_ : Nat) (u : SX) (v : SY) : Prop := fa_R u v
theorem i_up {k : Nat} {u : SX} {v : SY} (h : i_Rel k u v) : i_Rel (k + 4) u v := h
/-- one outcome for both: related end states that every post may take -/
def oo_o (A : (SX → Prop) → Prop) (B : (SY → Prop) → Prop) : Prop := ∃ (u : SX) (v : SY), fa_R u v ∧ (∀ post : SX → Prop, post u → A post) ∧ (∀ post : SY → Prop, post v → B post)
theorem oo_d {A A' : (SX → Prop) → Prop} {B B' : (SY → Prop) → Prop} (h : oo_o A B)
    (k : ∀ (nj nw ns nc nt e0 e1 i0 i1 o0 o1 : Nat) (sw te ex re : Int32) (sz la ac kn ix sp lr mk ln pg sg sn ev qu ip op pl cd jp jo : Nat → Int32), fa_F nj nw ns nc nt e0 e1 i0 i1 o0 o1 sw te sz ac kn ix ln pg sg sn ev qu ip op pl cd jp jo → (∀ post : SX → Prop, post (nI nj, nI nw, nI ns, nI nc, nI nt, nI e0, nI e1, nI i0, nI i1, nI o0, nI o1, sw, te, ex, re, sz, la, ac, kn, ix, sp, lr, mk, ln, pg, sg, sn, ev, qu, ip, op) → A post) → (∀ post : SY → Prop, post (nI nj, nI nw, nI ns, nI nc, te, sw, ex, re, nI nt, nI i1, nI o1, sz, la, ac, kn, ix, sp, lr, mk, pl, ln, cd, sn, sg, jp, jo) → B post) → oo_o A' B') : oo_o A' B' := by
  obtain ⟨u, v, r, x, y⟩ := h
  exact r (fun u v => (∀ post : SX → Prop, post u → A post) → (∀ post : SY → Prop, post v → B post) → oo_o A' B') k x y
theorem oo_c {A A' : (SX → Prop) → Prop} {B B' : (SY → Prop) → Prop} (h : oo_o A B)
    (a : ∀ (nj nw ns nc nt e0 e1 i0 i1 o0 o1 : Nat) (sw te ex re : Int32) (sz la ac kn ix sp lr mk ln pg sg sn ev qu ip op pl cd jp jo : Nat → Int32), (∀ post : SX → Prop, post (nI nj, nI nw, nI ns, nI nc, nI nt, nI e0, nI e1, nI i0, nI i1, nI o0, nI o1, sw, te, ex, re, sz, la, ac, kn, ix, sp, lr, mk, ln, pg, sg, sn, ev, qu, ip, op) → A post) → ∀ post : SX → Prop, post (nI nj, nI nw, nI ns, nI nc, nI nt, nI e0, nI e1, nI i0, nI i1, nI o0, nI o1, sw, te, ex, re, sz, la, ac, kn, ix, sp, lr, mk, ln, pg, sg, sn, ev, qu, ip, op) → A' post)
    (b : ∀ (nj nw ns nc nt e0 e1 i0 i1 o0 o1 : Nat) (sw te ex re : Int32) (sz la ac kn ix sp lr mk ln pg sg sn ev qu ip op pl cd jp jo : Nat → Int32), (∀ post : SY → Prop, post (nI nj, nI nw, nI ns, nI nc, te, sw, ex, re, nI nt, nI i1, nI o1, sz, la, ac, kn, ix, sp, lr, mk, pl, ln, cd, sn, sg, jp, jo) → B post) → ∀ post : SY → Prop, post (nI nj, nI nw, nI ns, nI nc, te, sw, ex, re, nI nt, nI i1, nI o1, sz, la, ac, kn, ix, sp, lr, mk, pl, ln, cd, sn, sg, jp, jo) → B' post) : oo_o A' B' :=
  oo_d h (fun nj nw ns nc nt e0 e1 i0 i1 o0 o1 sw te ex re sz la ac kn ix sp lr mk ln pg sg sn ev qu ip op pl cd jp jo hF x y => ⟨(nI nj, nI nw, nI ns, nI nc, nI nt, nI e0, nI e1, nI i0, nI i1, nI o0, nI o1, sw, te, ex, re, sz, la, ac, kn, ix, sp, lr, mk, ln, pg, sg, sn, ev, qu, ip, op), (nI nj, nI nw, nI ns, nI nc, te, sw, ex, re, nI nt, nI i1, nI o1, sz, la, ac, kn, ix, sp, lr, mk, pl, ln, cd, sn, sg, jp, jo), fa_in hF, a nj nw ns nc nt e0 e1 i0 i1 o0 o1 sw te ex re sz la ac kn ix sp lr mk ln pg sg sn ev qu ip op pl cd jp jo x, b nj nw ns nc nt e0 e1 i0 i1 o0 o1 sw te ex re sz la ac kn ix sp lr mk ln pg sg sn ev qu ip op pl cd jp jo y⟩)
/-- leaving the outcomes -/
theorem oo_x {A : (SX → Prop) → Prop} {B : (SY → Prop) → Prop} {G : Prop} (h : oo_o A B)
    (k : ∀ (nj nw ns nc nt e0 e1 i0 i1 o0 o1 : Nat) (sw te ex re : Int32) (sz la ac kn ix sp lr mk ln pg sg sn ev qu ip op pl cd jp jo : Nat → Int32), fa_F nj nw ns nc nt e0 e1 i0 i1 o0 o1 sw te sz ac kn ix ln pg sg sn ev qu ip op pl cd jp jo → (∀ post : SX → Prop, post (nI nj, nI nw, nI ns, nI nc, nI nt, nI e0, nI e1, nI i0, nI i1, nI o0, nI o1, sw, te, ex, re, sz, la, ac, kn, ix, sp, lr, mk, ln, pg, sg, sn, ev, qu, ip, op) → A post) → (∀ post : SY → Prop, post (nI nj, nI nw, nI ns, nI nc, te, sw, ex, re, nI nt, nI i1, nI o1, sz, la, ac, kn, ix, sp, lr, mk, pl, ln, cd, sn, sg, jp, jo) → B post) → G) : G := by
  obtain ⟨u, v, r, x, y⟩ := h
  exact r (fun u v => (∀ post : SX → Prop, post u → A post) → (∀ post : SY → Prop, post v → B post) → G) k x y
/-- the same with an answer -/
def oo_r (A : (Int32 → SX → Prop) → Prop) (B : (Int32 → SY → Prop) → Prop) : Prop := ∃ (r : Int32) (u : SX) (v : SY), fa_R u v ∧ (∀ post : Int32 → SX → Prop, post r u → A post) ∧ (∀ post : Int32 → SY → Prop, post r v → B post)
theorem oo_f {A : (Int32 → SX → Prop) → Prop} {B : (Int32 → SY → Prop) → Prop} (h : oo_r A B) : A (fun r u' => B (fun r' v' => r' = r ∧ fa_R u' v')) := by
  obtain ⟨r, u, v, R, a, b⟩ := h
  exact a _ (b _ ⟨rfl, R⟩)
end
section
/-! slots, and the walks that only read -/
theorem sl_e (j k : Nat) : nI j * 4 + nI k = nI (j * 4 + k) := by
  rw [← nI_add, ← pk_mul]; rfl
theorem sl_in {j k : Nat} (hj : j < 8) (hk : k < 4) : vp_in (nI j * 4 + nI k) 32 := by
  rw [sl_e]; exact vp_in_nI (by omega) (by omega)
theorem sl_c {j k : Nat} (hj : j < 8) (hk : k < 4) : (nI j * 4 + nI k).toNatClampNeg = j * 4 + k := by
  rw [sl_e]; exact nI_clamp (by omega)
theorem sl_v {sz : Nat → Int32} {j k : Nat} (hj : j < 8) (hk : k < 4) (h : ¬ sz j ≤ nI k) : fa_v sz j (nI j * 4 + nI k) := ⟨hj, k, hk, sl_e j k, h⟩
theorem sl_z {sz : Nat → Int32} {j k : Nat} (hz : fa_Z sz) (hj : j < 8) (hk : 4 ≤ k) (hk2 : k < 100) : sz (nI j).toNatClampNeg ≤ nI k := by
  obtain ⟨s, hs, e⟩ := hz j hj
  rw [nI_clamp (by omega), e]; exact nI_le (by omega) (by omega)
section
variable {nj nw ns nc nt e0 e1 i0 i1 o0 o1 : Nat} {sw te ex re : Int32} {sz la ac kn ix sp lr mk ln pg sg sn ev qu ip op pl cd jp jo : Nat → Int32}
theorem q_st4 {j : Nat} (hj : j < 8) (hz : fa_Z sz) : ∀ (d k : Nat) (x2 : Int32), k + d = 4 → ∃ r : Int32,
    (∀ post : Int32 → Prop, post r → wX_statusOf_4 post (nI j) (nI nj) (nI nw) (nI ns) (nI nc) (nI nt) (nI e0) (nI e1) (nI i0) (nI i1) (nI o0) (nI o1) sw te ex re sz la ac kn ix sp lr mk ln pg sg sn ev qu ip op (d + 1) x2 (nI k)) ∧
    (∀ post : Int32 → Prop, post r → wY_status_4 post (nI j) (nI nj) (nI nw) (nI ns) (nI nc) te sw ex re (nI nt) (nI i1) (nI o1) sz la ac kn ix sp lr mk pl ln cd sn sg jp jo (d + 1) x2 (nI k)) ∧
    (r = 3 → x2 = 3 ∧ ∀ q : Nat, k ≤ q → q < 4 → ¬ sz j ≤ nI q → ¬ kn (j * 4 + q) < 1000) := by
  have hin : vp_in (nI j) 8 := vp_in_nI hj (by omega)
  have cl : (nI j).toNatClampNeg = j := nI_clamp (by omega)
  intro d
  induction d with
  | zero =>
    intro k x2 hk
    have c : sz (nI j).toNatClampNeg ≤ nI k := sl_z hz hj (by omega) (by omega)
    exact ⟨x2, fun _ hp => And.intro hin (br_t c hp), fun _ hp => And.intro hin (br_t c hp), fun z => ⟨z, fun q h1 h2 => by omega⟩⟩
  | succ d ih =>
    intro k x2 hk
    by_cases c : sz (nI j).toNatClampNeg ≤ nI k
    · refine ⟨x2, fun _ hp => And.intro hin (br_t c hp), fun _ hp => And.intro hin (br_t c hp), fun z => ⟨z, fun q h1 h2 h3 => ?_⟩⟩
      exfalso; apply h3
      rw [cl] at c
      exact Int32.le_trans c (nI_le h1 (by omega))
    · have hin2 : vp_in (nI j * 4 + nI k) 32 := sl_in hj (by omega)
      by_cases z : kn (nI j * 4 + nI k).toNatClampNeg = 0
      · exact ⟨1, fun _ hp => And.intro hin (br_f c (And.intro hin2 (nm_e (br_t z hp)))), fun _ hp => And.intro hin (br_f c (And.intro hin2 (br_t z hp))), fun z => absurd z (by decide)⟩
      · by_cases w : 1000 ≤ kn (nI j * 4 + nI k).toNatClampNeg
        · obtain ⟨r, hX, hY, h3⟩ := ih (k + 1) x2 (by omega)
          refine ⟨r, fun post hp => And.intro hin (br_f c (And.intro hin2 (nm_e (br_f z (br_t w (nm_r (nI_1 k) (hX post hp))))))),
            fun post hp => And.intro hin (br_f c (And.intro hin2 (br_f z (And.intro hin2 (br_t w (nm_r (nI_1 k) (hY post hp))))))), fun z3 => ⟨(h3 z3).1, ?_⟩⟩
          intro q h1 h2 h4
          by_cases e : q = k
          · subst e; rw [sl_c hj (by omega)] at w; exact Int32.not_lt.mpr w
          · exact (h3 z3).2 q (by omega) h2 h4
        · obtain ⟨r, hX, hY, h3⟩ := ih (k + 1) 2 (by omega)
          exact ⟨r, fun post hp => And.intro hin (br_f c (And.intro hin2 (nm_e (br_f z (br_f w (nm_r (nI_1 k) (hX post hp))))))),
            fun post hp => And.intro hin (br_f c (And.intro hin2 (br_f z (And.intro hin2 (br_f w (nm_r (nI_1 k) (hY post hp))))))), fun z3 => absurd (h3 z3).1 (by decide)⟩
/-- the status: one answer; DONE only where all known states are ends -/
theorem q_st {j : Nat} (hj : j < 8) (hz : fa_Z sz) : ∃ r : Int32,
    (∀ post : Int32 → Prop, post r → wpX_statusOf post (nI nj, nI nw, nI ns, nI nc, nI nt, nI e0, nI e1, nI i0, nI i1, nI o0, nI o1, sw, te, ex, re, sz, la, ac, kn, ix, sp, lr, mk, ln, pg, sg, sn, ev, qu, ip, op) (nI j)) ∧ (∀ post : Int32 → Prop, post r → wpY_status post (nI nj, nI nw, nI ns, nI nc, te, sw, ex, re, nI nt, nI i1, nI o1, sz, la, ac, kn, ix, sp, lr, mk, pl, ln, cd, sn, sg, jp, jo) (nI j)) ∧
    (r = 3 → ∀ q : Nat, q < 4 → ¬ sz j ≤ nI q → ¬ kn (j * 4 + q) < 1000) := by
  obtain ⟨r, hX, hY, h3⟩ := q_st4 (nj := nj) (nw := nw) (ns := ns) (nc := nc) (nt := nt) (e0 := e0) (e1 := e1) (i0 := i0) (i1 := i1) (o0 := o0) (o1 := o1) (sw := sw) (te := te) (ex := ex) (re := re) (sz := sz) (la := la) (ac := ac) (kn := kn) (ix := ix) (sp := sp) (lr := lr) (mk := mk) (ln := ln) (pg := pg) (sg := sg) (sn := sn) (ev := ev) (qu := qu) (ip := ip) (op := op) (pl := pl) (cd := cd) (jp := jp) (jo := jo) hj hz 4 0 3 rfl
  exact ⟨r, fun post hp => Exists.intro 5 (hX post hp), fun post hp => Exists.intro 5 (hY post hp), fun z q => (h3 z).2 q (Nat.zero_le q)⟩
/-- a held job -/
theorem q_job (x : Int32) (hn : nj ≤ 8) :
    ((∀ post : Int32 → Prop, post 0 → wpX_isJob post (nI nj, nI nw, nI ns, nI nc, nI nt, nI e0, nI e1, nI i0, nI i1, nI o0, nI o1, sw, te, ex, re, sz, la, ac, kn, ix, sp, lr, mk, ln, pg, sg, sn, ev, qu, ip, op) x) ∧ (∀ post : Int32 → Prop, post 0 → wpY_held post (nI nj, nI nw, nI ns, nI nc, te, sw, ex, re, nI nt, nI i1, nI o1, sz, la, ac, kn, ix, sp, lr, mk, pl, ln, cd, sn, sg, jp, jo) x)) ∨
    (∃ j : Nat, j < 8 ∧ x = nI j ∧ j < nj ∧ ¬ sz j ≤ 0 ∧ (∀ post : Int32 → Prop, post 1 → wpX_isJob post (nI nj, nI nw, nI ns, nI nc, nI nt, nI e0, nI e1, nI i0, nI i1, nI o0, nI o1, sw, te, ex, re, sz, la, ac, kn, ix, sp, lr, mk, ln, pg, sg, sn, ev, qu, ip, op) x) ∧ (∀ post : Int32 → Prop, post 1 → wpY_held post (nI nj, nI nw, nI ns, nI nc, te, sw, ex, re, nI nt, nI i1, nI o1, sz, la, ac, kn, ix, sp, lr, mk, pl, ln, cd, sn, sg, jp, jo) x)) := by
  by_cases h0 : x < 0
  · exact Or.inl ⟨fun _ hp => br_t h0 hp, fun _ hp => br_t h0 hp⟩
  · by_cases h1 : nI nj ≤ x
    · exact Or.inl ⟨fun _ hp => br_f h0 (br_t h1 hp), fun _ hp => br_f h0 (br_t h1 hp)⟩
    · obtain ⟨j, hj, rfl⟩ := nI_of h0
      have hl : j < nj := by
        rw [nI_leI (by omega) hj] at h1; omega
      have hin : vp_in (nI j) 8 := vp_in_nI (by omega) (by omega)
      by_cases h2 : sz (nI j).toNatClampNeg ≤ 0
      · exact Or.inl ⟨fun _ hp => br_f h0 (br_f h1 (And.intro hin (br_t h2 hp))), fun _ hp => br_f h0 (br_f h1 (And.intro hin (br_t h2 hp)))⟩
      · refine Or.inr ⟨j, by omega, rfl, hl, ?_, fun _ hp => br_f h0 (br_f h1 (And.intro hin (br_f h2 hp))), fun _ hp => br_f h0 (br_f h1 (And.intro hin (br_f h2 hp)))⟩
        rw [nI_clamp (by omega)] at h2
        exact h2
/-- Y's count of the queued -/
theorem q_qd4 {post : Int32 → Prop} (hp : post (nI (cn_c pl 32))) : ∀ d j : Nat, j + d = 32 → wY_queued_4 post (nI nj) (nI nw) (nI ns) (nI nc) te sw ex re (nI nt) (nI i1) (nI o1) sz la ac kn ix sp lr mk pl ln cd sn sg jp jo (d + 1) (nI (cn_c pl j)) (nI j) := by
  intro d
  induction d with
  | zero =>
    intro j hj
    have e : j = 32 := by omega
    subst e
    exact br_t (nI_le (a := 32) (b := 32) (by omega) (by omega)) hp
  | succ d ih =>
    intro j hj
    have cl : (nI j).toNatClampNeg = j := nI_clamp (by omega)
    refine br_f (nI_ge (b := 32) (by omega) (by omega)) (And.intro (vp_in_nI (by omega) (by omega)) ?_)
    by_cases z : pl j ≤ 0
    · refine br_t (by rw [cl]; exact z) (nm_r (nI_1 j) ?_)
      have h := ih (j + 1) (by omega)
      rw [cn_t z] at h
      exact h
    · refine br_f (by rw [cl]; exact z) (nm_r (nI_1 _) (nm_r (nI_1 j) ?_))
      have h := ih (j + 1) (by omega)
      rw [cn_f z] at h
      exact h
theorem q_qd {post : Int32 → Prop} (hp : post (nI (cn_c pl 32))) : wpY_queued post (nI nj, nI nw, nI ns, nI nc, te, sw, ex, re, nI nt, nI i1, nI o1, sz, la, ac, kn, ix, sp, lr, mk, pl, ln, cd, sn, sg, jp, jo) := Exists.intro 33 (q_qd4 hp 32 0 rfl)
/-- X's search of a slot in the queue -/
theorem q_qp13 {post : Int32 → Prop} {p t : Nat} (hE : fa_E e0 e1 ev qu pl) (h0 : e0 < 32) (hp : p < 32) (ht : t < e1) (a : pl p = nI (t + 1)) (b : ev ((e0 + t) % 32) = nI p) (h : post (nI (t + 1))) :
    ∀ d i : Nat, i + d = t → wX_queuePlace_13 post (nI p) (nI nj) (nI nw) (nI ns) (nI nc) (nI nt) (nI e0) (nI e1) (nI i0) (nI i1) (nI o0) (nI o1) sw te ex re sz la ac kn ix sp lr mk ln pg sg sn ev qu ip op (d + 1) (nI i) := by
  have l := ev_l hE
  intro d
  induction d with
  | zero =>
    intro i hi
    have e : i = t := by omega
    subst e
    have er := rg_32 (a := e0) (b := i) h0 (by omega)
    refine br_f (nI_ge (by omega) (by omega)) (And.intro rg_n32 (And.intro (by rw [er]; exact vp_in_nI (by omega) (by omega)) (br_t (by rw [er, nI_clamp (by omega)]; exact b) ?_)))
    rw [nI_1]
    exact h
  | succ d ih =>
    intro i hi
    have er := rg_32 (a := e0) (b := i) h0 (by omega)
    have ne : ¬ ev ((e0 + i) % 32) = nI p := by
      intro z
      obtain ⟨q, hq, c, f⟩ := hE.1 i (by omega)
      rw [c, nI_eq (by omega) (by omega)] at z
      subst z
      rw [a, nI_eq (by omega) (by omega)] at f
      omega
    exact br_f (nI_ge (by omega) (by omega)) (And.intro rg_n32 (And.intro (by rw [er]; exact vp_in_nI (by omega) (by omega)) (br_f (by rw [er, nI_clamp (by omega)]; exact ne) (nm_r (nI_1 i) (ih (i + 1) (by omega))))))
theorem q_qp {post : Int32 → Prop} {p : Nat} (hE : fa_E e0 e1 ev qu pl) (h0 : e0 < 32) (hp : p < 32) (h : post (pl p)) : wpX_queuePlace post (nI nj, nI nw, nI ns, nI nc, nI nt, nI e0, nI e1, nI i0, nI i1, nI o0, nI o1, sw, te, ex, re, sz, la, ac, kn, ix, sp, lr, mk, ln, pg, sg, sn, ev, qu, ip, op) (nI p) := by
  have cl : (nI p).toNatClampNeg = p := nI_clamp (by omega)
  have hin : vp_in (nI p) 32 := vp_in_nI hp (by omega)
  rcases hE.2.1 p hp with ⟨a, b⟩ | ⟨a, t, ht, b, c⟩
  · rw [b] at h
    exact And.intro hin (br_t (by rw [cl]; exact a) h)
  · rw [b] at h
    exact And.intro hin (br_f (by rw [cl, a]; decide) (Exists.intro (t + 1) (q_qp13 hE h0 hp ht b c h t 0 (by omega))))
end
end
section
/-! state changes and signals -/
theorem fv_c {sz : Nat → Int32} {j : Nat} {x : Int32} (h : fa_v sz j x) : ∃ p : Nat, p < 32 ∧ x = nI p ∧ x.toNatClampNeg = p := by
  obtain ⟨hj, k, hk, e, _⟩ := h
  exact ⟨j * 4 + k, by omega, e, by rw [e]; exact nI_clamp (by omega)⟩
theorem fv_in {sz : Nat → Int32} {j : Nat} {x : Int32} (h : fa_v sz j x) : vp_in x 32 := by
  obtain ⟨p, hp, e, _⟩ := fv_c h
  rw [e]; exact vp_in_nI hp (by omega)
theorem fv_l {sz : Nat → Int32} {j : Nat} {x : Int32} (h : fa_v sz j x) : x.toNatClampNeg < 32 := by
  obtain ⟨p, hp, _, e⟩ := fv_c h
  omega
theorem fv_n {sz : Nat → Int32} {j : Nat} {x : Int32} (h : fa_v sz j x) : nI x.toNatClampNeg = x := by
  obtain ⟨p, hp, a, e⟩ := fv_c h
  rw [e]; exact a.symm
theorem dd_ac {sz ac kn pl pl' : Nat → Int32} {j : Nat} {x : Int32} (h : fa_D sz ac kn pl) (lx : fa_v sz j x) (ha : ac x.toNatClampNeg < 1000) (s : Int32) (hp : ∀ q, q ≠ x.toNatClampNeg → pl' q = pl q) :
    fa_D sz (upd ac x.toNatClampNeg s) kn pl' := by
  refine ⟨fun q hq hk => ?_, fun i k hi hk hs => ?_⟩
  · by_cases e : q = x.toNatClampNeg
    · subst e
      exact absurd ha (h.1 _ hq hk).1
    · rw [pk_un e, hp q e]
      exact h.1 q hq hk
  · by_cases e : i * 4 + k = x.toNatClampNeg
    · exfalso
      obtain ⟨hj, k', hk', ex, hn⟩ := lx
      rw [ex, nI_clamp (by omega)] at e
      have e1 : i = j := by omega
      have e2 : k = k' := by omega
      subst e1 e2
      exact hn hs
    · rw [hp _ e]
      exact h.2 i k hi hk hs
section
variable {nj nw ns nc nt e0 e1 i0 i1 o0 o1 : Nat} {sw te ex re : Int32} {sz la ac kn ix sp lr mk ln pg sg sn ev qu ip op pl cd jp jo : Nat → Int32}
theorem q_c21 {post : SY → Prop} {x s : Int32} (hin : vp_in x 32) (hs : s < 1000) (hp : post (nI nj, nI nw, nI ns, nI nc, te, sw, ex, re, nI nt, nI i1, nI o1, sz, la, upd ac x.toNatClampNeg s, kn, ix, sp, lr, mk, pl, ln, cd, sn, sg, jp, jo)) : wY_change_21 post x s (nI nj) (nI nw) (nI ns) (nI nc) te sw ex re (nI nt) (nI i1) (nI o1) sz la ac kn ix sp lr mk pl ln cd sn sg jp jo :=
  And.intro hin (nm_e (br_t hs hp))
theorem q_e21 {post : SY → Prop} {x s : Int32} (hin : vp_in x 32) (hs : ¬ s < 1000) (hp : post (nI nj, nI nw, nI ns, nI nc, te, sw, ex + 1, re, nI nt, nI i1, nI o1, sz, la, upd ac x.toNatClampNeg s, kn, ix, sp, lr, upd mk x.toNatClampNeg 0, pl, ln, cd, sn, sg, jp, jo)) : wY_change_21 post x s (nI nj) (nI nw) (nI ns) (nI nc) te sw ex re (nI nt) (nI i1) (nI o1) sz la ac kn ix sp lr mk pl ln cd sn sg jp jo :=
  And.intro hin (nm_e (br_f hs (And.intro hin (nm_e (nm_e hp)))))
/-- the event of a change: X's ring and Y's place -/
theorem q_enq {x : Int32} {j : Nat} (h : fa_F nj nw ns nc nt e0 e1 i0 i1 o0 o1 sw te sz ac kn ix ln pg sg sn ev qu ip op pl cd jp jo) (lx : fa_v sz j x) (ha : ac x.toNatClampNeg < 1000) :
    ∃ (e1' : Nat) (ev' qu' pl' : Nat → Int32),
      (∀ s : Int32, fa_F nj nw ns nc nt e0 e1' i0 i1 o0 o1 sw te sz (upd ac x.toNatClampNeg s) kn ix ln pg sg sn ev' qu' ip op pl' cd jp jo) ∧
      (∀ (mk : Nat → Int32) (ex s : Int32) (post : SX → Prop), post (nI nj, nI nw, nI ns, nI nc, nI nt, nI e0, nI e1', nI i0, nI i1, nI o0, nI o1, sw, te, ex, re, sz, la, upd ac x.toNatClampNeg s, kn, ix, sp, lr, mk, ln, pg, sg, sn, ev', qu', ip, op) → wpX_changeState post (nI nj, nI nw, nI ns, nI nc, nI nt, nI e0, nI e1, nI i0, nI i1, nI o0, nI o1, sw, te, ex, re, sz, la, ac, kn, ix, sp, lr, mk, ln, pg, sg, sn, ev, qu, ip, op) x s) ∧
      (∀ (s : Int32) (post : SY → Prop), s < 1000 → post (nI nj, nI nw, nI ns, nI nc, te, sw, ex, re, nI nt, nI i1, nI o1, sz, la, upd ac x.toNatClampNeg s, kn, ix, sp, lr, mk, pl', ln, cd, sn, sg, jp, jo) → wpY_change post (nI nj, nI nw, nI ns, nI nc, te, sw, ex, re, nI nt, nI i1, nI o1, sz, la, ac, kn, ix, sp, lr, mk, pl, ln, cd, sn, sg, jp, jo) x s) ∧
      (∀ (s : Int32) (post : SY → Prop), ¬ s < 1000 → post (nI nj, nI nw, nI ns, nI nc, te, sw, ex + 1, re, nI nt, nI i1, nI o1, sz, la, upd ac x.toNatClampNeg s, kn, ix, sp, lr, upd mk x.toNatClampNeg 0, pl', ln, cd, sn, sg, jp, jo) → wpY_change post (nI nj, nI nw, nI ns, nI nc, te, sw, ex, re, nI nt, nI i1, nI o1, sz, la, ac, kn, ix, sp, lr, mk, pl, ln, cd, sn, sg, jp, jo) x s) := by
  obtain ⟨hN, hS, hT, hZ, hL, hP, hC, hK, hI, hO, hE, hD⟩ := h
  have hin := fv_in lx
  have l32 := fv_l lx
  have he0 : e0 < 32 := hN.2.2.2.2.2.2.1
  have he1 := ev_l hE
  have er := rg_32 he0 he1
  by_cases q : qu x.toNatClampNeg = 0
  · have z := (ev_pl hE l32).mp q
    have hQ := ev_enq hE he0 l32 q
    rw [fv_n lx] at hQ
    have eX : upd ev ((nI e0 + nI e1) - (nI e0 + nI e1) / 32 * 32).toNatClampNeg x = upd ev ((e0 + e1) % 32) x := by rw [er, nI_clamp (by omega)]
    have iX : vp_in ((nI e0 + nI e1) - (nI e0 + nI e1) / 32 * 32) 32 := by rw [er]; exact vp_in_nI (by omega) (by omega)
    have eY : upd pl x.toNatClampNeg (nI (cn_c pl 32) + 1) = upd pl x.toNatClampNeg (nI (e1 + 1)) := by rw [hE.2.2, nI_1]
    refine ⟨e1 + 1, upd ev ((e0 + e1) % 32) x, upd qu x.toNatClampNeg 1, upd pl x.toNatClampNeg (nI (e1 + 1)), ?_, ?_, ?_, ?_⟩
    · exact fun s => ⟨hN, hS, hT, hZ, hL, hP, hC, hK, hI, hO, hQ.2, dd_ac hD lx ha s (fun q e => pk_un e)⟩
    · exact fun mk ex s post hp => And.intro hin (nm_e (And.intro hin (br_t q (And.intro rg_n32 (And.intro iX (nm_r eX (nm_r (nI_1 e1) (And.intro hin (nm_e hp)))))))))
    · exact fun s post hs hp => And.intro hin (br_t z (q_qd (And.intro hin (nm_r eY (q_c21 hin hs hp)))))
    · exact fun s post hs hp => And.intro hin (br_t z (q_qd (And.intro hin (nm_r eY (q_e21 hin hs hp)))))
  · have z : ¬ pl x.toNatClampNeg = 0 := fun z => q ((ev_pl hE l32).mpr z)
    refine ⟨e1, ev, qu, pl, ?_, ?_, ?_, ?_⟩
    · exact fun s => ⟨hN, hS, hT, hZ, hL, hP, hC, hK, hI, hO, hE, dd_ac hD lx ha s (fun q e => rfl)⟩
    · exact fun mk ex s post hp => And.intro hin (nm_e (And.intro hin (br_f q hp)))
    · exact fun s post hs hp => And.intro hin (br_f z (q_c21 hin hs hp))
    · exact fun s post hs hp => And.intro hin (br_f z (q_e21 hin hs hp))
theorem q_end {x s s' : Int32} {j : Nat} (h : fa_F nj nw ns nc nt e0 e1 i0 i1 o0 o1 sw te sz ac kn ix ln pg sg sn ev qu ip op pl cd jp jo) (lx : fa_v sz j x) (ha : ac x.toNatClampNeg < 1000) (hs : s' = 1000 + s) (hs2 : ¬ s' < 1000) :
    oo_o (fun post => wpX_end post (nI nj, nI nw, nI ns, nI nc, nI nt, nI e0, nI e1, nI i0, nI i1, nI o0, nI o1, sw, te, ex, re, sz, la, ac, kn, ix, sp, lr, mk, ln, pg, sg, sn, ev, qu, ip, op) x s) (fun post => wpY_change post (nI nj, nI nw, nI ns, nI nc, te, sw, ex, re, nI nt, nI i1, nI o1, sz, la, ac, kn, ix, sp, lr, mk, pl, ln, cd, sn, sg, jp, jo) x s') := by
  obtain ⟨e1', ev', qu', pl', f, a, b, c⟩ := q_enq (nj := nj) (nw := nw) (ns := ns) (nc := nc) (nt := nt) (e0 := e0) (e1 := e1) (i0 := i0) (i1 := i1) (o0 := o0) (o1 := o1) (sw := sw) (te := te) (ex := ex) (re := re) (sz := sz) (la := la) (ac := ac) (kn := kn) (ix := ix) (sp := sp) (lr := lr) (mk := mk) (ln := ln) (pg := pg) (sg := sg) (sn := sn) (ev := ev) (qu := qu) (ip := ip) (op := op) (pl := pl) (cd := cd) (jp := jp) (jo := jo) h lx ha
  subst hs
  exact ⟨(nI nj, nI nw, nI ns, nI nc, nI nt, nI e0, nI e1', nI i0, nI i1, nI o0, nI o1, sw, te, ex + 1, re, sz, la, upd ac x.toNatClampNeg (1000 + s), kn, ix, sp, lr, upd mk x.toNatClampNeg 0, ln, pg, sg, sn, ev', qu', ip, op), (nI nj, nI nw, nI ns, nI nc, te, sw, ex + 1, re, nI nt, nI i1, nI o1, sz, la, upd ac x.toNatClampNeg (1000 + s), kn, ix, sp, lr, upd mk x.toNatClampNeg 0, pl', ln, cd, sn, sg, jp, jo), fa_in (f (1000 + s)),
    fun post hp => And.intro (fv_in lx) (nm_e (nm_e (a _ _ _ _ hp))), fun post hp => c _ post hs2 hp⟩
theorem q_chg {x s : Int32} {j : Nat} (h : fa_F nj nw ns nc nt e0 e1 i0 i1 o0 o1 sw te sz ac kn ix ln pg sg sn ev qu ip op pl cd jp jo) (lx : fa_v sz j x) (ha : ac x.toNatClampNeg < 1000) (hs : s < 1000) :
    oo_o (fun post => wpX_changeState post (nI nj, nI nw, nI ns, nI nc, nI nt, nI e0, nI e1, nI i0, nI i1, nI o0, nI o1, sw, te, ex, re, sz, la, ac, kn, ix, sp, lr, mk, ln, pg, sg, sn, ev, qu, ip, op) x s) (fun post => wpY_change post (nI nj, nI nw, nI ns, nI nc, te, sw, ex, re, nI nt, nI i1, nI o1, sz, la, ac, kn, ix, sp, lr, mk, pl, ln, cd, sn, sg, jp, jo) x s) := by
  obtain ⟨e1', ev', qu', pl', f, a, b, c⟩ := q_enq (nj := nj) (nw := nw) (ns := ns) (nc := nc) (nt := nt) (e0 := e0) (e1 := e1) (i0 := i0) (i1 := i1) (o0 := o0) (o1 := o1) (sw := sw) (te := te) (ex := ex) (re := re) (sz := sz) (la := la) (ac := ac) (kn := kn) (ix := ix) (sp := sp) (lr := lr) (mk := mk) (ln := ln) (pg := pg) (sg := sg) (sn := sn) (ev := ev) (qu := qu) (ip := ip) (op := op) (pl := pl) (cd := cd) (jp := jp) (jo := jo) h lx ha
  exact ⟨(nI nj, nI nw, nI ns, nI nc, nI nt, nI e0, nI e1', nI i0, nI i1, nI o0, nI o1, sw, te, ex, re, sz, la, upd ac x.toNatClampNeg s, kn, ix, sp, lr, mk, ln, pg, sg, sn, ev', qu', ip, op), (nI nj, nI nw, nI ns, nI nc, te, sw, ex, re, nI nt, nI i1, nI o1, sz, la, upd ac x.toNatClampNeg s, kn, ix, sp, lr, mk, pl', ln, cd, sn, sg, jp, jo), fa_in (f s), fun post hp => a _ _ _ post hp, fun post hp => b s post hs hp⟩
theorem q_del {x s : Int32} {j : Nat} (h : fa_F nj nw ns nc nt e0 e1 i0 i1 o0 o1 sw te sz ac kn ix ln pg sg sn ev qu ip op pl cd jp jo) (lx : fa_v sz j x) (hs : 300 + s < 1000) : oo_o (fun post => wpX_deliver post (nI nj, nI nw, nI ns, nI nc, nI nt, nI e0, nI e1, nI i0, nI i1, nI o0, nI o1, sw, te, ex, re, sz, la, ac, kn, ix, sp, lr, mk, ln, pg, sg, sn, ev, qu, ip, op) x s) (fun post => wpY_deliver post (nI nj, nI nw, nI ns, nI nc, te, sw, ex, re, nI nt, nI i1, nI o1, sz, la, ac, kn, ix, sp, lr, mk, pl, ln, cd, sn, sg, jp, jo) x s) := by
  have hin := fv_in lx
  by_cases ha : ac x.toNatClampNeg < 1000
  · by_cases h9 : s = 9
    · exact oo_c (q_end (s := 137) (s' := 1137) h lx ha (by decide) (by decide)) (fun _ _ _ _ _ _ _ _ _ _ _ _ _ _ _ _ _ _ _ _ _ _ _ _ _ _ _ _ _ _ _ _ _ _ _ a post hp => And.intro hin (br_t ha (br_t h9 (a _ hp)))) (fun _ _ _ _ _ _ _ _ _ _ _ _ _ _ _ _ _ _ _ _ _ _ _ _ _ _ _ _ _ _ _ _ _ _ _ b post hp => And.intro hin (nm_e (br_t ha (br_t h9 (b _ hp)))))
    · by_cases h2 : s = 2
      · by_cases h0 : ac x.toNatClampNeg = 0
        · exact oo_c (q_end (s := 130) (s' := 1130) h lx ha (by decide) (by decide)) (fun _ _ _ _ _ _ _ _ _ _ _ _ _ _ _ _ _ _ _ _ _ _ _ _ _ _ _ _ _ _ _ _ _ _ _ a post hp => And.intro hin (br_t ha (br_f h9 (br_t h2 (And.intro hin (br_t h0 (a _ hp)))))))
            (fun _ _ _ _ _ _ _ _ _ _ _ _ _ _ _ _ _ _ _ _ _ _ _ _ _ _ _ _ _ _ _ _ _ _ _ b post hp => And.intro hin (nm_e (br_t ha (br_f h9 (br_t h2 (br_t h0 (b _ hp)))))))
        · exact ⟨(nI nj, nI nw, nI ns, nI nc, nI nt, nI e0, nI e1, nI i0, nI i1, nI o0, nI o1, sw, te, ex, re, sz, la, ac, kn, ix, sp, lr, upd mk x.toNatClampNeg 1, ln, pg, sg, sn, ev, qu, ip, op), (nI nj, nI nw, nI ns, nI nc, te, sw, ex, re, nI nt, nI i1, nI o1, sz, la, ac, kn, ix, sp, lr, upd mk x.toNatClampNeg 1, pl, ln, cd, sn, sg, jp, jo), fa_in h, fun post hp => And.intro hin (br_t ha (br_f h9 (br_t h2 (And.intro hin (br_f h0 (And.intro hin (nm_e hp))))))),
            fun post hp => And.intro hin (nm_e (br_t ha (br_f h9 (br_t h2 (br_f h0 (br_t h2 (And.intro hin (nm_e hp))))))))⟩
      · by_cases h18 : s = 18
        · by_cases h0 : ac x.toNatClampNeg = 0
          · exact ⟨(nI nj, nI nw, nI ns, nI nc, nI nt, nI e0, nI e1, nI i0, nI i1, nI o0, nI o1, sw, te, ex, re, sz, la, ac, kn, ix, sp, lr, mk, ln, pg, sg, sn, ev, qu, ip, op), (nI nj, nI nw, nI ns, nI nc, te, sw, ex, re, nI nt, nI i1, nI o1, sz, la, ac, kn, ix, sp, lr, mk, pl, ln, cd, sn, sg, jp, jo), fa_in h, fun post hp => And.intro hin (br_t ha (br_f h9 (br_f h2 (br_t h18 (And.intro hin (br_t h0 hp)))))),
              fun post hp => And.intro hin (nm_e (br_t ha (br_f h9 (br_f h2 (br_f h2 (br_t h18 (br_t h0 (br_t h18 hp))))))))⟩
          · by_cases hm : mk x.toNatClampNeg = 1
            · exact oo_c (q_end (s := 130) (s' := 1130) h lx ha (by decide) (by decide)) (fun _ _ _ _ _ _ _ _ _ _ _ _ _ _ _ _ _ _ _ _ _ _ _ _ _ _ _ _ _ _ _ _ _ _ _ a post hp => And.intro hin (br_t ha (br_f h9 (br_f h2 (br_t h18 (And.intro hin (br_f h0 (And.intro hin (br_t hm (a _ hp))))))))))
                (fun _ _ _ _ _ _ _ _ _ _ _ _ _ _ _ _ _ _ _ _ _ _ _ _ _ _ _ _ _ _ _ _ _ _ _ b post hp => And.intro hin (nm_e (br_t ha (br_f h9 (br_f h2 (br_f h2 (br_t h18 (br_f h0 (And.intro hin (br_t hm (b _ hp)))))))))))
            · exact oo_c (q_chg (s := 0) h lx ha (by decide)) (fun _ _ _ _ _ _ _ _ _ _ _ _ _ _ _ _ _ _ _ _ _ _ _ _ _ _ _ _ _ _ _ _ _ _ _ a post hp => And.intro hin (br_t ha (br_f h9 (br_f h2 (br_t h18 (And.intro hin (br_f h0 (And.intro hin (br_f hm (a _ hp))))))))))
                (fun _ _ _ _ _ _ _ _ _ _ _ _ _ _ _ _ _ _ _ _ _ _ _ _ _ _ _ _ _ _ _ _ _ _ _ b post hp => And.intro hin (nm_e (br_t ha (br_f h9 (br_f h2 (br_f h2 (br_t h18 (br_f h0 (And.intro hin (br_f hm (b _ hp)))))))))))
        · by_cases h0 : ac x.toNatClampNeg = 0
          · exact oo_c (q_chg (s := 300 + s) h lx ha hs) (fun _ _ _ _ _ _ _ _ _ _ _ _ _ _ _ _ _ _ _ _ _ _ _ _ _ _ _ _ _ _ _ _ _ _ _ a post hp => And.intro hin (br_t ha (br_f h9 (br_f h2 (br_f h18 (And.intro hin (br_t h0 (a _ hp))))))))
              (fun _ _ _ _ _ _ _ _ _ _ _ _ _ _ _ _ _ _ _ _ _ _ _ _ _ _ _ _ _ _ _ _ _ _ _ b post hp => And.intro hin (nm_e (br_t ha (br_f h9 (br_f h2 (br_f h2 (br_f h18 (br_f h18 (br_t h0 (b _ hp)))))))))) 
          · exact ⟨(nI nj, nI nw, nI ns, nI nc, nI nt, nI e0, nI e1, nI i0, nI i1, nI o0, nI o1, sw, te, ex, re, sz, la, ac, kn, ix, sp, lr, mk, ln, pg, sg, sn, ev, qu, ip, op), (nI nj, nI nw, nI ns, nI nc, te, sw, ex, re, nI nt, nI i1, nI o1, sz, la, ac, kn, ix, sp, lr, mk, pl, ln, cd, sn, sg, jp, jo), fa_in h, fun post hp => And.intro hin (br_t ha (br_f h9 (br_f h2 (br_f h18 (And.intro hin (br_f h0 hp)))))),
              fun post hp => And.intro hin (nm_e (br_t ha (br_f h9 (br_f h2 (br_f h2 (br_f h18 (br_f h18 (br_f h0 hp))))))))⟩
  · exact ⟨(nI nj, nI nw, nI ns, nI nc, nI nt, nI e0, nI e1, nI i0, nI i1, nI o0, nI o1, sw, te, ex, re, sz, la, ac, kn, ix, sp, lr, mk, ln, pg, sg, sn, ev, qu, ip, op), (nI nj, nI nw, nI ns, nI nc, te, sw, ex, re, nI nt, nI i1, nI o1, sz, la, ac, kn, ix, sp, lr, mk, pl, ln, cd, sn, sg, jp, jo), fa_in h, fun post hp => And.intro hin (br_f ha hp), fun post hp => And.intro hin (nm_e (br_f ha hp))⟩
end
/-- the loop over a job's places -/
theorem q_dj2 {j : Nat} {s : Int32} (hj : j < 8) (hs : 300 + s < 1000) : ∀ d k : Nat, k + d = 4 → ∀ (nj nw ns nc nt e0 e1 i0 i1 o0 o1 : Nat) (sw te ex re : Int32) (sz la ac kn ix sp lr mk ln pg sg sn ev qu ip op pl cd jp jo : Nat → Int32), fa_F nj nw ns nc nt e0 e1 i0 i1 o0 o1 sw te sz ac kn ix ln pg sg sn ev qu ip op pl cd jp jo →
    oo_o (fun post => wX_deliverToJob_2 post (nI j) s (d + 1) (nI k) (nI nj) (nI nw) (nI ns) (nI nc) (nI nt) (nI e0) (nI e1) (nI i0) (nI i1) (nI o0) (nI o1) sw te ex re sz la ac kn ix sp lr mk ln pg sg sn ev qu ip op) (fun post => wY_deliverJob_2 post (nI j) s (d + 1) (nI k) (nI nj) (nI nw) (nI ns) (nI nc) te sw ex re (nI nt) (nI i1) (nI o1) sz la ac kn ix sp lr mk pl ln cd sn sg jp jo) := by
  have hin : vp_in (nI j) 8 := vp_in_nI hj (by omega)
  have cl : (nI j).toNatClampNeg = j := nI_clamp (by omega)
  intro d
  induction d with
  | zero =>
    intro k hk nj nw ns nc nt e0 e1 i0 i1 o0 o1 sw te ex re sz la ac kn ix sp lr mk ln pg sg sn ev qu ip op pl cd jp jo h
    have c : sz (nI j).toNatClampNeg ≤ nI k := sl_z h.2.2.2.1 hj (by omega) (by omega)
    exact ⟨(nI nj, nI nw, nI ns, nI nc, nI nt, nI e0, nI e1, nI i0, nI i1, nI o0, nI o1, sw, te, ex, re, sz, la, ac, kn, ix, sp, lr, mk, ln, pg, sg, sn, ev, qu, ip, op), (nI nj, nI nw, nI ns, nI nc, te, sw, ex, re, nI nt, nI i1, nI o1, sz, la, ac, kn, ix, sp, lr, mk, pl, ln, cd, sn, sg, jp, jo), fa_in h, fun post hp => And.intro hin (br_t c hp), fun post hp => And.intro hin (br_t c hp)⟩
  | succ d ih =>
    intro k hk nj nw ns nc nt e0 e1 i0 i1 o0 o1 sw te ex re sz la ac kn ix sp lr mk ln pg sg sn ev qu ip op pl cd jp jo h
    by_cases c : sz (nI j).toNatClampNeg ≤ nI k
    · exact ⟨(nI nj, nI nw, nI ns, nI nc, nI nt, nI e0, nI e1, nI i0, nI i1, nI o0, nI o1, sw, te, ex, re, sz, la, ac, kn, ix, sp, lr, mk, ln, pg, sg, sn, ev, qu, ip, op), (nI nj, nI nw, nI ns, nI nc, te, sw, ex, re, nI nt, nI i1, nI o1, sz, la, ac, kn, ix, sp, lr, mk, pl, ln, cd, sn, sg, jp, jo), fa_in h, fun post hp => And.intro hin (br_t c hp), fun post hp => And.intro hin (br_t c hp)⟩
    · have lx : fa_v sz j (nI j * 4 + nI k) := sl_v hj (by omega) (by rw [cl] at c; exact c)
      refine oo_d (q_del (nj := nj) (nw := nw) (ns := ns) (nc := nc) (nt := nt) (e0 := e0) (e1 := e1) (i0 := i0) (i1 := i1) (o0 := o0) (o1 := o1) (sw := sw) (te := te) (ex := ex) (re := re) (sz := sz) (la := la) (ac := ac) (kn := kn) (ix := ix) (sp := sp) (lr := lr) (mk := mk) (ln := ln) (pg := pg) (sg := sg) (sn := sn) (ev := ev) (qu := qu) (ip := ip) (op := op) (pl := pl) (cd := cd) (jp := jp) (jo := jo) h lx hs) ?_
      intro nj nw ns nc nt e0 e1 i0 i1 o0 o1 sw te ex re sz la ac kn ix sp lr mk ln pg sg sn ev qu ip op pl cd jp jo h x y
      exact oo_c (ih (k + 1) (by omega) nj nw ns nc nt e0 e1 i0 i1 o0 o1 sw te ex re sz la ac kn ix sp lr mk ln pg sg sn ev qu ip op pl cd jp jo h) (fun _ _ _ _ _ _ _ _ _ _ _ _ _ _ _ _ _ _ _ _ _ _ _ _ _ _ _ _ _ _ _ _ _ _ _ a post hp => And.intro hin (br_f c (x _ (nm_r (nI_1 k) (a post hp))))) (fun _ _ _ _ _ _ _ _ _ _ _ _ _ _ _ _ _ _ _ _ _ _ _ _ _ _ _ _ _ _ _ _ _ _ _ b post hp => And.intro hin (br_f c (y _ (nm_r (nI_1 k) (b post hp)))))
theorem q_dj {nj nw ns nc nt e0 e1 i0 i1 o0 o1 : Nat} {sw te ex re : Int32} {sz la ac kn ix sp lr mk ln pg sg sn ev qu ip op pl cd jp jo : Nat → Int32} {j : Nat} {s : Int32} (h : fa_F nj nw ns nc nt e0 e1 i0 i1 o0 o1 sw te sz ac kn ix ln pg sg sn ev qu ip op pl cd jp jo) (hj : j < 8) (hs : 300 + s < 1000) : oo_o (fun post => wpX_deliverToJob post (nI nj, nI nw, nI ns, nI nc, nI nt, nI e0, nI e1, nI i0, nI i1, nI o0, nI o1, sw, te, ex, re, sz, la, ac, kn, ix, sp, lr, mk, ln, pg, sg, sn, ev, qu, ip, op) (nI j) s) (fun post => wpY_deliverJob post (nI nj, nI nw, nI ns, nI nc, te, sw, ex, re, nI nt, nI i1, nI o1, sz, la, ac, kn, ix, sp, lr, mk, pl, ln, cd, sn, sg, jp, jo) (nI j) s) :=
  oo_c (q_dj2 hj hs 4 0 rfl nj nw ns nc nt e0 e1 i0 i1 o0 o1 sw te ex re sz la ac kn ix sp lr mk ln pg sg sn ev qu ip op pl cd jp jo h) (fun _ _ _ _ _ _ _ _ _ _ _ _ _ _ _ _ _ _ _ _ _ _ _ _ _ _ _ _ _ _ _ _ _ _ _ a post hp => Exists.intro 5 (a post hp)) (fun _ _ _ _ _ _ _ _ _ _ _ _ _ _ _ _ _ _ _ _ _ _ _ _ _ _ _ _ _ _ _ _ _ _ _ b post hp => Exists.intro 5 (b post hp))
end
section
/-! one process's turn -/
theorem pp_ix {sz ix ln : Nat → Int32} {j : Nat} {x : Int32} (h : fa_P ix ln) (lx : fa_v sz j x) (hlt : ix x.toNatClampNeg < ln x.toNatClampNeg) : fa_P (upd ix x.toNatClampNeg (ix x.toNatClampNeg + 1)) ln := by
  intro p hp
  obtain ⟨i, m, hi, hm, e1, e2⟩ := h p hp
  by_cases e : p = x.toNatClampNeg
  · subst e
    rw [e1, e2, nI_ltI (by omega) (by omega)] at hlt
    exact ⟨i + 1, m, by omega, hm, by rw [pk_us, e1, nI_1], e2⟩
  · exact ⟨i, m, hi, hm, by rw [pk_un e]; exact e1, e2⟩
theorem cc_ix {sz ix ln pg cd : Nat → Int32} {j : Nat} {x : Int32} (h : fa_P ix ln) (hC : fa_C pg cd ln) (lx : fa_v sz j x) (hlt : ix x.toNatClampNeg < ln x.toNatClampNeg) :
    vp_in (x * 8 + ix x.toNatClampNeg) 256 ∧ cd (x * 8 + ix x.toNatClampNeg).toNatClampNeg = pg (x * 8 + ix x.toNatClampNeg).toNatClampNeg := by
  obtain ⟨p, hp, ex, ec⟩ := fv_c lx
  obtain ⟨i, m, hi, hm, e1, e2⟩ := h p hp
  rw [ec] at hlt ⊢
  have hl := hlt
  rw [e1, e2, nI_ltI (by omega) (by omega)] at hl
  have ei : x * 8 + ix p = nI (p * 8 + i) := by
    rw [ex, e1, ← nI_add, ← pk_mul]; rfl
  rw [ei, nI_clamp (by omega)]
  refine ⟨vp_in_nI (by omega) (by omega), ?_⟩
  rw [e1] at hlt
  exact (hC p i hp (by omega) hlt).symm
section
variable {nj nw ns nc nt e0 e1 i0 i1 o0 o1 : Nat} {sw te ex re : Int32} {sz la ac kn ix sp lr mk ln pg sg sn ev qu ip op pl cd jp jo : Nat → Int32}
/-- Y's shift of the input -/
theorem q_sh {post : SY → Prop} {x : Int32} {c : Nat} (hin : vp_in x 32) (hc : c < 16) (hp : post (nI nj, nI nw, nI ns, nI nc, te, sw, ex, re, nI nt, nI c, nI o1, sz, la, ac, kn, upd ix x.toNatClampNeg (ix x.toNatClampNeg + 1), sp, lr, mk, pl, ln, cd, sn, sg, rg_sf (c + 1) jp, jo)) :
    ∀ d k : Nat, k + d = c → wY_turn_158 post x (nI nj) (nI nw) (nI ns) (nI nc) te sw ex re (nI nt) (nI (c + 1)) (nI o1) (d + 1) (nI (k + 1)) sz la ac kn ix sp lr mk pl ln cd sn sg (rg_sf (k + 1) jp) jo := by
  intro d
  induction d with
  | zero =>
    intro k hk
    have e : k = c := by omega
    subst e
    exact br_t (nI_le (by omega) (by omega)) (nm_r (nI_pred k) (And.intro hin (And.intro hin (nm_e hp))))
  | succ d ih =>
    intro k hk
    have e : upd (rg_sf (k + 1) jp) (nI (k + 1) - 1).toNatClampNeg (rg_sf (k + 1) jp (nI (k + 1)).toNatClampNeg) = rg_sf (k + 2) jp := by
      rw [nI_pred, nI_clamp (by omega), nI_clamp (by omega)]; exact sf_s k jp
    exact br_f (nI_ge (by omega) (by omega)) (And.intro (vp_in_nI (by omega) (by omega)) (And.intro (by rw [nI_pred]; exact vp_in_nI (by omega) (by omega)) (nm_r e (nm_r (nI_1 (k + 1)) (ih (k + 1) (by omega))))))
theorem q_sh0 {post : SY → Prop} {x : Int32} {c : Nat} (hin : vp_in x 32) (hc : c < 16) (hp : post (nI nj, nI nw, nI ns, nI nc, te, sw, ex, re, nI nt, nI c, nI o1, sz, la, ac, kn, upd ix x.toNatClampNeg (ix x.toNatClampNeg + 1), sp, lr, mk, pl, ln, cd, sn, sg, rg_sf (c + 1) jp, jo)) :
    wY_turn_158 post x (nI nj) (nI nw) (nI ns) (nI nc) te sw ex re (nI nt) (nI (c + 1)) (nI o1) (c + 1) 1 sz la ac kn ix sp lr mk pl ln cd sn sg jp jo := by
  have h := q_sh hin hc hp c 0 (by omega)
  rw [sf_1 jp] at h
  exact h
/-- a character written -/
theorem q_w50 {post : SX → Prop} {x z : Int32} (hin : vp_in x 32) (h0 : o0 < 16) (h1 : o1 ≤ 16) (hp : post (nI nj, nI nw, nI ns, nI nc, nI nt, nI e0, nI e1, nI i0, nI i1, nI o0, nI (o1 + 1), sw, te, ex, re, sz, la, ac, kn, upd ix x.toNatClampNeg (ix x.toNatClampNeg + 1), sp, lr, mk, ln, pg, sg, sn, ev, qu, ip, upd op ((o0 + o1) % 16) z)) : wX_write_50 post x z (nI nj) (nI nw) (nI ns) (nI nc) (nI nt) (nI e0) (nI e1) (nI i0) (nI i1) (nI o0) (nI o1) sw te ex re sz la ac kn ix sp lr mk ln pg sg sn ev qu ip op := by
  have er := rg_16 h0 h1
  exact And.intro rg_n16 (And.intro (by rw [er]; exact vp_in_nI (by omega) (by omega)) (nm_r (e' := upd op ((o0 + o1) % 16) z) (by rw [er, nI_clamp (by omega)]) (nm_r (nI_1 o1) (And.intro hin (And.intro hin (nm_e hp))))))
theorem q_t278 {post : SY → Prop} {x z : Int32} (hin : vp_in x 32) (h1 : o1 < 16) (hp : post (nI nj, nI nw, nI ns, nI nc, te, sw, ex, re, nI nt, nI i1, nI (o1 + 1), sz, la, ac, kn, upd ix x.toNatClampNeg (ix x.toNatClampNeg + 1), sp, lr, mk, pl, ln, cd, sn, sg, jp, upd jo o1 z)) : wY_turn_278 post x z (nI o1) (nI nj) (nI nw) (nI ns) (nI nc) te sw ex re (nI nt) (nI i1) (nI o1) sz la ac kn ix sp lr mk pl ln cd sn sg jp jo :=
  And.intro (vp_in_nI (by omega) (by omega)) (nm_r (e' := upd jo o1 z) (by rw [nI_clamp (by omega)]) (nm_r (nI_1 o1) (And.intro hin (And.intro hin (nm_e hp)))))
theorem q_w25 {x a : Int32} {j : Nat} (h : fa_F nj nw ns nc nt e0 e1 i0 i1 o0 o1 sw te sz ac kn ix ln pg sg sn ev qu ip op pl cd jp jo) (lx : fa_v sz j x) (hlt : ix x.toNatClampNeg < ln x.toNatClampNeg) : oo_o (fun post => wX_write_25 post x a (nI nj) (nI nw) (nI ns) (nI nc) (nI nt) (nI e0) (nI e1) (nI i0) (nI i1) (nI o0) (nI o1) sw te ex re sz la ac kn ix sp lr mk ln pg sg sn ev qu ip op) (fun post => wY_turn_243 post x a (nI nj) (nI nw) (nI ns) (nI nc) te sw ex re (nI nt) (nI i1) (nI o1) sz la ac kn ix sp lr mk pl ln cd sn sg jp jo) := by
  have hin := fv_in lx
  have h' := h
  obtain ⟨hN, hS, hT, hZ, hL, hP, hC, hK, hI, hO, hE, hD⟩ := h'
  have hN' := hN
  unfold fa_N at hN'
  by_cases c : nI nc ≤ nI o1
  · exact ⟨(nI nj, nI nw, nI ns, nI nc, nI nt, nI e0, nI e1, nI i0, nI i1, nI o0, nI o1, sw, te, ex, re, sz, la, ac, kn, ix, sp, lr, mk, ln, pg, sg, sn, ev, qu, ip, op), (nI nj, nI nw, nI ns, nI nc, te, sw, ex, re, nI nt, nI i1, nI o1, sz, la, ac, kn, ix, sp, lr, mk, pl, ln, cd, sn, sg, jp, jo), fa_in h, fun post hp => br_t c hp, fun post hp => br_t c hp⟩
  · have c' := c
    rw [nI_leI (by omega) (by omega)] at c'
    have fz : ∀ z : Int32, fa_F nj nw ns nc nt e0 e1 i0 i1 o0 (o1 + 1) sw te sz ac kn (upd ix x.toNatClampNeg (ix x.toNatClampNeg + 1)) ln pg sg sn ev qu ip (upd op ((o0 + o1) % 16) z) pl cd jp (upd jo o1 z) := fun z =>
      ⟨by unfold fa_N; omega, hS, hT, hZ, hL, pp_ix hP lx hlt, hC, hK, hI, rg_push z (by omega) hO, hE, hD⟩
    by_cases e : a = 0
    · exact ⟨(nI nj, nI nw, nI ns, nI nc, nI nt, nI e0, nI e1, nI i0, nI i1, nI o0, nI (o1 + 1), sw, te, ex, re, sz, la, ac, kn, upd ix x.toNatClampNeg (ix x.toNatClampNeg + 1), sp, lr, mk, ln, pg, sg, sn, ev, qu, ip, upd op ((o0 + o1) % 16) (lr x.toNatClampNeg)), (nI nj, nI nw, nI ns, nI nc, te, sw, ex, re, nI nt, nI i1, nI (o1 + 1), sz, la, ac, kn, upd ix x.toNatClampNeg (ix x.toNatClampNeg + 1), sp, lr, mk, pl, ln, cd, sn, sg, jp, upd jo o1 (lr x.toNatClampNeg)), fa_in (fz _),
        fun post hp => br_f c (br_t e (And.intro hin (q_w50 hin (by omega) (by omega) hp))), fun post hp => br_f c (br_t e (And.intro hin (q_t278 hin (by omega) hp)))⟩
    · exact ⟨(nI nj, nI nw, nI ns, nI nc, nI nt, nI e0, nI e1, nI i0, nI i1, nI o0, nI (o1 + 1), sw, te, ex, re, sz, la, ac, kn, upd ix x.toNatClampNeg (ix x.toNatClampNeg + 1), sp, lr, mk, ln, pg, sg, sn, ev, qu, ip, upd op ((o0 + o1) % 16) a), (nI nj, nI nw, nI ns, nI nc, te, sw, ex, re, nI nt, nI i1, nI (o1 + 1), sz, la, ac, kn, upd ix x.toNatClampNeg (ix x.toNatClampNeg + 1), sp, lr, mk, pl, ln, cd, sn, sg, jp, upd jo o1 a), fa_in (fz _),
        fun post hp => br_f c (br_f e (q_w50 hin (by omega) (by omega) hp)), fun post hp => br_f c (br_f e (q_t278 hin (by omega) hp))⟩
/-- COMPUTE -/
theorem q_t1 {x : Int32} {j : Nat} (h : fa_F nj nw ns nc nt e0 e1 i0 i1 o0 o1 sw te sz ac kn ix ln pg sg sn ev qu ip op pl cd jp jo) (lx : fa_v sz j x) (hlt : ix x.toNatClampNeg < ln x.toNatClampNeg) (h1 : pg (x * 8 + ix x.toNatClampNeg).toNatClampNeg / 1000 = 1) : oo_o (fun post => wpX_turn post (nI nj, nI nw, nI ns, nI nc, nI nt, nI e0, nI e1, nI i0, nI i1, nI o0, nI o1, sw, te, ex, re, sz, la, ac, kn, ix, sp, lr, mk, ln, pg, sg, sn, ev, qu, ip, op) (nI j) x) (fun post => wpY_turn post (nI nj, nI nw, nI ns, nI nc, te, sw, ex, re, nI nt, nI i1, nI o1, sz, la, ac, kn, ix, sp, lr, mk, pl, ln, cd, sn, sg, jp, jo) (nI j) x) := by
  have hin := fv_in lx
  have h' := h
  obtain ⟨hN, hS, hT, hZ, hL, hP, hC, hK, hI, hO, hE, hD⟩ := h'
  obtain ⟨hc1, hc2⟩ := cc_ix hP hC lx hlt
  have hk1 : cd (x * 8 + ix x.toNatClampNeg).toNatClampNeg / 1000 = pg (x * 8 + ix x.toNatClampNeg).toNatClampNeg / 1000 := by rw [hc2]
  have hk2 : cd (x * 8 + ix x.toNatClampNeg).toNatClampNeg - cd (x * 8 + ix x.toNatClampNeg).toNatClampNeg / 1000 * 1000 = (pg (x * 8 + ix x.toNatClampNeg).toNatClampNeg - pg (x * 8 + ix x.toNatClampNeg).toNatClampNeg / 1000 * 1000) := by rw [hc2]
  by_cases c : upd sp x.toNatClampNeg (sp x.toNatClampNeg + 1) x.toNatClampNeg = (pg (x * 8 + ix x.toNatClampNeg).toNatClampNeg - pg (x * 8 + ix x.toNatClampNeg).toNatClampNeg / 1000 * 1000)
  · exact ⟨(nI nj, nI nw, nI ns, nI nc, nI nt, nI e0, nI e1, nI i0, nI i1, nI o0, nI o1, sw, te, ex, re, sz, la, ac, kn, upd ix x.toNatClampNeg (ix x.toNatClampNeg + 1), upd (upd sp x.toNatClampNeg (sp x.toNatClampNeg + 1)) x.toNatClampNeg 0, lr, mk, ln, pg, sg, sn, ev, qu, ip, op), (nI nj, nI nw, nI ns, nI nc, te, sw, ex, re, nI nt, nI i1, nI o1, sz, la, ac, kn, upd ix x.toNatClampNeg (ix x.toNatClampNeg + 1), upd (upd sp x.toNatClampNeg (sp x.toNatClampNeg + 1)) x.toNatClampNeg 0, lr, mk, pl, ln, cd, sn, sg, jp, jo),
      fa_in (show fa_F nj nw ns nc nt e0 e1 i0 i1 o0 o1 sw te sz ac kn (upd ix x.toNatClampNeg (ix x.toNatClampNeg + 1)) ln pg sg sn ev qu ip op pl cd jp jo from ⟨hN, hS, hT, hZ, hL, pp_ix hP lx hlt, hC, hK, hI, hO, hE, hD⟩),
      fun post hp => And.intro hin (And.intro hin (br_t hlt (And.intro hin (And.intro hc1 (nm_e (And.intro rg_n1000 (nm_e (And.intro rg_n1000 (nm_e (br_t h1 (And.intro hin (And.intro hin (nm_e (And.intro hin (br_t c (And.intro hin (And.intro hin (nm_e (And.intro hin (nm_e hp)))))))))))))))))))),
      fun post hp => And.intro hin (And.intro hin (br_t hlt (And.intro hin (And.intro hc1 (And.intro rg_n1000 (nm_r hk1 (And.intro hin (And.intro hc1 (And.intro rg_n1000 (nm_r hk2 (br_t h1 (And.intro hin (And.intro hin (nm_e (And.intro hin (br_t c (And.intro hin (And.intro hin (nm_e (And.intro hin (nm_e hp)))))))))))))))))))))⟩
  · exact ⟨(nI nj, nI nw, nI ns, nI nc, nI nt, nI e0, nI e1, nI i0, nI i1, nI o0, nI o1, sw, te, ex, re, sz, la, ac, kn, ix, upd sp x.toNatClampNeg (sp x.toNatClampNeg + 1), lr, mk, ln, pg, sg, sn, ev, qu, ip, op), (nI nj, nI nw, nI ns, nI nc, te, sw, ex, re, nI nt, nI i1, nI o1, sz, la, ac, kn, ix, upd sp x.toNatClampNeg (sp x.toNatClampNeg + 1), lr, mk, pl, ln, cd, sn, sg, jp, jo), fa_in h,
      fun post hp => And.intro hin (And.intro hin (br_t hlt (And.intro hin (And.intro hc1 (nm_e (And.intro rg_n1000 (nm_e (And.intro rg_n1000 (nm_e (br_t h1 (And.intro hin (And.intro hin (nm_e (And.intro hin (br_f c hp))))))))))))))),
      fun post hp => And.intro hin (And.intro hin (br_t hlt (And.intro hin (And.intro hc1 (And.intro rg_n1000 (nm_r hk1 (And.intro hin (And.intro hc1 (And.intro rg_n1000 (nm_r hk2 (br_t h1 (And.intro hin (And.intro hin (nm_e (And.intro hin (br_f c hp))))))))))))))))⟩
/-- READ -/
theorem q_t2 {x : Int32} {j : Nat} (h : fa_F nj nw ns nc nt e0 e1 i0 i1 o0 o1 sw te sz ac kn ix ln pg sg sn ev qu ip op pl cd jp jo) (lx : fa_v sz j x) (hlt : ix x.toNatClampNeg < ln x.toNatClampNeg) (h1 : ¬ pg (x * 8 + ix x.toNatClampNeg).toNatClampNeg / 1000 = 1) (h2 : pg (x * 8 + ix x.toNatClampNeg).toNatClampNeg / 1000 = 2) : oo_o (fun post => wpX_turn post (nI nj, nI nw, nI ns, nI nc, nI nt, nI e0, nI e1, nI i0, nI i1, nI o0, nI o1, sw, te, ex, re, sz, la, ac, kn, ix, sp, lr, mk, ln, pg, sg, sn, ev, qu, ip, op) (nI j) x) (fun post => wpY_turn post (nI nj, nI nw, nI ns, nI nc, te, sw, ex, re, nI nt, nI i1, nI o1, sz, la, ac, kn, ix, sp, lr, mk, pl, ln, cd, sn, sg, jp, jo) (nI j) x) := by
  have hin := fv_in lx
  have h' := h
  obtain ⟨hN, hS, hT, hZ, hL, hP, hC, hK, hI, hO, hE, hD⟩ := h'
  obtain ⟨hc1, hc2⟩ := cc_ix hP hC lx hlt
  have hk1 : cd (x * 8 + ix x.toNatClampNeg).toNatClampNeg / 1000 = pg (x * 8 + ix x.toNatClampNeg).toNatClampNeg / 1000 := by rw [hc2]
  have hk2 : cd (x * 8 + ix x.toNatClampNeg).toNatClampNeg - cd (x * 8 + ix x.toNatClampNeg).toNatClampNeg / 1000 * 1000 = (pg (x * 8 + ix x.toNatClampNeg).toNatClampNeg - pg (x * 8 + ix x.toNatClampNeg).toNatClampNeg / 1000 * 1000) := by rw [hc2]
  by_cases ht : te = nI j
  · cases i1 with
    | zero =>
      have c : nI 0 ≤ 0 := ev_00
      exact ⟨(nI nj, nI nw, nI ns, nI nc, nI nt, nI e0, nI e1, nI i0, nI 0, nI o0, nI o1, sw, te, ex, re, sz, la, ac, kn, ix, sp, lr, mk, ln, pg, sg, sn, ev, qu, ip, op), (nI nj, nI nw, nI ns, nI nc, te, sw, ex, re, nI nt, nI 0, nI o1, sz, la, ac, kn, ix, sp, lr, mk, pl, ln, cd, sn, sg, jp, jo), fa_in h, fun post hp => And.intro hin (And.intro hin (br_t hlt (And.intro hin (And.intro hc1 (nm_e (And.intro rg_n1000 (nm_e (And.intro rg_n1000 (nm_e (br_f h1 (br_t h2 (br_t ht (br_t c hp))))))))))))), fun post hp => And.intro hin (And.intro hin (br_t hlt (And.intro hin (And.intro hc1 (And.intro rg_n1000 (nm_r hk1 (And.intro hin (And.intro hc1 (And.intro rg_n1000 (nm_r hk2 (br_f h1 (br_t h2 (br_t ht (br_t c hp))))))))))))))⟩
    | succ m =>
      have hN' := hN
      unfold fa_N at hN'
      have c : ¬ nI (m + 1) ≤ 0 := nI_nle (by omega) (by omega)
      have eL : upd lr x.toNatClampNeg (ip (nI i0).toNatClampNeg) = upd lr x.toNatClampNeg (jp 0) := by
        rw [nI_clamp (by omega), rg_fst (by omega) hI]
      exact ⟨(nI nj, nI nw, nI ns, nI nc, nI nt, nI e0, nI e1, nI ((i0 + 1) % 16), nI m, nI o0, nI o1, sw, te, ex, re, sz, la, ac, kn, upd ix x.toNatClampNeg (ix x.toNatClampNeg + 1), sp, upd lr x.toNatClampNeg (jp 0), mk, ln, pg, sg, sn, ev, qu, ip, op), (nI nj, nI nw, nI ns, nI nc, te, sw, ex, re, nI nt, nI m, nI o1, sz, la, ac, kn, upd ix x.toNatClampNeg (ix x.toNatClampNeg + 1), sp, upd lr x.toNatClampNeg (jp 0), mk, pl, ln, cd, sn, sg, rg_sf (m + 1) jp, jo),
        fa_in (show fa_F nj nw ns nc nt e0 e1 ((i0 + 1) % 16) m o0 o1 sw te sz ac kn (upd ix x.toNatClampNeg (ix x.toNatClampNeg + 1)) ln pg sg sn ev qu ip op pl cd (rg_sf (m + 1) jp) jo from ⟨by unfold fa_N; omega, hS, hT, hZ, hL, pp_ix hP lx hlt, hC, hK, rg_pop hI, hO, hE, hD⟩),
        fun post hp => And.intro hin (And.intro hin (br_t hlt (And.intro hin (And.intro hc1 (nm_e (And.intro rg_n1000 (nm_e (And.intro rg_n1000 (nm_e (br_f h1 (br_t h2 (br_t ht (br_f c (And.intro (vp_in_nI (by omega) (by omega)) (And.intro hin (nm_r eL (And.intro rg_n16 (nm_r (rg_161 (by omega)) (nm_r (nI_pred m) (And.intro hin (And.intro hin (nm_e hp)))))))))))))))))))))),
        fun post hp => And.intro hin (And.intro hin (br_t hlt (And.intro hin (And.intro hc1 (And.intro rg_n1000 (nm_r hk1 (And.intro hin (And.intro hc1 (And.intro rg_n1000 (nm_r hk2 (br_f h1 (br_t h2 (br_t ht (br_f c (And.intro hin (nm_e (Exists.intro (m + 1) (q_sh0 hin (by omega) hp))))))))))))))))))⟩
  · exact oo_c (q_dj (s := 21) h lx.1 (by decide)) (fun _ _ _ _ _ _ _ _ _ _ _ _ _ _ _ _ _ _ _ _ _ _ _ _ _ _ _ _ _ _ _ _ _ _ _ a post hp => And.intro hin (And.intro hin (br_t hlt (And.intro hin (And.intro hc1 (nm_e (And.intro rg_n1000 (nm_e (And.intro rg_n1000 (nm_e (br_f h1 (br_t h2 (br_f ht (a _ hp)))))))))))))) (fun _ _ _ _ _ _ _ _ _ _ _ _ _ _ _ _ _ _ _ _ _ _ _ _ _ _ _ _ _ _ _ _ _ _ _ b post hp => And.intro hin (And.intro hin (br_t hlt (And.intro hin (And.intro hc1 (And.intro rg_n1000 (nm_r hk1 (And.intro hin (And.intro hc1 (And.intro rg_n1000 (nm_r hk2 (br_f h1 (br_t h2 (br_f ht (b _ hp)))))))))))))))
/-- WRITE -/
theorem q_t3 {x : Int32} {j : Nat} (h : fa_F nj nw ns nc nt e0 e1 i0 i1 o0 o1 sw te sz ac kn ix ln pg sg sn ev qu ip op pl cd jp jo) (lx : fa_v sz j x) (hlt : ix x.toNatClampNeg < ln x.toNatClampNeg) (h1 : ¬ pg (x * 8 + ix x.toNatClampNeg).toNatClampNeg / 1000 = 1) (h2 : ¬ pg (x * 8 + ix x.toNatClampNeg).toNatClampNeg / 1000 = 2) (h3 : pg (x * 8 + ix x.toNatClampNeg).toNatClampNeg / 1000 = 3) : oo_o (fun post => wpX_turn post (nI nj, nI nw, nI ns, nI nc, nI nt, nI e0, nI e1, nI i0, nI i1, nI o0, nI o1, sw, te, ex, re, sz, la, ac, kn, ix, sp, lr, mk, ln, pg, sg, sn, ev, qu, ip, op) (nI j) x) (fun post => wpY_turn post (nI nj, nI nw, nI ns, nI nc, te, sw, ex, re, nI nt, nI i1, nI o1, sz, la, ac, kn, ix, sp, lr, mk, pl, ln, cd, sn, sg, jp, jo) (nI j) x) := by
  have hin := fv_in lx
  have h' := h
  obtain ⟨hN, hS, hT, hZ, hL, hP, hC, hK, hI, hO, hE, hD⟩ := h'
  obtain ⟨hc1, hc2⟩ := cc_ix hP hC lx hlt
  have hk1 : cd (x * 8 + ix x.toNatClampNeg).toNatClampNeg / 1000 = pg (x * 8 + ix x.toNatClampNeg).toNatClampNeg / 1000 := by rw [hc2]
  have hk2 : cd (x * 8 + ix x.toNatClampNeg).toNatClampNeg - cd (x * 8 + ix x.toNatClampNeg).toNatClampNeg / 1000 * 1000 = (pg (x * 8 + ix x.toNatClampNeg).toNatClampNeg - pg (x * 8 + ix x.toNatClampNeg).toNatClampNeg / 1000 * 1000) := by rw [hc2]
  by_cases ht : te = nI j
  · exact oo_c (q_w25 (a := (pg (x * 8 + ix x.toNatClampNeg).toNatClampNeg - pg (x * 8 + ix x.toNatClampNeg).toNatClampNeg / 1000 * 1000)) h lx hlt) (fun _ _ _ _ _ _ _ _ _ _ _ _ _ _ _ _ _ _ _ _ _ _ _ _ _ _ _ _ _ _ _ _ _ _ _ a post hp => And.intro hin (And.intro hin (br_t hlt (And.intro hin (And.intro hc1 (nm_e (And.intro rg_n1000 (nm_e (And.intro rg_n1000 (nm_e (br_f h1 (br_f h2 (br_t h3 (br_t ht (a _ hp))))))))))))))) (fun _ _ _ _ _ _ _ _ _ _ _ _ _ _ _ _ _ _ _ _ _ _ _ _ _ _ _ _ _ _ _ _ _ _ _ b post hp => And.intro hin (And.intro hin (br_t hlt (And.intro hin (And.intro hc1 (And.intro rg_n1000 (nm_r hk1 (And.intro hin (And.intro hc1 (And.intro rg_n1000 (nm_r hk2 (br_f h1 (br_f h2 (br_t h3 (br_t ht (b _ hp))))))))))))))))
  · rcases hS with e | e
    · have e1 : ¬ sw = 1 := by rw [e]; decide
      exact oo_c (q_w25 (a := (pg (x * 8 + ix x.toNatClampNeg).toNatClampNeg - pg (x * 8 + ix x.toNatClampNeg).toNatClampNeg / 1000 * 1000)) h lx hlt) (fun _ _ _ _ _ _ _ _ _ _ _ _ _ _ _ _ _ _ _ _ _ _ _ _ _ _ _ _ _ _ _ _ _ _ _ a post hp => And.intro hin (And.intro hin (br_t hlt (And.intro hin (And.intro hc1 (nm_e (And.intro rg_n1000 (nm_e (And.intro rg_n1000 (nm_e (br_f h1 (br_f h2 (br_t h3 (br_f ht (br_t e (a _ hp)))))))))))))))) (fun _ _ _ _ _ _ _ _ _ _ _ _ _ _ _ _ _ _ _ _ _ _ _ _ _ _ _ _ _ _ _ _ _ _ _ b post hp => And.intro hin (And.intro hin (br_t hlt (And.intro hin (And.intro hc1 (And.intro rg_n1000 (nm_r hk1 (And.intro hin (And.intro hc1 (And.intro rg_n1000 (nm_r hk2 (br_f h1 (br_f h2 (br_t h3 (br_f ht (br_f e1 (b _ hp)))))))))))))))))
    · have e0 : ¬ sw = 0 := by rw [e]; decide
      exact oo_c (q_dj (s := 22) h lx.1 (by decide)) (fun _ _ _ _ _ _ _ _ _ _ _ _ _ _ _ _ _ _ _ _ _ _ _ _ _ _ _ _ _ _ _ _ _ _ _ a post hp => And.intro hin (And.intro hin (br_t hlt (And.intro hin (And.intro hc1 (nm_e (And.intro rg_n1000 (nm_e (And.intro rg_n1000 (nm_e (br_f h1 (br_f h2 (br_t h3 (br_f ht (br_f e0 (a _ hp)))))))))))))))) (fun _ _ _ _ _ _ _ _ _ _ _ _ _ _ _ _ _ _ _ _ _ _ _ _ _ _ _ _ _ _ _ _ _ _ _ b post hp => And.intro hin (And.intro hin (br_t hlt (And.intro hin (And.intro hc1 (And.intro rg_n1000 (nm_r hk1 (And.intro hin (And.intro hc1 (And.intro rg_n1000 (nm_r hk2 (br_f h1 (br_f h2 (br_t h3 (br_f ht (br_t e (b _ hp)))))))))))))))))
/-- EXIT and RAISE -/
theorem q_t4 {x : Int32} {j : Nat} (h : fa_F nj nw ns nc nt e0 e1 i0 i1 o0 o1 sw te sz ac kn ix ln pg sg sn ev qu ip op pl cd jp jo) (lx : fa_v sz j x) (h0 : ac x.toNatClampNeg = 0) (hlt : ix x.toNatClampNeg < ln x.toNatClampNeg) (h1 : ¬ pg (x * 8 + ix x.toNatClampNeg).toNatClampNeg / 1000 = 1) (h2 : ¬ pg (x * 8 + ix x.toNatClampNeg).toNatClampNeg / 1000 = 2) (h3 : ¬ pg (x * 8 + ix x.toNatClampNeg).toNatClampNeg / 1000 = 3) : oo_o (fun post => wpX_turn post (nI nj, nI nw, nI ns, nI nc, nI nt, nI e0, nI e1, nI i0, nI i1, nI o0, nI o1, sw, te, ex, re, sz, la, ac, kn, ix, sp, lr, mk, ln, pg, sg, sn, ev, qu, ip, op) (nI j) x) (fun post => wpY_turn post (nI nj, nI nw, nI ns, nI nc, te, sw, ex, re, nI nt, nI i1, nI o1, sz, la, ac, kn, ix, sp, lr, mk, pl, ln, cd, sn, sg, jp, jo) (nI j) x) := by
  have hin := fv_in lx
  have ha : ac x.toNatClampNeg < 1000 := by rw [h0]; decide
  have h' := h
  obtain ⟨hN, hS, hT, hZ, hL, hP, hC, hK, hI, hO, hE, hD⟩ := h'
  obtain ⟨hc1, hc2⟩ := cc_ix hP hC lx hlt
  have hk1 : cd (x * 8 + ix x.toNatClampNeg).toNatClampNeg / 1000 = pg (x * 8 + ix x.toNatClampNeg).toNatClampNeg / 1000 := by rw [hc2]
  have hk2 : cd (x * 8 + ix x.toNatClampNeg).toNatClampNeg - cd (x * 8 + ix x.toNatClampNeg).toNatClampNeg / 1000 * 1000 = (pg (x * 8 + ix x.toNatClampNeg).toNatClampNeg - pg (x * 8 + ix x.toNatClampNeg).toNatClampNeg / 1000 * 1000) := by rw [hc2]
  have hA := kd_a (hK.1 (x * 8 + ix x.toNatClampNeg).toNatClampNeg)
  by_cases h4 : pg (x * 8 + ix x.toNatClampNeg).toNatClampNeg / 1000 = 4
  · exact oo_c (q_end (s := (pg (x * 8 + ix x.toNatClampNeg).toNatClampNeg - pg (x * 8 + ix x.toNatClampNeg).toNatClampNeg / 1000 * 1000)) (s' := 1000 + (pg (x * 8 + ix x.toNatClampNeg).toNatClampNeg - pg (x * 8 + ix x.toNatClampNeg).toNatClampNeg / 1000 * 1000)) h lx ha rfl hA.1) (fun _ _ _ _ _ _ _ _ _ _ _ _ _ _ _ _ _ _ _ _ _ _ _ _ _ _ _ _ _ _ _ _ _ _ _ a post hp => And.intro hin (And.intro hin (br_t hlt (And.intro hin (And.intro hc1 (nm_e (And.intro rg_n1000 (nm_e (And.intro rg_n1000 (nm_e (br_f h1 (br_f h2 (br_f h3 (br_t h4 (a _ hp))))))))))))))) (fun _ _ _ _ _ _ _ _ _ _ _ _ _ _ _ _ _ _ _ _ _ _ _ _ _ _ _ _ _ _ _ _ _ _ _ b post hp => And.intro hin (And.intro hin (br_t hlt (And.intro hin (And.intro hc1 (And.intro rg_n1000 (nm_r hk1 (And.intro hin (And.intro hc1 (And.intro rg_n1000 (nm_r hk2 (br_f h1 (br_f h2 (br_f h3 (br_t h4 (b _ hp))))))))))))))))
  · have h5 : fa_F nj nw ns nc nt e0 e1 i0 i1 o0 o1 sw te sz ac kn (upd ix x.toNatClampNeg (ix x.toNatClampNeg + 1)) ln pg sg sn ev qu ip op pl cd jp jo := ⟨hN, hS, hT, hZ, hL, pp_ix hP lx hlt, hC, hK, hI, hO, hE, hD⟩
    exact oo_c (q_del (s := (pg (x * 8 + ix x.toNatClampNeg).toNatClampNeg - pg (x * 8 + ix x.toNatClampNeg).toNatClampNeg / 1000 * 1000)) h5 lx hA.2) (fun _ _ _ _ _ _ _ _ _ _ _ _ _ _ _ _ _ _ _ _ _ _ _ _ _ _ _ _ _ _ _ _ _ _ _ a post hp => And.intro hin (And.intro hin (br_t hlt (And.intro hin (And.intro hc1 (nm_e (And.intro rg_n1000 (nm_e (And.intro rg_n1000 (nm_e (br_f h1 (br_f h2 (br_f h3 (br_f h4 (And.intro hin (And.intro hin (nm_e (a _ hp)))))))))))))))))) (fun _ _ _ _ _ _ _ _ _ _ _ _ _ _ _ _ _ _ _ _ _ _ _ _ _ _ _ _ _ _ _ _ _ _ _ b post hp => And.intro hin (And.intro hin (br_t hlt (And.intro hin (And.intro hc1 (And.intro rg_n1000 (nm_r hk1 (And.intro hin (And.intro hc1 (And.intro rg_n1000 (nm_r hk2 (br_f h1 (br_f h2 (br_f h3 (br_f h4 (And.intro hin (And.intro hin (nm_e (b _ hp)))))))))))))))))))
theorem q_turn {x : Int32} {j : Nat} (h : fa_F nj nw ns nc nt e0 e1 i0 i1 o0 o1 sw te sz ac kn ix ln pg sg sn ev qu ip op pl cd jp jo) (lx : fa_v sz j x) (h0 : ac x.toNatClampNeg = 0) : oo_o (fun post => wpX_turn post (nI nj, nI nw, nI ns, nI nc, nI nt, nI e0, nI e1, nI i0, nI i1, nI o0, nI o1, sw, te, ex, re, sz, la, ac, kn, ix, sp, lr, mk, ln, pg, sg, sn, ev, qu, ip, op) (nI j) x) (fun post => wpY_turn post (nI nj, nI nw, nI ns, nI nc, te, sw, ex, re, nI nt, nI i1, nI o1, sz, la, ac, kn, ix, sp, lr, mk, pl, ln, cd, sn, sg, jp, jo) (nI j) x) := by
  have hin := fv_in lx
  have ha : ac x.toNatClampNeg < 1000 := by rw [h0]; decide
  by_cases hlt : ix x.toNatClampNeg < ln x.toNatClampNeg
  · by_cases h1 : pg (x * 8 + ix x.toNatClampNeg).toNatClampNeg / 1000 = 1
    · exact q_t1 h lx hlt h1
    · by_cases h2 : pg (x * 8 + ix x.toNatClampNeg).toNatClampNeg / 1000 = 2
      · exact q_t2 h lx hlt h1 h2
      · by_cases h3 : pg (x * 8 + ix x.toNatClampNeg).toNatClampNeg / 1000 = 3
        · exact q_t3 h lx hlt h1 h2 h3
        · exact q_t4 h lx h0 hlt h1 h2 h3
  · exact oo_c (q_end (s := 0) (s' := 1000) h lx ha (by decide) (by decide)) (fun _ _ _ _ _ _ _ _ _ _ _ _ _ _ _ _ _ _ _ _ _ _ _ _ _ _ _ _ _ _ _ _ _ _ _ a post hp => And.intro hin (And.intro hin (br_f hlt (a _ hp)))) (fun _ _ _ _ _ _ _ _ _ _ _ _ _ _ _ _ _ _ _ _ _ _ _ _ _ _ _ _ _ _ _ _ _ _ _ b post hp => And.intro hin (And.intro hin (br_f hlt (b _ hp))))
end
end
section
/-! the tick's three loops -/
/-- a job's places; what is asked of the end is asked of the next job's head -/
theorem q_k12 {j : Nat} (hj : j < 8) : ∀ d k : Nat, k + d = 4 → ∀ (nj nw ns nc nt e0 e1 i0 i1 o0 o1 : Nat) (sw te ex re : Int32) (sz la ac kn ix sp lr mk ln pg sg sn ev qu ip op pl cd jp jo : Nat → Int32), fa_F nj nw ns nc nt e0 e1 i0 i1 o0 o1 sw te sz ac kn ix ln pg sg sn ev qu ip op pl cd jp jo →
    oo_o (fun q => ∀ (post : SX → Prop) (J2 : Int32 → Int32 → Int32 → Int32 → Int32 → Int32 → Int32 → Int32 → Int32 → Int32 → Int32 → Int32 → Int32 → Int32 → Int32 → Int32 → (Nat → Int32) → (Nat → Int32) → (Nat → Int32) → (Nat → Int32) → (Nat → Int32) → (Nat → Int32) → (Nat → Int32) → (Nat → Int32) → (Nat → Int32) → (Nat → Int32) → (Nat → Int32) → (Nat → Int32) → (Nat → Int32) → (Nat → Int32) → (Nat → Int32) → (Nat → Int32) → Prop), (∀ (nj nw ns nc nt e0 e1 i0 i1 o0 o1 sw te ex re : Int32) (sz la ac kn ix sp lr mk ln pg sg sn ev qu ip op : Nat → Int32), q (nj, nw, ns, nc, nt, e0, e1, i0, i1, o0, o1, sw, te, ex, re, sz, la, ac, kn, ix, sp, lr, mk, ln, pg, sg, sn, ev, qu, ip, op) → J2 (nI (j + 1)) nj nw ns nc nt e0 e1 i0 i1 o0 o1 sw te ex re sz la ac kn ix sp lr mk ln pg sg sn ev qu ip op) → wX_oneTick_12 post J2 (nI j) (d + 1) (nI k) (nI nj) (nI nw) (nI ns) (nI nc) (nI nt) (nI e0) (nI e1) (nI i0) (nI i1) (nI o0) (nI o1) sw te ex re sz la ac kn ix sp lr mk ln pg sg sn ev qu ip op)
      (fun q => ∀ (post : Int32 → SY → Prop) (J15 J22 : Int32 → Int32 → Int32 → Int32 → Int32 → Int32 → Int32 → Int32 → Int32 → Int32 → Int32 → Int32 → (Nat → Int32) → (Nat → Int32) → (Nat → Int32) → (Nat → Int32) → (Nat → Int32) → (Nat → Int32) → (Nat → Int32) → (Nat → Int32) → (Nat → Int32) → (Nat → Int32) → (Nat → Int32) → (Nat → Int32) → (Nat → Int32) → (Nat → Int32) → (Nat → Int32) → Prop) (x1 x2 : Int32), (∀ (nj nw ns nc te sw ex re nt i1 o1 : Int32) (sz la ac kn ix sp lr mk pl ln cd sn sg jp jo : Nat → Int32), q (nj, nw, ns, nc, te, sw, ex, re, nt, i1, o1, sz, la, ac, kn, ix, sp, lr, mk, pl, ln, cd, sn, sg, jp, jo) → J22 (nI (j + 1)) nj nw ns nc te sw ex re nt i1 o1 sz la ac kn ix sp lr mk pl ln cd sn sg jp jo) → wY_tick_33 post J15 J22 x1 x2 (nI j) (d + 1) (nI k) (nI nj) (nI nw) (nI ns) (nI nc) te sw ex re (nI nt) (nI i1) (nI o1) sz la ac kn ix sp lr mk pl ln cd sn sg jp jo) := by
  have hin : vp_in (nI j) 8 := vp_in_nI hj (by omega)
  have cl : (nI j).toNatClampNeg = j := nI_clamp (by omega)
  intro d
  induction d with
  | zero =>
    intro k hk nj nw ns nc nt e0 e1 i0 i1 o0 o1 sw te ex re sz la ac kn ix sp lr mk ln pg sg sn ev qu ip op pl cd jp jo h
    have c : sz (nI j).toNatClampNeg ≤ nI k := sl_z h.2.2.2.1 hj (by omega) (by omega)
    exact ⟨(nI nj, nI nw, nI ns, nI nc, nI nt, nI e0, nI e1, nI i0, nI i1, nI o0, nI o1, sw, te, ex, re, sz, la, ac, kn, ix, sp, lr, mk, ln, pg, sg, sn, ev, qu, ip, op), (nI nj, nI nw, nI ns, nI nc, te, sw, ex, re, nI nt, nI i1, nI o1, sz, la, ac, kn, ix, sp, lr, mk, pl, ln, cd, sn, sg, jp, jo), fa_in h, fun q hq post J2 hJ => And.intro hin (br_t c (nm_r (nI_1 j) (hJ _ _ _ _ _ _ _ _ _ _ _ _ _ _ _ _ _ _ _ _ _ _ _ _ _ _ _ _ _ _ _ hq))), fun q hq post J15 J22 x1 x2 hJ => And.intro hin (br_t c (nm_r (nI_1 j) (hJ _ _ _ _ _ _ _ _ _ _ _ _ _ _ _ _ _ _ _ _ _ _ _ _ _ _ hq)))⟩
  | succ d ih =>
    intro k hk nj nw ns nc nt e0 e1 i0 i1 o0 o1 sw te ex re sz la ac kn ix sp lr mk ln pg sg sn ev qu ip op pl cd jp jo h
    by_cases c : sz (nI j).toNatClampNeg ≤ nI k
    · exact ⟨(nI nj, nI nw, nI ns, nI nc, nI nt, nI e0, nI e1, nI i0, nI i1, nI o0, nI o1, sw, te, ex, re, sz, la, ac, kn, ix, sp, lr, mk, ln, pg, sg, sn, ev, qu, ip, op), (nI nj, nI nw, nI ns, nI nc, te, sw, ex, re, nI nt, nI i1, nI o1, sz, la, ac, kn, ix, sp, lr, mk, pl, ln, cd, sn, sg, jp, jo), fa_in h, fun q hq post J2 hJ => And.intro hin (br_t c (nm_r (nI_1 j) (hJ _ _ _ _ _ _ _ _ _ _ _ _ _ _ _ _ _ _ _ _ _ _ _ _ _ _ _ _ _ _ _ hq))), fun q hq post J15 J22 x1 x2 hJ => And.intro hin (br_t c (nm_r (nI_1 j) (hJ _ _ _ _ _ _ _ _ _ _ _ _ _ _ _ _ _ _ _ _ _ _ _ _ _ _ hq)))⟩
    · have lx : fa_v sz j (nI j * 4 + nI k) := sl_v hj (by omega) (by rw [cl] at c; exact c)
      have hin2 := fv_in lx
      by_cases z : ac (nI j * 4 + nI k).toNatClampNeg = 0
      · refine oo_d (q_turn (nj := nj) (nw := nw) (ns := ns) (nc := nc) (nt := nt) (e0 := e0) (e1 := e1) (i0 := i0) (i1 := i1) (o0 := o0) (o1 := o1) (sw := sw) (te := te) (ex := ex) (re := re) (sz := sz) (la := la) (ac := ac) (kn := kn) (ix := ix) (sp := sp) (lr := lr) (mk := mk) (ln := ln) (pg := pg) (sg := sg) (sn := sn) (ev := ev) (qu := qu) (ip := ip) (op := op) (pl := pl) (cd := cd) (jp := jp) (jo := jo) h lx z) ?_
        intro nj nw ns nc nt e0 e1 i0 i1 o0 o1 sw te ex re sz la ac kn ix sp lr mk ln pg sg sn ev qu ip op pl cd jp jo h x y
        exact oo_c (ih (k + 1) (by omega) nj nw ns nc nt e0 e1 i0 i1 o0 o1 sw te ex re sz la ac kn ix sp lr mk ln pg sg sn ev qu ip op pl cd jp jo h)
          (fun _ _ _ _ _ _ _ _ _ _ _ _ _ _ _ _ _ _ _ _ _ _ _ _ _ _ _ _ _ _ _ _ _ _ _ a q hq post J2 hJ => And.intro hin (br_f c (nm_e (And.intro hin2 (br_t z (x _ (nm_r (nI_1 k) (a q hq post J2 hJ))))))))
          (fun _ _ _ _ _ _ _ _ _ _ _ _ _ _ _ _ _ _ _ _ _ _ _ _ _ _ _ _ _ _ _ _ _ _ _ b q hq post J15 J22 x1 x2 hJ => And.intro hin (br_f c (And.intro hin2 (br_t z (y _ (nm_r (nI_1 k) (b q hq post J15 J22 x1 x2 hJ)))))))
      · exact oo_c (ih (k + 1) (by omega) nj nw ns nc nt e0 e1 i0 i1 o0 o1 sw te ex re sz la ac kn ix sp lr mk ln pg sg sn ev qu ip op pl cd jp jo h)
          (fun _ _ _ _ _ _ _ _ _ _ _ _ _ _ _ _ _ _ _ _ _ _ _ _ _ _ _ _ _ _ _ _ _ _ _ a q hq post J2 hJ => And.intro hin (br_f c (nm_e (And.intro hin2 (br_f z (nm_r (nI_1 k) (a q hq post J2 hJ)))))))
          (fun _ _ _ _ _ _ _ _ _ _ _ _ _ _ _ _ _ _ _ _ _ _ _ _ _ _ _ _ _ _ _ _ _ _ _ b q hq post J15 J22 x1 x2 hJ => And.intro hin (br_f c (And.intro hin2 (br_f z (nm_r (nI_1 k) (b q hq post J15 J22 x1 x2 hJ))))))
/-- the jobs -/
theorem q_k2 {t : Nat} : ∀ d j : Nat, j + d = 8 → ∀ (nj nw ns nc nt e0 e1 i0 i1 o0 o1 : Nat) (sw te ex re : Int32) (sz la ac kn ix sp lr mk ln pg sg sn ev qu ip op pl cd jp jo : Nat → Int32), fa_F nj nw ns nc nt e0 e1 i0 i1 o0 o1 sw te sz ac kn ix ln pg sg sn ev qu ip op pl cd jp jo →
    oo_o (fun post => wX_oneTick_2 post (d + 1) (nI j) (nI nj) (nI nw) (nI ns) (nI nc) (nI nt) (nI e0) (nI e1) (nI i0) (nI i1) (nI o0) (nI o1) sw te ex re sz la ac kn ix sp lr mk ln pg sg sn ev qu ip op)
      (fun q => ∀ (post : Int32 → SY → Prop) (J15 : Int32 → Int32 → Int32 → Int32 → Int32 → Int32 → Int32 → Int32 → Int32 → Int32 → Int32 → Int32 → (Nat → Int32) → (Nat → Int32) → (Nat → Int32) → (Nat → Int32) → (Nat → Int32) → (Nat → Int32) → (Nat → Int32) → (Nat → Int32) → (Nat → Int32) → (Nat → Int32) → (Nat → Int32) → (Nat → Int32) → (Nat → Int32) → (Nat → Int32) → (Nat → Int32) → Prop) (x1 : Int32), (∀ (nj nw ns nc te sw ex re nt i1 o1 : Int32) (sz la ac kn ix sp lr mk pl ln cd sn sg jp jo : Nat → Int32), q (nj, nw, ns, nc, te, sw, ex, re, nt, i1, o1, sz, la, ac, kn, ix, sp, lr, mk, pl, ln, cd, sn, sg, jp, jo) → J15 (nI (t + 1)) nj nw ns nc te sw ex re nt i1 o1 sz la ac kn ix sp lr mk pl ln cd sn sg jp jo) → wY_tick_22 post J15 x1 (nI t) (d + 1) (nI j) (nI nj) (nI nw) (nI ns) (nI nc) te sw ex re (nI nt) (nI i1) (nI o1) sz la ac kn ix sp lr mk pl ln cd sn sg jp jo) := by
  intro d
  induction d with
  | zero =>
    intro j hj nj nw ns nc nt e0 e1 i0 i1 o0 o1 sw te ex re sz la ac kn ix sp lr mk ln pg sg sn ev qu ip op pl cd jp jo h
    have hn : nj ≤ 8 := h.1.1
    have c : nI nj ≤ nI j := nI_le (by omega) (by omega)
    exact ⟨(nI nj, nI nw, nI ns, nI nc, nI nt, nI e0, nI e1, nI i0, nI i1, nI o0, nI o1, sw, te, ex, re, sz, la, ac, kn, ix, sp, lr, mk, ln, pg, sg, sn, ev, qu, ip, op), (nI nj, nI nw, nI ns, nI nc, te, sw, ex, re, nI nt, nI i1, nI o1, sz, la, ac, kn, ix, sp, lr, mk, pl, ln, cd, sn, sg, jp, jo), fa_in h, fun post hp => br_t c hp, fun q hq post J15 x1 hJ => br_t c (nm_r (nI_1 t) (hJ _ _ _ _ _ _ _ _ _ _ _ _ _ _ _ _ _ _ _ _ _ _ _ _ _ _ hq))⟩
  | succ d ih =>
    intro j hj nj nw ns nc nt e0 e1 i0 i1 o0 o1 sw te ex re sz la ac kn ix sp lr mk ln pg sg sn ev qu ip op pl cd jp jo h
    have hn : nj ≤ 8 := h.1.1
    by_cases c : nI nj ≤ nI j
    · exact ⟨(nI nj, nI nw, nI ns, nI nc, nI nt, nI e0, nI e1, nI i0, nI i1, nI o0, nI o1, sw, te, ex, re, sz, la, ac, kn, ix, sp, lr, mk, ln, pg, sg, sn, ev, qu, ip, op), (nI nj, nI nw, nI ns, nI nc, te, sw, ex, re, nI nt, nI i1, nI o1, sz, la, ac, kn, ix, sp, lr, mk, pl, ln, cd, sn, sg, jp, jo), fa_in h, fun post hp => br_t c hp, fun q hq post J15 x1 hJ => br_t c (nm_r (nI_1 t) (hJ _ _ _ _ _ _ _ _ _ _ _ _ _ _ _ _ _ _ _ _ _ _ _ _ _ _ hq))⟩
    · refine oo_d (q_k12 (j := j) (by omega) 4 0 rfl nj nw ns nc nt e0 e1 i0 i1 o0 o1 sw te ex re sz la ac kn ix sp lr mk ln pg sg sn ev qu ip op pl cd jp jo h) ?_
      intro nj nw ns nc nt e0 e1 i0 i1 o0 o1 sw te ex re sz la ac kn ix sp lr mk ln pg sg sn ev qu ip op pl cd jp jo h x y
      exact oo_c (ih (j + 1) (by omega) nj nw ns nc nt e0 e1 i0 i1 o0 o1 sw te ex re sz la ac kn ix sp lr mk ln pg sg sn ev qu ip op pl cd jp jo h)
        (fun _ _ _ _ _ _ _ _ _ _ _ _ _ _ _ _ _ _ _ _ _ _ _ _ _ _ _ _ _ _ _ _ _ _ _ a post hp => br_f c (Exists.intro 5 (x (fun u => match u with | (nj, nw, ns, nc, nt, e0, e1, i0, i1, o0, o1, sw, te, ex, re, sz, la, ac, kn, ix, sp, lr, mk, ln, pg, sg, sn, ev, qu, ip, op) => wX_oneTick_2 post (d + 1) (nI (j + 1)) nj nw ns nc nt e0 e1 i0 i1 o0 o1 sw te ex re sz la ac kn ix sp lr mk ln pg sg sn ev qu ip op) (a post hp) post _ (fun _ _ _ _ _ _ _ _ _ _ _ _ _ _ _ _ _ _ _ _ _ _ _ _ _ _ _ _ _ _ _ w => w))))
        (fun _ _ _ _ _ _ _ _ _ _ _ _ _ _ _ _ _ _ _ _ _ _ _ _ _ _ _ _ _ _ _ _ _ _ _ b q hq post J15 x1 hJ => br_f c (Exists.intro 5 (y (fun u => match u with | (nj, nw, ns, nc, te, sw, ex, re, nt, i1, o1, sz, la, ac, kn, ix, sp, lr, mk, pl, ln, cd, sn, sg, jp, jo) => wY_tick_22 post J15 x1 (nI t) (d + 1) (nI (j + 1)) nj nw ns nc te sw ex re nt i1 o1 sz la ac kn ix sp lr mk pl ln cd sn sg jp jo) (b q hq post J15 x1 hJ) post J15 _ x1 (nI t) (fun _ _ _ _ _ _ _ _ _ _ _ _ _ _ _ _ _ _ _ _ _ _ _ _ _ _ w => w))))
/-- the ticks -/
theorem q_k15 {m : Nat} (hm : m ≤ 100) : ∀ d t : Nat, t + d = m → ∀ (nj nw ns nc nt e0 e1 i0 i1 o0 o1 : Nat) (sw te ex re : Int32) (sz la ac kn ix sp lr mk ln pg sg sn ev qu ip op pl cd jp jo : Nat → Int32), fa_F nj nw ns nc nt e0 e1 i0 i1 o0 o1 sw te sz ac kn ix ln pg sg sn ev qu ip op pl cd jp jo →
    oo_o (fun q => ∀ post : Int32 → SX → Prop, (∀ (nj nw ns nc nt e0 e1 i0 i1 o0 o1 sw te ex re : Int32) (sz la ac kn ix sp lr mk ln pg sg sn ev qu ip op : Nat → Int32), q (nj, nw, ns, nc, nt, e0, e1, i0, i1, o0, o1, sw, te, ex, re, sz, la, ac, kn, ix, sp, lr, mk, ln, pg, sg, sn, ev, qu, ip, op) → post e1 (nj, nw, ns, nc, nt, e0, e1, i0, i1, o0, o1, sw, te, ex, re, sz, la, ac, kn, ix, sp, lr, mk, ln, pg, sg, sn, ev, qu, ip, op)) → wX_tick_15 post (nI m) (d + 1) (nI t) (nI nj) (nI nw) (nI ns) (nI nc) (nI nt) (nI e0) (nI e1) (nI i0) (nI i1) (nI o0) (nI o1) sw te ex re sz la ac kn ix sp lr mk ln pg sg sn ev qu ip op)
      (fun q => ∀ post : Int32 → SY → Prop, (∀ (nj nw ns nc te sw ex re nt i1 o1 : Int32) (sz la ac kn ix sp lr mk pl ln cd sn sg jp jo : Nat → Int32), q (nj, nw, ns, nc, te, sw, ex, re, nt, i1, o1, sz, la, ac, kn, ix, sp, lr, mk, pl, ln, cd, sn, sg, jp, jo) → wpY_queued (fun r => post r (nj, nw, ns, nc, te, sw, ex, re, nt, i1, o1, sz, la, ac, kn, ix, sp, lr, mk, pl, ln, cd, sn, sg, jp, jo)) (nj, nw, ns, nc, te, sw, ex, re, nt, i1, o1, sz, la, ac, kn, ix, sp, lr, mk, pl, ln, cd, sn, sg, jp, jo)) → wY_tick_15 post (nI m) (d + 1) (nI t) (nI nj) (nI nw) (nI ns) (nI nc) te sw ex re (nI nt) (nI i1) (nI o1) sz la ac kn ix sp lr mk pl ln cd sn sg jp jo) := by
  intro d
  induction d with
  | zero =>
    intro t ht nj nw ns nc nt e0 e1 i0 i1 o0 o1 sw te ex re sz la ac kn ix sp lr mk ln pg sg sn ev qu ip op pl cd jp jo h
    have c : nI m ≤ nI t := nI_le (by omega) (by omega)
    exact ⟨(nI nj, nI nw, nI ns, nI nc, nI nt, nI e0, nI e1, nI i0, nI i1, nI o0, nI o1, sw, te, ex, re, sz, la, ac, kn, ix, sp, lr, mk, ln, pg, sg, sn, ev, qu, ip, op), (nI nj, nI nw, nI ns, nI nc, te, sw, ex, re, nI nt, nI i1, nI o1, sz, la, ac, kn, ix, sp, lr, mk, pl, ln, cd, sn, sg, jp, jo), fa_in h, fun q hq post hJ => br_t c (hJ _ _ _ _ _ _ _ _ _ _ _ _ _ _ _ _ _ _ _ _ _ _ _ _ _ _ _ _ _ _ _ hq), fun q hq post hJ => br_t c (hJ _ _ _ _ _ _ _ _ _ _ _ _ _ _ _ _ _ _ _ _ _ _ _ _ _ _ hq)⟩
  | succ d ih =>
    intro t ht nj nw ns nc nt e0 e1 i0 i1 o0 o1 sw te ex re sz la ac kn ix sp lr mk ln pg sg sn ev qu ip op pl cd jp jo h
    have c : ¬ nI m ≤ nI t := nI_ge (by omega) (by omega)
    refine oo_d (q_k2 (t := t) 8 0 rfl nj nw ns nc nt e0 e1 i0 i1 o0 o1 sw te ex re sz la ac kn ix sp lr mk ln pg sg sn ev qu ip op pl cd jp jo h) ?_
    intro nj nw ns nc nt e0 e1 i0 i1 o0 o1 sw te ex re sz la ac kn ix sp lr mk ln pg sg sn ev qu ip op pl cd jp jo h x y
    exact oo_c (ih (t + 1) (by omega) nj nw ns nc nt e0 e1 i0 i1 o0 o1 sw te ex re sz la ac kn ix sp lr mk ln pg sg sn ev qu ip op pl cd jp jo h)
      (fun _ _ _ _ _ _ _ _ _ _ _ _ _ _ _ _ _ _ _ _ _ _ _ _ _ _ _ _ _ _ _ _ _ _ _ a q hq post hJ => br_f c (Exists.intro 9 (x _ (nm_r (nI_1 t) (a q hq post hJ)))))
      (fun _ _ _ _ _ _ _ _ _ _ _ _ _ _ _ _ _ _ _ _ _ _ _ _ _ _ _ _ _ _ _ _ _ _ _ b q hq post hJ => br_f c (Exists.intro 9 (y (fun u => match u with | (nj, nw, ns, nc, te, sw, ex, re, nt, i1, o1, sz, la, ac, kn, ix, sp, lr, mk, pl, ln, cd, sn, sg, jp, jo) => wY_tick_15 post (nI m) (d + 1) (nI (t + 1)) nj nw ns nc te sw ex re nt i1 o1 sz la ac kn ix sp lr mk pl ln cd sn sg jp jo) (b q hq post hJ) post _ (nI m) (fun _ _ _ _ _ _ _ _ _ _ _ _ _ _ _ _ _ _ _ _ _ _ _ _ _ _ w => w))))
theorem m_tick {nj nw ns nc nt e0 e1 i0 i1 o0 o1 : Nat} {sw te ex re : Int32} {sz la ac kn ix sp lr mk ln pg sg sn ev qu ip op pl cd jp jo : Nat → Int32} (h : fa_F nj nw ns nc nt e0 e1 i0 i1 o0 o1 sw te sz ac kn ix ln pg sg sn ev qu ip op pl cd jp jo) (v1 : Int32) : oo_r (fun post => wpX_tick post (nI nj, nI nw, nI ns, nI nc, nI nt, nI e0, nI e1, nI i0, nI i1, nI o0, nI o1, sw, te, ex, re, sz, la, ac, kn, ix, sp, lr, mk, ln, pg, sg, sn, ev, qu, ip, op) v1) (fun post => wpY_tick post (nI nj, nI nw, nI ns, nI nc, te, sw, ex, re, nI nt, nI i1, nI o1, sz, la, ac, kn, ix, sp, lr, mk, pl, ln, cd, sn, sg, jp, jo) v1) := by
  by_cases h1 : v1 < 1
  · exact ⟨-1, (nI nj, nI nw, nI ns, nI nc, nI nt, nI e0, nI e1, nI i0, nI i1, nI o0, nI o1, sw, te, ex, re, sz, la, ac, kn, ix, sp, lr, mk, ln, pg, sg, sn, ev, qu, ip, op), (nI nj, nI nw, nI ns, nI nc, te, sw, ex, re, nI nt, nI i1, nI o1, sz, la, ac, kn, ix, sp, lr, mk, pl, ln, cd, sn, sg, jp, jo), fa_in h, fun post hp => br_t h1 hp, fun post hp => br_t h1 hp⟩
  · by_cases h2 : v1 ≤ 100
    · obtain ⟨m, hm, rfl⟩ := nI_of2 (M := 100) (n := 100) (by decide) (fun z => h1 (Int32.lt_trans z (by decide))) h2
      refine oo_x (q_k15 hm m 0 (by omega) nj nw ns nc nt e0 e1 i0 i1 o0 o1 sw te ex re sz la ac kn ix sp lr mk ln pg sg sn ev qu ip op pl cd jp jo h) ?_
      intro nj nw ns nc nt e0 e1 i0 i1 o0 o1 sw te ex re sz la ac kn ix sp lr mk ln pg sg sn ev qu ip op pl cd jp jo h' x y
      have eE : cn_c pl 32 = e1 := h'.2.2.2.2.2.2.2.2.2.2.1.2.2
      exact ⟨nI e1, (nI nj, nI nw, nI ns, nI nc, nI nt, nI e0, nI e1, nI i0, nI i1, nI o0, nI o1, sw, te, ex, re, sz, la, ac, kn, ix, sp, lr, mk, ln, pg, sg, sn, ev, qu, ip, op), (nI nj, nI nw, nI ns, nI nc, te, sw, ex, re, nI nt, nI i1, nI o1, sz, la, ac, kn, ix, sp, lr, mk, pl, ln, cd, sn, sg, jp, jo), fa_in h',
        fun post hp => br_f h1 (br_t h2 (Exists.intro (m + 1) (x (fun u => match u with | (nj, nw, ns, nc, nt, e0, e1, i0, i1, o0, o1, sw, te, ex, re, sz, la, ac, kn, ix, sp, lr, mk, ln, pg, sg, sn, ev, qu, ip, op) => post e1 (nj, nw, ns, nc, nt, e0, e1, i0, i1, o0, o1, sw, te, ex, re, sz, la, ac, kn, ix, sp, lr, mk, ln, pg, sg, sn, ev, qu, ip, op)) hp post (fun _ _ _ _ _ _ _ _ _ _ _ _ _ _ _ _ _ _ _ _ _ _ _ _ _ _ _ _ _ _ _ w => w)))),
        fun post hp => br_f h1 (br_t h2 (Exists.intro (m + 1) (y (fun u => match u with | (nj, nw, ns, nc, te, sw, ex, re, nt, i1, o1, sz, la, ac, kn, ix, sp, lr, mk, pl, ln, cd, sn, sg, jp, jo) => wpY_queued (fun r => post r (nj, nw, ns, nc, te, sw, ex, re, nt, i1, o1, sz, la, ac, kn, ix, sp, lr, mk, pl, ln, cd, sn, sg, jp, jo)) (nj, nw, ns, nc, te, sw, ex, re, nt, i1, o1, sz, la, ac, kn, ix, sp, lr, mk, pl, ln, cd, sn, sg, jp, jo)) (q_qd (by rw [eE]; exact hp)) post (fun _ _ _ _ _ _ _ _ _ _ _ _ _ _ _ _ _ _ _ _ _ _ _ _ _ _ w => w))))⟩
    · exact ⟨-1, (nI nj, nI nw, nI ns, nI nc, nI nt, nI e0, nI e1, nI i0, nI i1, nI o0, nI o1, sw, te, ex, re, sz, la, ac, kn, ix, sp, lr, mk, ln, pg, sg, sn, ev, qu, ip, op), (nI nj, nI nw, nI ns, nI nc, te, sw, ex, re, nI nt, nI i1, nI o1, sz, la, ac, kn, ix, sp, lr, mk, pl, ln, cd, sn, sg, jp, jo), fa_in h, fun post hp => br_f h1 (br_f h2 hp), fun post hp => br_f h1 (br_f h2 hp)⟩
theorem i_vc_tick {k : Nat} {u : SX} {v : SY} (I : i_Rel k u v) (hk : k + 4 ≤ 2052) (v1 : Int32) : wpX_tick (fun r u' => wpY_tick (fun r' v' => r' = r ∧ i_Rel (k + 4) u' v') v v1) u v1 :=
  I (fun u v => wpX_tick (fun r u' => wpY_tick (fun r' v' => r' = r ∧ i_Rel (k + 4) u' v') v v1) u v1) (fun nj nw ns nc nt e0 e1 i0 i1 o0 o1 sw te ex re sz la ac kn ix sp lr mk ln pg sg sn ev qu ip op pl cd jp jo h => oo_f (m_tick h v1))
end
section
/-! the small methods -/
theorem ne_f {f c : Nat} (h : f ≠ c) (hf : f < 1000) (hc : c < 1000) : ¬ nI f = nI c := by
  rw [nI_eq (by omega) (by omega)]; exact h
theorem m1_n {t : Nat} (ht : t < 8) : ¬ nI t = -1 := by
  intro z
  have h0 : ¬ nI t < 0 := nI_pos (by omega)
  rw [z] at h0
  exact h0 (by decide)
section
variable {nj nw ns nc nt e0 e1 i0 i1 o0 o1 : Nat} {sw te ex re : Int32} {sz la ac kn ix sp lr mk ln pg sg sn ev qu ip op pl cd jp jo : Nat → Int32}
theorem m_pipe (h : fa_F nj nw ns nc nt e0 e1 i0 i1 o0 o1 sw te sz ac kn ix ln pg sg sn ev qu ip op pl cd jp jo) : oo_r (fun post => wpX_pipe post (nI nj, nI nw, nI ns, nI nc, nI nt, nI e0, nI e1, nI i0, nI i1, nI o0, nI o1, sw, te, ex, re, sz, la, ac, kn, ix, sp, lr, mk, ln, pg, sg, sn, ev, qu, ip, op)) (fun post => wpY_pipe post (nI nj, nI nw, nI ns, nI nc, te, sw, ex, re, nI nt, nI i1, nI o1, sz, la, ac, kn, ix, sp, lr, mk, pl, ln, cd, sn, sg, jp, jo)) := by
  by_cases c : nI nt < nI nw
  · have h' := h
    obtain ⟨hN, hS, hT, hZ, hL, hP, hC, hK, hI, hO, hE, hD⟩ := h'
    have hN' := hN
    unfold fa_N at hN'
    have c' := c
    rw [nI_ltI (by omega) (by omega)] at c'
    have hin : vp_in (nI nt) 4 := vp_in_nI (by omega) (by omega)
    have e : upd sn (nI nt).toNatClampNeg 0 = upd sn nt 0 := by rw [nI_clamp (by omega)]
    have hL' : fa_L ns (upd sn nt 0) := by
      intro g hg
      by_cases e : g = nt
      · subst e; exact ⟨0, by omega, pk_us⟩
      · rw [pk_un e]; exact hL g hg
    exact ⟨0, (nI nj, nI nw, nI ns, nI nc, nI (nt + 1), nI e0, nI e1, nI i0, nI i1, nI o0, nI o1, sw, te, ex, re, sz, la, ac, kn, ix, sp, lr, mk, ln, pg, sg, upd sn nt 0, ev, qu, ip, op), (nI nj, nI nw, nI ns, nI nc, te, sw, ex, re, nI (nt + 1), nI i1, nI o1, sz, la, ac, kn, ix, sp, lr, mk, pl, ln, cd, upd sn nt 0, sg, jp, jo), fa_in (show fa_F nj nw ns nc (nt + 1) e0 e1 i0 i1 o0 o1 sw te sz ac kn ix ln pg sg (upd sn nt 0) ev qu ip op pl cd jp jo from ⟨by unfold fa_N; omega, hS, hT, hZ, hL', hP, hC, hK, hI, hO, hE, hD⟩),
      fun post hp => br_t c (And.intro hin (nm_r e (nm_r (nI_1 nt) hp))), fun post hp => br_t c (And.intro hin (nm_r e (nm_r (nI_1 nt) hp)))⟩
  · exact ⟨-3, (nI nj, nI nw, nI ns, nI nc, nI nt, nI e0, nI e1, nI i0, nI i1, nI o0, nI o1, sw, te, ex, re, sz, la, ac, kn, ix, sp, lr, mk, ln, pg, sg, sn, ev, qu, ip, op), (nI nj, nI nw, nI ns, nI nc, te, sw, ex, re, nI nt, nI i1, nI o1, sz, la, ac, kn, ix, sp, lr, mk, pl, ln, cd, sn, sg, jp, jo), fa_in h, fun post hp => br_f c hp, fun post hp => br_f c hp⟩
/-- which instructions both sides take -/
theorem q_al (v1 v2 : Int32) :
    ((∀ post : Int32 → Prop, post 0 → wpX_argumentAllowed post (nI nj, nI nw, nI ns, nI nc, nI nt, nI e0, nI e1, nI i0, nI i1, nI o0, nI o1, sw, te, ex, re, sz, la, ac, kn, ix, sp, lr, mk, ln, pg, sg, sn, ev, qu, ip, op) v1 v2) ∧ (∀ post : Int32 → SY → Prop, post (-1) (nI nj, nI nw, nI ns, nI nc, te, sw, ex, re, nI nt, nI i1, nI o1, sz, la, ac, kn, ix, sp, lr, mk, pl, ln, cd, sn, sg, jp, jo) → wpY_add post (nI nj, nI nw, nI ns, nI nc, te, sw, ex, re, nI nt, nI i1, nI o1, sz, la, ac, kn, ix, sp, lr, mk, pl, ln, cd, sn, sg, jp, jo) v1 v2)) ∨
    (fa_k (v1 * 1000 + v2) ∧ (∀ post : Int32 → Prop, post 1 → wpX_argumentAllowed post (nI nj, nI nw, nI ns, nI nc, nI nt, nI e0, nI e1, nI i0, nI i1, nI o0, nI o1, sw, te, ex, re, sz, la, ac, kn, ix, sp, lr, mk, ln, pg, sg, sn, ev, qu, ip, op) v1 v2) ∧ (∀ post : Int32 → SY → Prop, wY_add_88 post v1 v2 (nI nj) (nI nw) (nI ns) (nI nc) te sw ex re (nI nt) (nI i1) (nI o1) sz la ac kn ix sp lr mk pl ln cd sn sg jp jo → wpY_add post (nI nj, nI nw, nI ns, nI nc, te, sw, ex, re, nI nt, nI i1, nI o1, sz, la, ac, kn, ix, sp, lr, mk, pl, ln, cd, sn, sg, jp, jo) v1 v2)) := by
  by_cases h1 : v1 < 1
  · exact Or.inl ⟨fun _ hp => br_t h1 hp, fun _ hp => br_t h1 hp⟩
  · by_cases h5 : 5 < v1
    · exact Or.inl ⟨fun _ hp => br_f h1 (br_t h5 hp), fun _ hp => br_f h1 (br_f (Int32.not_le.mpr h5) hp)⟩
    · have h5' : v1 ≤ 5 := Int32.not_lt.mp h5
      obtain ⟨a, ha, ea⟩ := nI_of2 (M := 5) (n := 5) (by decide) (fun z => h1 (Int32.lt_trans z (by decide))) h5'
      have ha0 : a ≠ 0 := by
        intro z; subst z; subst ea; exact h1 (by decide)
      have hv : ∀ b : Nat, b ≤ 255 → v2 = nI b → fa_k (v1 * 1000 + v2) := by
        intro b hb e; rw [ea, e]; exact kd_mk ha hb
      have cs : a = 1 ∨ a = 2 ∨ a = 3 ∨ a = 4 ∨ a = 5 := by omega
      rcases cs with e | e | e | e | e
      · subst e
        have n1 : v1 = 1 := ea
        have n2 : ¬ v1 = 2 := by rw [n1]; decide
        have n3 : ¬ v1 = 3 := by rw [n1]; decide
        have n4 : ¬ v1 = 4 := by rw [n1]; decide
        have n5 : ¬ v1 = 5 := by rw [n1]; decide
        by_cases g : v2 < 1
        · exact Or.inl ⟨fun _ hp => br_f h1 (br_f h5 (br_t n1 (br_t g hp))), fun _ hp => br_f h1 (br_t h5' (br_t n1 (br_t g hp)))⟩
        · by_cases g2 : 100 < v2
          · exact Or.inl ⟨fun _ hp => br_f h1 (br_f h5 (br_t n1 (br_f g (br_t g2 hp)))), fun _ hp => br_f h1 (br_t h5' (br_t n1 (br_f g (br_f (Int32.not_le.mpr g2) hp))))⟩
          · have g2' : v2 ≤ 100 := Int32.not_lt.mp g2
            obtain ⟨b, hb, eb⟩ := nI_of2 (M := 100) (n := 100) (by decide) (fun z => g (Int32.lt_trans z (by decide))) g2'
            exact Or.inr ⟨hv b (by omega) eb, fun _ hp => br_f h1 (br_f h5 (br_t n1 (br_f g (br_f g2 hp)))), fun _ hp => br_f h1 (br_t h5' (br_t n1 (br_f g (br_t g2' (br_f n2 (br_f n3 (br_f n4 (br_f n5 hp))))))))⟩
      · subst e
        have n2 : v1 = 2 := ea
        have n1 : ¬ v1 = 1 := by rw [n2]; decide
        have n3 : ¬ v1 = 3 := by rw [n2]; decide
        have n4 : ¬ v1 = 4 := by rw [n2]; decide
        have n5 : ¬ v1 = 5 := by rw [n2]; decide
        by_cases g : v2 = 0
        · exact Or.inr ⟨hv 0 (by omega) g, fun _ hp => br_f h1 (br_f h5 (br_f n1 (br_t n2 (br_t g hp)))), fun _ hp => br_f h1 (br_t h5' (br_f n1 (br_t n2 (br_t g (br_f n3 (br_f n4 (br_f n5 hp)))))))⟩
        · exact Or.inl ⟨fun _ hp => br_f h1 (br_f h5 (br_f n1 (br_t n2 (br_f g hp)))), fun _ hp => br_f h1 (br_t h5' (br_f n1 (br_t n2 (br_f g hp))))⟩
      · subst e
        have n3 : v1 = 3 := ea
        have n1 : ¬ v1 = 1 := by rw [n3]; decide
        have n2 : ¬ v1 = 2 := by rw [n3]; decide
        have n5 : ¬ v1 = 5 := by rw [n3]; decide
        by_cases g : v2 < 0
        · exact Or.inl ⟨fun _ hp => br_f h1 (br_f h5 (br_f n1 (br_f n2 (br_t n3 (br_t g hp))))), fun _ hp => br_f h1 (br_t h5' (br_f n1 (br_f n2 (br_t n3 (br_t g hp)))))⟩
        · by_cases g2 : 255 < v2
          · exact Or.inl ⟨fun _ hp => br_f h1 (br_f h5 (br_f n1 (br_f n2 (br_t n3 (br_f g (br_t g2 hp)))))), fun _ hp => br_f h1 (br_t h5' (br_f n1 (br_f n2 (br_t n3 (br_f g (br_f (Int32.not_le.mpr g2) hp))))))⟩
          · have g2' : v2 ≤ 255 := Int32.not_lt.mp g2
            obtain ⟨b, hb, eb⟩ := nI_of2 (M := 255) (n := 255) (by decide) g g2'
            exact Or.inr ⟨hv b (by omega) eb, fun _ hp => br_f h1 (br_f h5 (br_f n1 (br_f n2 (br_t n3 (br_f g (br_f g2 hp)))))), fun _ hp => br_f h1 (br_t h5' (br_f n1 (br_f n2 (br_t n3 (br_f g (br_t g2' (br_f n5 hp)))))))⟩
      · subst e
        have n4 : v1 = 4 := ea
        have n1 : ¬ v1 = 1 := by rw [n4]; decide
        have n2 : ¬ v1 = 2 := by rw [n4]; decide
        have n3 : ¬ v1 = 3 := by rw [n4]; decide
        have n5 : ¬ v1 = 5 := by rw [n4]; decide
        by_cases g : v2 < 0
        · exact Or.inl ⟨fun _ hp => br_f h1 (br_f h5 (br_f n1 (br_f n2 (br_f n3 (br_t n4 (br_t g hp)))))), fun _ hp => br_f h1 (br_t h5' (br_f n1 (br_f n2 (br_f n3 (br_t n4 (br_t g hp))))))⟩
        · by_cases g2 : 255 < v2
          · exact Or.inl ⟨fun _ hp => br_f h1 (br_f h5 (br_f n1 (br_f n2 (br_f n3 (br_t n4 (br_f g (br_t g2 hp))))))), fun _ hp => br_f h1 (br_t h5' (br_f n1 (br_f n2 (br_f n3 (br_t n4 (br_f g (br_f (Int32.not_le.mpr g2) hp)))))))⟩
          · have g2' : v2 ≤ 255 := Int32.not_lt.mp g2
            obtain ⟨b, hb, eb⟩ := nI_of2 (M := 255) (n := 255) (by decide) g g2'
            exact Or.inr ⟨hv b (by omega) eb, fun _ hp => br_f h1 (br_f h5 (br_f n1 (br_f n2 (br_f n3 (br_t n4 (br_f g (br_f g2 hp))))))), fun _ hp => br_f h1 (br_t h5' (br_f n1 (br_f n2 (br_f n3 (br_t n4 (br_f g (br_t g2' (br_f n5 hp))))))))⟩
      · subst e
        have n5 : v1 = 5 := ea
        have n1 : ¬ v1 = 1 := by rw [n5]; decide
        have n2 : ¬ v1 = 2 := by rw [n5]; decide
        have n3 : ¬ v1 = 3 := by rw [n5]; decide
        have n4 : ¬ v1 = 4 := by rw [n5]; decide
        by_cases g : v2 = 2
        · exact Or.inr ⟨hv 2 (by omega) g, fun _ hp => br_f h1 (br_f h5 (br_f n1 (br_f n2 (br_f n3 (br_f n4 (br_t n5 (br_t g hp))))))), fun _ hp => br_f h1 (br_t h5' (br_f n1 (br_f n2 (br_f n3 (br_f n4 (br_t n5 (br_t g hp)))))))⟩
        · by_cases g2 : v2 = 9
          · exact Or.inr ⟨hv 9 (by omega) g2, fun _ hp => br_f h1 (br_f h5 (br_f n1 (br_f n2 (br_f n3 (br_f n4 (br_t n5 (br_f g (br_t g2 hp)))))))), fun _ hp => br_f h1 (br_t h5' (br_f n1 (br_f n2 (br_f n3 (br_f n4 (br_t n5 (br_f g (br_t g2 hp))))))))⟩
          · by_cases g3 : v2 = 20
            · exact Or.inr ⟨hv 20 (by omega) g3, fun _ hp => br_f h1 (br_f h5 (br_f n1 (br_f n2 (br_f n3 (br_f n4 (br_t n5 (br_f g (br_f g2 (br_t g3 hp))))))))), fun _ hp => br_f h1 (br_t h5' (br_f n1 (br_f n2 (br_f n3 (br_f n4 (br_t n5 (br_f g (br_f g2 (br_t g3 hp)))))))))⟩
            · exact Or.inl ⟨fun _ hp => br_f h1 (br_f h5 (br_f n1 (br_f n2 (br_f n3 (br_f n4 (br_t n5 (br_f g (br_f g2 (br_f g3 hp))))))))), fun _ hp => br_f h1 (br_t h5' (br_f n1 (br_f n2 (br_f n3 (br_f n4 (br_t n5 (br_f g (br_f g2 (br_f g3 hp)))))))))⟩
theorem m_add (h : fa_F nj nw ns nc nt e0 e1 i0 i1 o0 o1 sw te sz ac kn ix ln pg sg sn ev qu ip op pl cd jp jo) (v1 v2 : Int32) : oo_r (fun post => wpX_add post (nI nj, nI nw, nI ns, nI nc, nI nt, nI e0, nI e1, nI i0, nI i1, nI o0, nI o1, sw, te, ex, re, sz, la, ac, kn, ix, sp, lr, mk, ln, pg, sg, sn, ev, qu, ip, op) v1 v2) (fun post => wpY_add post (nI nj, nI nw, nI ns, nI nc, te, sw, ex, re, nI nt, nI i1, nI o1, sz, la, ac, kn, ix, sp, lr, mk, pl, ln, cd, sn, sg, jp, jo) v1 v2) := by
  rcases q_al (nj := nj) (nw := nw) (ns := ns) (nc := nc) (nt := nt) (e0 := e0) (e1 := e1) (i0 := i0) (i1 := i1) (o0 := o0) (o1 := o1) (sw := sw) (te := te) (ex := ex) (re := re) (sz := sz) (la := la) (ac := ac) (kn := kn) (ix := ix) (sp := sp) (lr := lr) (mk := mk) (ln := ln) (pg := pg) (sg := sg) (sn := sn) (ev := ev) (qu := qu) (ip := ip) (op := op) (pl := pl) (cd := cd) (jp := jp) (jo := jo) v1 v2 with ⟨a, b⟩ | ⟨hk, a, b⟩
  · exact ⟨-1, (nI nj, nI nw, nI ns, nI nc, nI nt, nI e0, nI e1, nI i0, nI i1, nI o0, nI o1, sw, te, ex, re, sz, la, ac, kn, ix, sp, lr, mk, ln, pg, sg, sn, ev, qu, ip, op), (nI nj, nI nw, nI ns, nI nc, te, sw, ex, re, nI nt, nI i1, nI o1, sz, la, ac, kn, ix, sp, lr, mk, pl, ln, cd, sn, sg, jp, jo), fa_in h, fun post hp => by unfold wpX_add; exact a _ (br_t rfl hp), fun post hp => b post hp⟩
  · have h' := h
    obtain ⟨hN, hS, hT, hZ, hL, hP, hC, hK, hI, hO, hE, hD⟩ := h'
    have hN' := hN
    unfold fa_N at hN'
    obtain ⟨t, rfl⟩ : ∃ t, nt = t + 1 := ⟨nt - 1, by omega⟩
    have n10 : ¬ (1 : Int32) = 0 := by decide
    have hin : vp_in (nI t) 4 := vp_in_nI (by omega) (by omega)
    have cl : (nI t).toNatClampNeg = t := nI_clamp (by omega)
    obtain ⟨m, hm, em⟩ := hL t (by omega)
    by_cases c : sn (nI t).toNatClampNeg < nI ns
    · have c' := c
      rw [cl, em, nI_ltI (by omega) (by omega)] at c'
      have ei : nI t * 8 + sn (nI t).toNatClampNeg = nI (t * 8 + m) := by
        rw [cl, em, ← nI_add, ← pk_mul]; rfl
      have hin2 : vp_in (nI t * 8 + sn (nI t).toNatClampNeg) 32 := by rw [ei]; exact vp_in_nI (by omega) (by omega)
      have f1 : upd sg (nI t * 8 + sn (nI t).toNatClampNeg).toNatClampNeg (v1 * 1000 + v2) = upd sg (t * 8 + m) (v1 * 1000 + v2) := by rw [ei, nI_clamp (by omega)]
      have f2 : upd sn (nI t).toNatClampNeg (sn (nI t).toNatClampNeg + 1) = upd sn t (nI (m + 1)) := by rw [cl, em, nI_1]
      have hK' : fa_K pg (upd sg (t * 8 + m) (v1 * 1000 + v2)) := by
        refine ⟨hK.1, fun i => ?_⟩
        by_cases e : i = t * 8 + m
        · rw [e, pk_us]; exact hk
        · rw [pk_un e]; exact hK.2 i
      have hL' : fa_L ns (upd sn t (nI (m + 1))) := by
        intro g hg
        by_cases e : g = t
        · subst e; exact ⟨m + 1, by omega, pk_us⟩
        · rw [pk_un e]; exact hL g hg
      exact ⟨0, (nI nj, nI nw, nI ns, nI nc, nI (t + 1), nI e0, nI e1, nI i0, nI i1, nI o0, nI o1, sw, te, ex, re, sz, la, ac, kn, ix, sp, lr, mk, ln, pg, upd sg (t * 8 + m) (v1 * 1000 + v2), upd sn t (nI (m + 1)), ev, qu, ip, op), (nI nj, nI nw, nI ns, nI nc, te, sw, ex, re, nI (t + 1), nI i1, nI o1, sz, la, ac, kn, ix, sp, lr, mk, pl, ln, cd, upd sn t (nI (m + 1)), upd sg (t * 8 + m) (v1 * 1000 + v2), jp, jo),
        fa_in (show fa_F nj nw ns nc (t + 1) e0 e1 i0 i1 o0 o1 sw te sz ac kn ix ln pg (upd sg (t * 8 + m) (v1 * 1000 + v2)) (upd sn t (nI (m + 1))) ev qu ip op pl cd jp jo from ⟨hN, hS, hT, hZ, hL', hP, hC, hK', hI, hO, hE, hD⟩),
        fun post hp => by unfold wpX_add; exact a _ (br_f n10 (nm_r (nI_pred t) (And.intro hin (br_t c (And.intro hin (And.intro hin2 (nm_r f1 (And.intro hin (And.intro hin (nm_r f2 hp)))))))))),
        fun post hp => b _ (nm_r (nI_pred t) (And.intro hin (br_t c (And.intro hin (And.intro hin2 (nm_r f1 (And.intro hin (And.intro hin (nm_r f2 hp)))))))))⟩
    · exact ⟨-3, (nI nj, nI nw, nI ns, nI nc, nI (t + 1), nI e0, nI e1, nI i0, nI i1, nI o0, nI o1, sw, te, ex, re, sz, la, ac, kn, ix, sp, lr, mk, ln, pg, sg, sn, ev, qu, ip, op), (nI nj, nI nw, nI ns, nI nc, te, sw, ex, re, nI (t + 1), nI i1, nI o1, sz, la, ac, kn, ix, sp, lr, mk, pl, ln, cd, sn, sg, jp, jo), fa_in h, fun post hp => by unfold wpX_add; exact a _ (br_f n10 (nm_r (nI_pred t) (And.intro hin (br_f c hp)))), fun post hp => b _ (nm_r (nI_pred t) (And.intro hin (br_f c hp)))⟩
/-- Y's shift of the output -/
theorem q_so {post : Int32 → SY → Prop} {x : Int32} {c : Nat} (hc : c < 16) (hp : post x (nI nj, nI nw, nI ns, nI nc, te, sw, ex, re, nI nt, nI i1, nI c, sz, la, ac, kn, ix, sp, lr, mk, pl, ln, cd, sn, sg, jp, rg_sf (c + 1) jo)) :
    ∀ d k : Nat, k + d = c → wY_takeOutput_19 post x (nI nj) (nI nw) (nI ns) (nI nc) te sw ex re (nI nt) (nI i1) (nI (c + 1)) (d + 1) (nI (k + 1)) sz la ac kn ix sp lr mk pl ln cd sn sg jp (rg_sf (k + 1) jo) := by
  intro d
  induction d with
  | zero =>
    intro k hk
    have e : k = c := by omega
    subst e
    exact br_t (nI_le (by omega) (by omega)) (nm_r (nI_pred k) hp)
  | succ d ih =>
    intro k hk
    have e : upd (rg_sf (k + 1) jo) (nI (k + 1) - 1).toNatClampNeg (rg_sf (k + 1) jo (nI (k + 1)).toNatClampNeg) = rg_sf (k + 2) jo := by
      rw [nI_pred, nI_clamp (by omega), nI_clamp (by omega)]; exact sf_s k jo
    exact br_f (nI_ge (by omega) (by omega)) (And.intro (vp_in_nI (by omega) (by omega)) (And.intro (by rw [nI_pred]; exact vp_in_nI (by omega) (by omega)) (nm_r e (nm_r (nI_1 (k + 1)) (ih (k + 1) (by omega))))))
theorem q_so0 {post : Int32 → SY → Prop} {x : Int32} {c : Nat} (hc : c < 16) (hp : post x (nI nj, nI nw, nI ns, nI nc, te, sw, ex, re, nI nt, nI i1, nI c, sz, la, ac, kn, ix, sp, lr, mk, pl, ln, cd, sn, sg, jp, rg_sf (c + 1) jo)) :
    wY_takeOutput_19 post x (nI nj) (nI nw) (nI ns) (nI nc) te sw ex re (nI nt) (nI i1) (nI (c + 1)) (c + 1) 1 sz la ac kn ix sp lr mk pl ln cd sn sg jp jo := by
  have h := q_so hc hp c 0 (by omega)
  rw [sf_1 jo] at h
  exact h
theorem m_takeOutput (h : fa_F nj nw ns nc nt e0 e1 i0 i1 o0 o1 sw te sz ac kn ix ln pg sg sn ev qu ip op pl cd jp jo) : oo_r (fun post => wpX_takeOutput post (nI nj, nI nw, nI ns, nI nc, nI nt, nI e0, nI e1, nI i0, nI i1, nI o0, nI o1, sw, te, ex, re, sz, la, ac, kn, ix, sp, lr, mk, ln, pg, sg, sn, ev, qu, ip, op)) (fun post => wpY_takeOutput post (nI nj, nI nw, nI ns, nI nc, te, sw, ex, re, nI nt, nI i1, nI o1, sz, la, ac, kn, ix, sp, lr, mk, pl, ln, cd, sn, sg, jp, jo)) := by
  cases o1 with
  | zero => exact ⟨-4, (nI nj, nI nw, nI ns, nI nc, nI nt, nI e0, nI e1, nI i0, nI i1, nI o0, nI 0, sw, te, ex, re, sz, la, ac, kn, ix, sp, lr, mk, ln, pg, sg, sn, ev, qu, ip, op), (nI nj, nI nw, nI ns, nI nc, te, sw, ex, re, nI nt, nI i1, nI 0, sz, la, ac, kn, ix, sp, lr, mk, pl, ln, cd, sn, sg, jp, jo), fa_in h, fun post hp => br_t nI_0 hp, fun post hp => br_t nI_0 hp⟩
  | succ m =>
    have h' := h
    obtain ⟨hN, hS, hT, hZ, hL, hP, hC, hK, hI, hO, hE, hD⟩ := h'
    have hN' := hN
    unfold fa_N at hN'
    have c : ¬ nI (m + 1) = 0 := nI_ne0 (by omega) (by omega)
    have eL : op (nI o0).toNatClampNeg = jo 0 := by rw [nI_clamp (by omega), rg_fst (by omega) hO]
    exact ⟨jo 0, (nI nj, nI nw, nI ns, nI nc, nI nt, nI e0, nI e1, nI i0, nI i1, nI ((o0 + 1) % 16), nI m, sw, te, ex, re, sz, la, ac, kn, ix, sp, lr, mk, ln, pg, sg, sn, ev, qu, ip, op), (nI nj, nI nw, nI ns, nI nc, te, sw, ex, re, nI nt, nI i1, nI m, sz, la, ac, kn, ix, sp, lr, mk, pl, ln, cd, sn, sg, jp, rg_sf (m + 1) jo),
      fa_in (show fa_F nj nw ns nc nt e0 e1 i0 i1 ((o0 + 1) % 16) m sw te sz ac kn ix ln pg sg sn ev qu ip op pl cd jp (rg_sf (m + 1) jo) from ⟨by unfold fa_N; omega, hS, hT, hZ, hL, hP, hC, hK, hI, rg_pop hO, hE, hD⟩),
      fun post hp => br_f c (And.intro (vp_in_nI (by omega) (by omega)) (nm_r eL (And.intro rg_n16 (nm_r (rg_161 (by omega)) (nm_r (nI_pred m) hp))))),
      fun post hp => br_f c (nm_e (Exists.intro (m + 1) (q_so0 (by omega) hp)))⟩
theorem m_key25 (h : fa_F nj nw ns nc nt e0 e1 i0 i1 o0 o1 sw te sz ac kn ix ln pg sg sn ev qu ip op pl cd jp jo) (v1 : Int32) : oo_r (fun post => wX_key_25 post v1 (nI nj) (nI nw) (nI ns) (nI nc) (nI nt) (nI e0) (nI e1) (nI i0) (nI i1) (nI o0) (nI o1) sw te ex re sz la ac kn ix sp lr mk ln pg sg sn ev qu ip op) (fun post => wY_key_25 post v1 (nI nj) (nI nw) (nI ns) (nI nc) te sw ex re (nI nt) (nI i1) (nI o1) sz la ac kn ix sp lr mk pl ln cd sn sg jp jo) := by
  rcases h.2.2.1 with e | ⟨t, ht, e⟩
  · have l : te < 0 := by rw [e]; decide
    exact ⟨0, (nI nj, nI nw, nI ns, nI nc, nI nt, nI e0, nI e1, nI i0, nI i1, nI o0, nI o1, sw, te, ex, re, sz, la, ac, kn, ix, sp, lr, mk, ln, pg, sg, sn, ev, qu, ip, op), (nI nj, nI nw, nI ns, nI nc, te, sw, ex, re, nI nt, nI i1, nI o1, sz, la, ac, kn, ix, sp, lr, mk, pl, ln, cd, sn, sg, jp, jo), fa_in h, fun post hp => br_t l hp, fun post hp => br_t e hp⟩
  · subst e
    have l : ¬ nI t < 0 := nI_pos (by omega)
    have l2 : ¬ nI t = -1 := m1_n ht
    by_cases c : v1 = 3
    · refine oo_x (q_dj (nj := nj) (nw := nw) (ns := ns) (nc := nc) (nt := nt) (e0 := e0) (e1 := e1) (i0 := i0) (i1 := i1) (o0 := o0) (o1 := o1) (sw := sw) (te := nI t) (ex := ex) (re := re) (sz := sz) (la := la) (ac := ac) (kn := kn) (ix := ix) (sp := sp) (lr := lr) (mk := mk) (ln := ln) (pg := pg) (sg := sg) (sn := sn) (ev := ev) (qu := qu) (ip := ip) (op := op) (pl := pl) (cd := cd) (jp := jp) (jo := jo) (s := 2) h ht (by decide)) ?_
      intro nj nw ns nc nt e0 e1 i0 i1 o0 o1 sw tE ex re sz la ac kn ix sp lr mk ln pg sg sn ev qu ip op pl cd jp jo h' x y
      exact ⟨0, (nI nj, nI nw, nI ns, nI nc, nI nt, nI e0, nI e1, nI i0, nI i1, nI o0, nI o1, sw, tE, ex, re, sz, la, ac, kn, ix, sp, lr, mk, ln, pg, sg, sn, ev, qu, ip, op), (nI nj, nI nw, nI ns, nI nc, tE, sw, ex, re, nI nt, nI i1, nI o1, sz, la, ac, kn, ix, sp, lr, mk, pl, ln, cd, sn, sg, jp, jo), fa_in h', fun post hp => br_f l (br_t c (x _ hp)), fun post hp => br_f l2 (br_t c (y _ hp))⟩
    · refine oo_x (q_dj (nj := nj) (nw := nw) (ns := ns) (nc := nc) (nt := nt) (e0 := e0) (e1 := e1) (i0 := i0) (i1 := i1) (o0 := o0) (o1 := o1) (sw := sw) (te := nI t) (ex := ex) (re := re) (sz := sz) (la := la) (ac := ac) (kn := kn) (ix := ix) (sp := sp) (lr := lr) (mk := mk) (ln := ln) (pg := pg) (sg := sg) (sn := sn) (ev := ev) (qu := qu) (ip := ip) (op := op) (pl := pl) (cd := cd) (jp := jp) (jo := jo) (s := 20) h ht (by decide)) ?_
      intro nj nw ns nc nt e0 e1 i0 i1 o0 o1 sw tE ex re sz la ac kn ix sp lr mk ln pg sg sn ev qu ip op pl cd jp jo h' x y
      exact ⟨0, (nI nj, nI nw, nI ns, nI nc, nI nt, nI e0, nI e1, nI i0, nI i1, nI o0, nI o1, sw, tE, ex, re, sz, la, ac, kn, ix, sp, lr, mk, ln, pg, sg, sn, ev, qu, ip, op), (nI nj, nI nw, nI ns, nI nc, tE, sw, ex, re, nI nt, nI i1, nI o1, sz, la, ac, kn, ix, sp, lr, mk, pl, ln, cd, sn, sg, jp, jo), fa_in h', fun post hp => br_f l (br_f c (x _ hp)), fun post hp => br_f l2 (br_f c (y _ hp))⟩
theorem m_key (h : fa_F nj nw ns nc nt e0 e1 i0 i1 o0 o1 sw te sz ac kn ix ln pg sg sn ev qu ip op pl cd jp jo) (v1 : Int32) : oo_r (fun post => wpX_key post (nI nj, nI nw, nI ns, nI nc, nI nt, nI e0, nI e1, nI i0, nI i1, nI o0, nI o1, sw, te, ex, re, sz, la, ac, kn, ix, sp, lr, mk, ln, pg, sg, sn, ev, qu, ip, op) v1) (fun post => wpY_key post (nI nj, nI nw, nI ns, nI nc, te, sw, ex, re, nI nt, nI i1, nI o1, sz, la, ac, kn, ix, sp, lr, mk, pl, ln, cd, sn, sg, jp, jo) v1) := by
  by_cases h1 : v1 < 1
  · exact ⟨-1, (nI nj, nI nw, nI ns, nI nc, nI nt, nI e0, nI e1, nI i0, nI i1, nI o0, nI o1, sw, te, ex, re, sz, la, ac, kn, ix, sp, lr, mk, ln, pg, sg, sn, ev, qu, ip, op), (nI nj, nI nw, nI ns, nI nc, te, sw, ex, re, nI nt, nI i1, nI o1, sz, la, ac, kn, ix, sp, lr, mk, pl, ln, cd, sn, sg, jp, jo), fa_in h, fun post hp => br_t h1 hp, fun post hp => br_t h1 hp⟩
  · by_cases h2 : v1 ≤ 255
    · by_cases h3 : v1 = 3
      · obtain ⟨r, u, v, R, x, y⟩ := m_key25 (nj := nj) (nw := nw) (ns := ns) (nc := nc) (nt := nt) (e0 := e0) (e1 := e1) (i0 := i0) (i1 := i1) (o0 := o0) (o1 := o1) (sw := sw) (te := te) (ex := ex) (re := re) (sz := sz) (la := la) (ac := ac) (kn := kn) (ix := ix) (sp := sp) (lr := lr) (mk := mk) (ln := ln) (pg := pg) (sg := sg) (sn := sn) (ev := ev) (qu := qu) (ip := ip) (op := op) (pl := pl) (cd := cd) (jp := jp) (jo := jo) h v1
        exact ⟨r, u, v, R, fun post hp => br_f h1 (br_t h2 (br_t h3 (x post hp))), fun post hp => br_f h1 (br_t h2 (br_t h3 (y post hp)))⟩
      · by_cases h26 : v1 = 26
        · obtain ⟨r, u, v, R, x, y⟩ := m_key25 (nj := nj) (nw := nw) (ns := ns) (nc := nc) (nt := nt) (e0 := e0) (e1 := e1) (i0 := i0) (i1 := i1) (o0 := o0) (o1 := o1) (sw := sw) (te := te) (ex := ex) (re := re) (sz := sz) (la := la) (ac := ac) (kn := kn) (ix := ix) (sp := sp) (lr := lr) (mk := mk) (ln := ln) (pg := pg) (sg := sg) (sn := sn) (ev := ev) (qu := qu) (ip := ip) (op := op) (pl := pl) (cd := cd) (jp := jp) (jo := jo) h v1
          exact ⟨r, u, v, R, fun post hp => br_f h1 (br_t h2 (br_f h3 (br_t h26 (x post hp)))), fun post hp => br_f h1 (br_t h2 (br_f h3 (br_t h26 (y post hp))))⟩
        · by_cases c : nI i1 < nI nc
          · have h' := h
            obtain ⟨hN, hS, hT, hZ, hL, hP, hC, hK, hI, hO, hE, hD⟩ := h'
            have hN' := hN
            unfold fa_N at hN'
            have c' := c
            rw [nI_ltI (by omega) (by omega)] at c'
            have er := rg_16 (a := i0) (b := i1) (by omega) (by omega)
            exact ⟨0, (nI nj, nI nw, nI ns, nI nc, nI nt, nI e0, nI e1, nI i0, nI (i1 + 1), nI o0, nI o1, sw, te, ex, re, sz, la, ac, kn, ix, sp, lr, mk, ln, pg, sg, sn, ev, qu, upd ip ((i0 + i1) % 16) v1, op), (nI nj, nI nw, nI ns, nI nc, te, sw, ex, re, nI nt, nI (i1 + 1), nI o1, sz, la, ac, kn, ix, sp, lr, mk, pl, ln, cd, sn, sg, upd jp i1 v1, jo),
              fa_in (show fa_F nj nw ns nc nt e0 e1 i0 (i1 + 1) o0 o1 sw te sz ac kn ix ln pg sg sn ev qu (upd ip ((i0 + i1) % 16) v1) op pl cd (upd jp i1 v1) jo from ⟨by unfold fa_N; omega, hS, hT, hZ, hL, hP, hC, hK, rg_push v1 (by omega) hI, hO, hE, hD⟩),
              fun post hp => br_f h1 (br_t h2 (br_f h3 (br_f h26 (br_t c (And.intro rg_n16 (And.intro (by rw [er]; exact vp_in_nI (by omega) (by omega)) (nm_r (e' := upd ip ((i0 + i1) % 16) v1) (by rw [er, nI_clamp (by omega)]) (nm_r (nI_1 i1) hp)))))))),
              fun post hp => br_f h1 (br_t h2 (br_f h3 (br_f h26 (br_t c (And.intro (vp_in_nI (by omega) (by omega)) (nm_r (e' := upd jp i1 v1) (by rw [nI_clamp (by omega)]) (nm_r (nI_1 i1) hp)))))))⟩
          · exact ⟨-3, (nI nj, nI nw, nI ns, nI nc, nI nt, nI e0, nI e1, nI i0, nI i1, nI o0, nI o1, sw, te, ex, re, sz, la, ac, kn, ix, sp, lr, mk, ln, pg, sg, sn, ev, qu, ip, op), (nI nj, nI nw, nI ns, nI nc, te, sw, ex, re, nI nt, nI i1, nI o1, sz, la, ac, kn, ix, sp, lr, mk, pl, ln, cd, sn, sg, jp, jo), fa_in h, fun post hp => br_f h1 (br_t h2 (br_f h3 (br_f h26 (br_f c hp)))), fun post hp => br_f h1 (br_t h2 (br_f h3 (br_f h26 (br_f c hp))))⟩
    · exact ⟨-1, (nI nj, nI nw, nI ns, nI nc, nI nt, nI e0, nI e1, nI i0, nI i1, nI o0, nI o1, sw, te, ex, re, sz, la, ac, kn, ix, sp, lr, mk, ln, pg, sg, sn, ev, qu, ip, op), (nI nj, nI nw, nI ns, nI nc, te, sw, ex, re, nI nt, nI i1, nI o1, sz, la, ac, kn, ix, sp, lr, mk, pl, ln, cd, sn, sg, jp, jo), fa_in h, fun post hp => br_f h1 (br_f h2 hp), fun post hp => br_f h1 (br_f h2 hp)⟩
end
end
section
/-! signal, resume, foreground, background, report -/
section
variable {nj nw ns nc nt e0 e1 i0 i1 o0 o1 : Nat} {sw te ex re : Int32} {sz la ac kn ix sp lr mk ln pg sg sn ev qu ip op pl cd jp jo : Nat → Int32}
/-- the count of the living: one number, then the delivery -/
theorem q_sg {j : Nat} {s : Int32} (hj : j < 8) (hz : fa_Z sz) : ∀ (d k : Nat) (x3 : Int32), k + d = 4 → ∃ r : Int32,
    (∀ post : Int32 → SX → Prop, wpX_deliverToJob (fun u => match u with | (nj, nw, ns, nc, nt, e0, e1, i0, i1, o0, o1, sw, te, ex, re, sz, la, ac, kn, ix, sp, lr, mk, ln, pg, sg, sn, ev, qu, ip, op) => post r (nj, nw, ns, nc, nt, e0, e1, i0, i1, o0, o1, sw, te, ex, re, sz, la, ac, kn, ix, sp, lr, mk, ln, pg, sg, sn, ev, qu, ip, op)) (nI nj, nI nw, nI ns, nI nc, nI nt, nI e0, nI e1, nI i0, nI i1, nI o0, nI o1, sw, te, ex, re, sz, la, ac, kn, ix, sp, lr, mk, ln, pg, sg, sn, ev, qu, ip, op) (nI j) s → wX_signal_41 post (nI j) s (nI nj) (nI nw) (nI ns) (nI nc) (nI nt) (nI e0) (nI e1) (nI i0) (nI i1) (nI o0) (nI o1) sw te ex re sz la ac kn ix sp lr mk ln pg sg sn ev qu ip op (d + 1) x3 (nI k)) ∧
    (∀ post : Int32 → SY → Prop, wpY_deliverJob (fun u => match u with | (nj, nw, ns, nc, te, sw, ex, re, nt, i1, o1, sz, la, ac, kn, ix, sp, lr, mk, pl, ln, cd, sn, sg, jp, jo) => post r (nj, nw, ns, nc, te, sw, ex, re, nt, i1, o1, sz, la, ac, kn, ix, sp, lr, mk, pl, ln, cd, sn, sg, jp, jo)) (nI nj, nI nw, nI ns, nI nc, te, sw, ex, re, nI nt, nI i1, nI o1, sz, la, ac, kn, ix, sp, lr, mk, pl, ln, cd, sn, sg, jp, jo) (nI j) s → wY_signal_41 post (nI j) s (nI nj) (nI nw) (nI ns) (nI nc) te sw ex re (nI nt) (nI i1) (nI o1) sz la ac kn ix sp lr mk pl ln cd sn sg jp jo (d + 1) x3 (nI k)) := by
  have hin : vp_in (nI j) 8 := vp_in_nI hj (by omega)
  intro d
  induction d with
  | zero =>
    intro k x3 hk
    have c : sz (nI j).toNatClampNeg ≤ nI k := sl_z hz hj (by omega) (by omega)
    exact ⟨x3, fun post hp => And.intro hin (br_t c hp), fun post hp => And.intro hin (br_t c hp)⟩
  | succ d ih =>
    intro k x3 hk
    by_cases c : sz (nI j).toNatClampNeg ≤ nI k
    · exact ⟨x3, fun post hp => And.intro hin (br_t c hp), fun post hp => And.intro hin (br_t c hp)⟩
    · have hin2 : vp_in (nI j * 4 + nI k) 32 := sl_in hj (by omega)
      by_cases w : 1000 ≤ ac (nI j * 4 + nI k).toNatClampNeg
      · obtain ⟨r, x, y⟩ := ih (k + 1) x3 (by omega)
        exact ⟨r, fun post hp => And.intro hin (br_f c (And.intro hin2 (br_t w (nm_r (nI_1 k) (x post hp))))), fun post hp => And.intro hin (br_f c (And.intro hin2 (br_t w (nm_r (nI_1 k) (y post hp)))))⟩
      · obtain ⟨r, x, y⟩ := ih (k + 1) (x3 + 1) (by omega)
        exact ⟨r, fun post hp => And.intro hin (br_f c (And.intro hin2 (br_f w (nm_e (nm_r (nI_1 k) (x post hp)))))), fun post hp => And.intro hin (br_f c (And.intro hin2 (br_f w (nm_e (nm_r (nI_1 k) (y post hp))))))⟩
theorem m_sg25 (h : fa_F nj nw ns nc nt e0 e1 i0 i1 o0 o1 sw te sz ac kn ix ln pg sg sn ev qu ip op pl cd jp jo) (v1 v2 : Int32) (hs : 300 + v2 < 1000) : oo_r (fun post => wX_signal_25 post v1 v2 (nI nj) (nI nw) (nI ns) (nI nc) (nI nt) (nI e0) (nI e1) (nI i0) (nI i1) (nI o0) (nI o1) sw te ex re sz la ac kn ix sp lr mk ln pg sg sn ev qu ip op) (fun post => wY_signal_25 post v1 v2 (nI nj) (nI nw) (nI ns) (nI nc) te sw ex re (nI nt) (nI i1) (nI o1) sz la ac kn ix sp lr mk pl ln cd sn sg jp jo) := by
  rcases q_job (nj := nj) (nw := nw) (ns := ns) (nc := nc) (nt := nt) (e0 := e0) (e1 := e1) (i0 := i0) (i1 := i1) (o0 := o0) (o1 := o1) (sw := sw) (te := te) (ex := ex) (re := re) (sz := sz) (la := la) (ac := ac) (kn := kn) (ix := ix) (sp := sp) (lr := lr) (mk := mk) (ln := ln) (pg := pg) (sg := sg) (sn := sn) (ev := ev) (qu := qu) (ip := ip) (op := op) (pl := pl) (cd := cd) (jp := jp) (jo := jo) v1 h.1.1 with ⟨a, b⟩ | ⟨j, hj, rfl, hl, hn, a, b⟩
  · exact ⟨-4, (nI nj, nI nw, nI ns, nI nc, nI nt, nI e0, nI e1, nI i0, nI i1, nI o0, nI o1, sw, te, ex, re, sz, la, ac, kn, ix, sp, lr, mk, ln, pg, sg, sn, ev, qu, ip, op), (nI nj, nI nw, nI ns, nI nc, te, sw, ex, re, nI nt, nI i1, nI o1, sz, la, ac, kn, ix, sp, lr, mk, pl, ln, cd, sn, sg, jp, jo), fa_in h, fun post hp => a _ (br_t rfl hp), fun post hp => b _ (br_t rfl hp)⟩
  · have n10 : ¬ (1 : Int32) = 0 := by decide
    obtain ⟨r, f, g⟩ := q_sg (nj := nj) (nw := nw) (ns := ns) (nc := nc) (nt := nt) (e0 := e0) (e1 := e1) (i0 := i0) (i1 := i1) (o0 := o0) (o1 := o1) (sw := sw) (te := te) (ex := ex) (re := re) (sz := sz) (la := la) (ac := ac) (kn := kn) (ix := ix) (sp := sp) (lr := lr) (mk := mk) (ln := ln) (pg := pg) (sg := sg) (sn := sn) (ev := ev) (qu := qu) (ip := ip) (op := op) (pl := pl) (cd := cd) (jp := jp) (jo := jo) (s := v2) hj h.2.2.2.1 4 0 0 rfl
    refine oo_x (q_dj (nj := nj) (nw := nw) (ns := ns) (nc := nc) (nt := nt) (e0 := e0) (e1 := e1) (i0 := i0) (i1 := i1) (o0 := o0) (o1 := o1) (sw := sw) (te := te) (ex := ex) (re := re) (sz := sz) (la := la) (ac := ac) (kn := kn) (ix := ix) (sp := sp) (lr := lr) (mk := mk) (ln := ln) (pg := pg) (sg := sg) (sn := sn) (ev := ev) (qu := qu) (ip := ip) (op := op) (pl := pl) (cd := cd) (jp := jp) (jo := jo) h hj hs) ?_
    intro nj nw ns nc nt e0 e1 i0 i1 o0 o1 sw te ex re sz la ac kn ix sp lr mk ln pg sg sn ev qu ip op pl cd jp jo h' x y
    exact ⟨r, (nI nj, nI nw, nI ns, nI nc, nI nt, nI e0, nI e1, nI i0, nI i1, nI o0, nI o1, sw, te, ex, re, sz, la, ac, kn, ix, sp, lr, mk, ln, pg, sg, sn, ev, qu, ip, op), (nI nj, nI nw, nI ns, nI nc, te, sw, ex, re, nI nt, nI i1, nI o1, sz, la, ac, kn, ix, sp, lr, mk, pl, ln, cd, sn, sg, jp, jo), fa_in h', fun post hp => a _ (br_f n10 (Exists.intro 5 (f post (x _ hp)))), fun post hp => b _ (br_f n10 (Exists.intro 5 (g post (y _ hp))))⟩
theorem m_signal (h : fa_F nj nw ns nc nt e0 e1 i0 i1 o0 o1 sw te sz ac kn ix ln pg sg sn ev qu ip op pl cd jp jo) (v1 v2 : Int32) : oo_r (fun post => wpX_signal post (nI nj, nI nw, nI ns, nI nc, nI nt, nI e0, nI e1, nI i0, nI i1, nI o0, nI o1, sw, te, ex, re, sz, la, ac, kn, ix, sp, lr, mk, ln, pg, sg, sn, ev, qu, ip, op) v1 v2) (fun post => wpY_signal post (nI nj, nI nw, nI ns, nI nc, te, sw, ex, re, nI nt, nI i1, nI o1, sz, la, ac, kn, ix, sp, lr, mk, pl, ln, cd, sn, sg, jp, jo) v1 v2) := by
  by_cases h2 : v2 = 2
  · obtain ⟨r, u, v, R, x, y⟩ := m_sg25 (nj := nj) (nw := nw) (ns := ns) (nc := nc) (nt := nt) (e0 := e0) (e1 := e1) (i0 := i0) (i1 := i1) (o0 := o0) (o1 := o1) (sw := sw) (te := te) (ex := ex) (re := re) (sz := sz) (la := la) (ac := ac) (kn := kn) (ix := ix) (sp := sp) (lr := lr) (mk := mk) (ln := ln) (pg := pg) (sg := sg) (sn := sn) (ev := ev) (qu := qu) (ip := ip) (op := op) (pl := pl) (cd := cd) (jp := jp) (jo := jo) h v1 v2 (by rw [h2]; decide)
    exact ⟨r, u, v, R, fun post hp => br_t h2 (x post hp), fun post hp => br_t h2 (y post hp)⟩
  · by_cases h9 : v2 = 9
    · obtain ⟨r, u, v, R, x, y⟩ := m_sg25 (nj := nj) (nw := nw) (ns := ns) (nc := nc) (nt := nt) (e0 := e0) (e1 := e1) (i0 := i0) (i1 := i1) (o0 := o0) (o1 := o1) (sw := sw) (te := te) (ex := ex) (re := re) (sz := sz) (la := la) (ac := ac) (kn := kn) (ix := ix) (sp := sp) (lr := lr) (mk := mk) (ln := ln) (pg := pg) (sg := sg) (sn := sn) (ev := ev) (qu := qu) (ip := ip) (op := op) (pl := pl) (cd := cd) (jp := jp) (jo := jo) h v1 v2 (by rw [h9]; decide)
      exact ⟨r, u, v, R, fun post hp => br_f h2 (br_t h9 (x post hp)), fun post hp => br_f h2 (br_t h9 (y post hp))⟩
    · by_cases h18 : v2 = 18
      · obtain ⟨r, u, v, R, x, y⟩ := m_sg25 (nj := nj) (nw := nw) (ns := ns) (nc := nc) (nt := nt) (e0 := e0) (e1 := e1) (i0 := i0) (i1 := i1) (o0 := o0) (o1 := o1) (sw := sw) (te := te) (ex := ex) (re := re) (sz := sz) (la := la) (ac := ac) (kn := kn) (ix := ix) (sp := sp) (lr := lr) (mk := mk) (ln := ln) (pg := pg) (sg := sg) (sn := sn) (ev := ev) (qu := qu) (ip := ip) (op := op) (pl := pl) (cd := cd) (jp := jp) (jo := jo) h v1 v2 (by rw [h18]; decide)
        exact ⟨r, u, v, R, fun post hp => br_f h2 (br_f h9 (br_t h18 (x post hp))), fun post hp => br_f h2 (br_f h9 (br_t h18 (y post hp)))⟩
      · by_cases h20 : v2 = 20
        · obtain ⟨r, u, v, R, x, y⟩ := m_sg25 (nj := nj) (nw := nw) (ns := ns) (nc := nc) (nt := nt) (e0 := e0) (e1 := e1) (i0 := i0) (i1 := i1) (o0 := o0) (o1 := o1) (sw := sw) (te := te) (ex := ex) (re := re) (sz := sz) (la := la) (ac := ac) (kn := kn) (ix := ix) (sp := sp) (lr := lr) (mk := mk) (ln := ln) (pg := pg) (sg := sg) (sn := sn) (ev := ev) (qu := qu) (ip := ip) (op := op) (pl := pl) (cd := cd) (jp := jp) (jo := jo) h v1 v2 (by rw [h20]; decide)
          exact ⟨r, u, v, R, fun post hp => br_f h2 (br_f h9 (br_f h18 (br_t h20 (x post hp)))), fun post hp => br_f h2 (br_f h9 (br_f h18 (br_t h20 (y post hp))))⟩
        · exact ⟨-1, (nI nj, nI nw, nI ns, nI nc, nI nt, nI e0, nI e1, nI i0, nI i1, nI o0, nI o1, sw, te, ex, re, sz, la, ac, kn, ix, sp, lr, mk, ln, pg, sg, sn, ev, qu, ip, op), (nI nj, nI nw, nI ns, nI nc, te, sw, ex, re, nI nt, nI i1, nI o1, sz, la, ac, kn, ix, sp, lr, mk, pl, ln, cd, sn, sg, jp, jo), fa_in h, fun post hp => br_f h2 (br_f h9 (br_f h18 (br_f h20 hp))), fun post hp => br_f h2 (br_f h9 (br_f h18 (br_f h20 hp)))⟩
end
theorem dd_kn {sz ac kn pl : Nat → Int32} (h : fa_D sz ac kn pl) (p : Nat) : fa_D sz ac (upd kn p 0) pl := by
  refine ⟨fun q hq hk => ?_, h.2⟩
  by_cases e : q = p
  · rw [e, pk_us] at hk; exact absurd (by decide) hk
  · rw [pk_un e] at hk; exact h.1 q hq hk
theorem rs_c {sz : Nat → Int32} {j k : Nat} (hz : fa_Z sz) (hj : j < 8) (hk : k ≤ 4) : (nI j * 4 + sz (nI j).toNatClampNeg ≤ nI (j * 4 + k)) ↔ sz (nI j).toNatClampNeg ≤ nI k := by
  obtain ⟨s, hs, e⟩ := hz j hj
  rw [nI_clamp (by omega), e, sl_e, nI_leI (by omega) (by omega), nI_leI (by omega) (by omega)]
  omega
/-- resume's loop, then the delivery of CONT -/
theorem q_rs {j : Nat} (hj : j < 8) : ∀ d k : Nat, k + d = 4 → ∀ (nj nw ns nc nt e0 e1 i0 i1 o0 o1 : Nat) (sw te ex re : Int32) (sz la ac kn ix sp lr mk ln pg sg sn ev qu ip op pl cd jp jo : Nat → Int32), fa_F nj nw ns nc nt e0 e1 i0 i1 o0 o1 sw te sz ac kn ix ln pg sg sn ev qu ip op pl cd jp jo →
    oo_o (fun post => wX_resume_9 post (nI j) (nI nj) (nI nw) (nI ns) (nI nc) (nI nt) (nI e0) (nI e1) (nI i0) (nI i1) (nI o0) (nI o1) sw te ex re (d + 1) (nI k) sz la ac kn ix sp lr mk ln pg sg sn ev qu ip op) (fun post => wY_resume_11 post (nI j) (nI nj) (nI nw) (nI ns) (nI nc) te sw ex re (nI nt) (nI i1) (nI o1) (d + 1) (nI (j * 4 + k)) sz la ac kn ix sp lr mk pl ln cd sn sg jp jo) := by
  have hin : vp_in (nI j) 8 := vp_in_nI hj (by omega)
  intro d
  induction d with
  | zero =>
    intro k hk nj nw ns nc nt e0 e1 i0 i1 o0 o1 sw te ex re sz la ac kn ix sp lr mk ln pg sg sn ev qu ip op pl cd jp jo h
    have c : sz (nI j).toNatClampNeg ≤ nI k := sl_z h.2.2.2.1 hj (by omega) (by omega)
    have c2 := (rs_c h.2.2.2.1 hj (by omega)).mpr c
    exact oo_c (q_dj (s := 18) h hj (by decide)) (fun _ _ _ _ _ _ _ _ _ _ _ _ _ _ _ _ _ _ _ _ _ _ _ _ _ _ _ _ _ _ _ _ _ _ _ a post hp => And.intro hin (br_t c (a _ hp))) (fun _ _ _ _ _ _ _ _ _ _ _ _ _ _ _ _ _ _ _ _ _ _ _ _ _ _ _ _ _ _ _ _ _ _ _ b post hp => And.intro hin (br_t c2 (b _ hp)))
  | succ d ih =>
    intro k hk nj nw ns nc nt e0 e1 i0 i1 o0 o1 sw te ex re sz la ac kn ix sp lr mk ln pg sg sn ev qu ip op pl cd jp jo h
    by_cases c : sz (nI j).toNatClampNeg ≤ nI k
    · have c2 := (rs_c h.2.2.2.1 hj (by omega)).mpr c
      exact oo_c (q_dj (s := 18) h hj (by decide)) (fun _ _ _ _ _ _ _ _ _ _ _ _ _ _ _ _ _ _ _ _ _ _ _ _ _ _ _ _ _ _ _ _ _ _ _ a post hp => And.intro hin (br_t c (a _ hp))) (fun _ _ _ _ _ _ _ _ _ _ _ _ _ _ _ _ _ _ _ _ _ _ _ _ _ _ _ _ _ _ _ _ _ _ _ b post hp => And.intro hin (br_t c2 (b _ hp)))
    · have c2 : ¬ nI j * 4 + sz (nI j).toNatClampNeg ≤ nI (j * 4 + k) := fun z => c ((rs_c h.2.2.2.1 hj (by omega)).mp z)
      have hin2 : vp_in (nI (j * 4 + k)) 32 := vp_in_nI (by omega) (by omega)
      have cl : (nI (j * 4 + k)).toNatClampNeg = j * 4 + k := nI_clamp (by omega)
      by_cases w : 1000 ≤ kn (nI (j * 4 + k)).toNatClampNeg
      · exact oo_c (ih (k + 1) (by omega) nj nw ns nc nt e0 e1 i0 i1 o0 o1 sw te ex re sz la ac kn ix sp lr mk ln pg sg sn ev qu ip op pl cd jp jo h) (fun _ _ _ _ _ _ _ _ _ _ _ _ _ _ _ _ _ _ _ _ _ _ _ _ _ _ _ _ _ _ _ _ _ _ _ a post hp => And.intro hin (br_f c (nm_r (sl_e j k) (And.intro hin2 (br_t w (nm_r (nI_1 k) (a post hp)))))))
          (fun _ _ _ _ _ _ _ _ _ _ _ _ _ _ _ _ _ _ _ _ _ _ _ _ _ _ _ _ _ _ _ _ _ _ _ b post hp => And.intro hin (br_f c2 (And.intro hin2 (br_t w (nm_r (nI_1 (j * 4 + k)) (b post hp))))))
      · have h' := h
        obtain ⟨hN, hS, hT, hZ, hL, hP, hC, hK, hI, hO, hE, hD⟩ := h'
        have h5 : fa_F nj nw ns nc nt e0 e1 i0 i1 o0 o1 sw te sz ac (upd kn (j * 4 + k) 0) ix ln pg sg sn ev qu ip op pl cd jp jo := ⟨hN, hS, hT, hZ, hL, hP, hC, hK, hI, hO, hE, dd_kn hD _⟩
        have e : upd kn (nI (j * 4 + k)).toNatClampNeg 0 = upd kn (j * 4 + k) 0 := by rw [cl]
        exact oo_c (ih (k + 1) (by omega) nj nw ns nc nt e0 e1 i0 i1 o0 o1 sw te ex re sz la ac (upd kn (j * 4 + k) 0) ix sp lr mk ln pg sg sn ev qu ip op pl cd jp jo h5) (fun _ _ _ _ _ _ _ _ _ _ _ _ _ _ _ _ _ _ _ _ _ _ _ _ _ _ _ _ _ _ _ _ _ _ _ a post hp => And.intro hin (br_f c (nm_r (sl_e j k) (And.intro hin2 (br_f w (And.intro hin2 (nm_r e (nm_r (nI_1 k) (a post hp)))))))))
          (fun _ _ _ _ _ _ _ _ _ _ _ _ _ _ _ _ _ _ _ _ _ _ _ _ _ _ _ _ _ _ _ _ _ _ _ b post hp => And.intro hin (br_f c2 (And.intro hin2 (br_f w (And.intro hin2 (nm_r e (nm_r (nI_1 (j * 4 + k)) (b post hp))))))))
section
variable {nj nw ns nc nt e0 e1 i0 i1 o0 o1 : Nat} {sw te ex re : Int32} {sz la ac kn ix sp lr mk ln pg sg sn ev qu ip op pl cd jp jo : Nat → Int32}
theorem q_res {j : Nat} (h : fa_F nj nw ns nc nt e0 e1 i0 i1 o0 o1 sw te sz ac kn ix ln pg sg sn ev qu ip op pl cd jp jo) (hj : j < 8) : oo_o (fun post => wpX_resume post (nI nj, nI nw, nI ns, nI nc, nI nt, nI e0, nI e1, nI i0, nI i1, nI o0, nI o1, sw, te, ex, re, sz, la, ac, kn, ix, sp, lr, mk, ln, pg, sg, sn, ev, qu, ip, op) (nI j)) (fun post => wpY_resume post (nI nj, nI nw, nI ns, nI nc, te, sw, ex, re, nI nt, nI i1, nI o1, sz, la, ac, kn, ix, sp, lr, mk, pl, ln, cd, sn, sg, jp, jo) (nI j)) := by
  have hin : vp_in (nI j) 8 := vp_in_nI hj (by omega)
  have e : upd la (nI j).toNatClampNeg 1 = upd la j 1 := by rw [nI_clamp (by omega)]
  have e4 : nI j * 4 = nI (j * 4 + 0) := pk_mul j 4
  exact oo_c (q_rs hj 4 0 rfl nj nw ns nc nt e0 e1 i0 i1 o0 o1 sw te ex re sz (upd la j 1) ac kn ix sp lr mk ln pg sg sn ev qu ip op pl cd jp jo h) (fun _ _ _ _ _ _ _ _ _ _ _ _ _ _ _ _ _ _ _ _ _ _ _ _ _ _ _ _ _ _ _ _ _ _ _ a post hp => And.intro hin (nm_r e (Exists.intro 5 (a post hp)))) (fun _ _ _ _ _ _ _ _ _ _ _ _ _ _ _ _ _ _ _ _ _ _ _ _ _ _ _ _ _ _ _ _ _ _ _ b post hp => And.intro hin (nm_r e (nm_r e4 (Exists.intro 5 (b post hp)))))
theorem m_foreground (h : fa_F nj nw ns nc nt e0 e1 i0 i1 o0 o1 sw te sz ac kn ix ln pg sg sn ev qu ip op pl cd jp jo) (v1 : Int32) : oo_r (fun post => wpX_foreground post (nI nj, nI nw, nI ns, nI nc, nI nt, nI e0, nI e1, nI i0, nI i1, nI o0, nI o1, sw, te, ex, re, sz, la, ac, kn, ix, sp, lr, mk, ln, pg, sg, sn, ev, qu, ip, op) v1) (fun post => wpY_foreground post (nI nj, nI nw, nI ns, nI nc, te, sw, ex, re, nI nt, nI i1, nI o1, sz, la, ac, kn, ix, sp, lr, mk, pl, ln, cd, sn, sg, jp, jo) v1) := by
  have n4 : ¬ (-4 : Int32) = 0 := by decide
  have n2 : ¬ (-2 : Int32) = 0 := by decide
  have n10 : ¬ (1 : Int32) = 0 := by decide
  by_cases ht : te = -1
  · rcases q_job (nj := nj) (nw := nw) (ns := ns) (nc := nc) (nt := nt) (e0 := e0) (e1 := e1) (i0 := i0) (i1 := i1) (o0 := o0) (o1 := o1) (sw := sw) (te := te) (ex := ex) (re := re) (sz := sz) (la := la) (ac := ac) (kn := kn) (ix := ix) (sp := sp) (lr := lr) (mk := mk) (ln := ln) (pg := pg) (sg := sg) (sn := sn) (ev := ev) (qu := qu) (ip := ip) (op := op) (pl := pl) (cd := cd) (jp := jp) (jo := jo) v1 h.1.1 with ⟨a, b⟩ | ⟨j, hj, rfl, hl, hn, a, b⟩
    · exact ⟨-4, (nI nj, nI nw, nI ns, nI nc, nI nt, nI e0, nI e1, nI i0, nI i1, nI o0, nI o1, sw, te, ex, re, sz, la, ac, kn, ix, sp, lr, mk, ln, pg, sg, sn, ev, qu, ip, op), (nI nj, nI nw, nI ns, nI nc, te, sw, ex, re, nI nt, nI i1, nI o1, sz, la, ac, kn, ix, sp, lr, mk, pl, ln, cd, sn, sg, jp, jo), fa_in h, fun post hp => br_t ht (a _ (br_t rfl (br_f n4 hp))), fun post hp => br_t ht (b _ (br_t rfl hp))⟩
    · obtain ⟨r, f, g, _⟩ := q_st (nj := nj) (nw := nw) (ns := ns) (nc := nc) (nt := nt) (e0 := e0) (e1 := e1) (i0 := i0) (i1 := i1) (o0 := o0) (o1 := o1) (sw := sw) (te := te) (ex := ex) (re := re) (sz := sz) (la := la) (ac := ac) (kn := kn) (ix := ix) (sp := sp) (lr := lr) (mk := mk) (ln := ln) (pg := pg) (sg := sg) (sn := sn) (ev := ev) (qu := qu) (ip := ip) (op := op) (pl := pl) (cd := cd) (jp := jp) (jo := jo) hj h.2.2.2.1
      by_cases h3 : r = 3
      · exact ⟨-4, (nI nj, nI nw, nI ns, nI nc, nI nt, nI e0, nI e1, nI i0, nI i1, nI o0, nI o1, sw, te, ex, re, sz, la, ac, kn, ix, sp, lr, mk, ln, pg, sg, sn, ev, qu, ip, op), (nI nj, nI nw, nI ns, nI nc, te, sw, ex, re, nI nt, nI i1, nI o1, sz, la, ac, kn, ix, sp, lr, mk, pl, ln, cd, sn, sg, jp, jo), fa_in h, fun post hp => br_t ht (a _ (br_f n10 (f _ (br_t h3 (br_f n4 hp))))), fun post hp => br_t ht (b _ (br_f n10 (g _ (br_t h3 hp))))⟩
      · have h' := h
        obtain ⟨hN, hS, hT, hZ, hL, hP, hC, hK, hI, hO, hE, hD⟩ := h'
        have h5 : fa_F nj nw ns nc nt e0 e1 i0 i1 o0 o1 sw (nI j) sz ac kn ix ln pg sg sn ev qu ip op pl cd jp jo := ⟨hN, hS, Or.inr ⟨j, hj, rfl⟩, hZ, hL, hP, hC, hK, hI, hO, hE, hD⟩
        refine oo_x (q_res (nj := nj) (nw := nw) (ns := ns) (nc := nc) (nt := nt) (e0 := e0) (e1 := e1) (i0 := i0) (i1 := i1) (o0 := o0) (o1 := o1) (sw := sw) (te := nI j) (ex := ex) (re := re) (sz := sz) (la := la) (ac := ac) (kn := kn) (ix := ix) (sp := sp) (lr := lr) (mk := mk) (ln := ln) (pg := pg) (sg := sg) (sn := sn) (ev := ev) (qu := qu) (ip := ip) (op := op) (pl := pl) (cd := cd) (jp := jp) (jo := jo) h5 hj) ?_
        intro nj nw ns nc nt e0 e1 i0 i1 o0 o1 sw te ex re sz la ac kn ix sp lr mk ln pg sg sn ev qu ip op pl cd jp jo h' x y
        exact ⟨0, (nI nj, nI nw, nI ns, nI nc, nI nt, nI e0, nI e1, nI i0, nI i1, nI o0, nI o1, sw, te, ex, re, sz, la, ac, kn, ix, sp, lr, mk, ln, pg, sg, sn, ev, qu, ip, op), (nI nj, nI nw, nI ns, nI nc, te, sw, ex, re, nI nt, nI i1, nI o1, sz, la, ac, kn, ix, sp, lr, mk, pl, ln, cd, sn, sg, jp, jo), fa_in h', fun post hp => br_t ht (a _ (br_f n10 (f _ (br_f h3 (br_t rfl (x _ hp)))))), fun post hp => br_t ht (b _ (br_f n10 (g _ (br_f h3 (y _ hp)))))⟩
  · exact ⟨-2, (nI nj, nI nw, nI ns, nI nc, nI nt, nI e0, nI e1, nI i0, nI i1, nI o0, nI o1, sw, te, ex, re, sz, la, ac, kn, ix, sp, lr, mk, ln, pg, sg, sn, ev, qu, ip, op), (nI nj, nI nw, nI ns, nI nc, te, sw, ex, re, nI nt, nI i1, nI o1, sz, la, ac, kn, ix, sp, lr, mk, pl, ln, cd, sn, sg, jp, jo), fa_in h, fun post hp => br_f ht (br_f n2 hp), fun post hp => br_f ht hp⟩
theorem m_background (h : fa_F nj nw ns nc nt e0 e1 i0 i1 o0 o1 sw te sz ac kn ix ln pg sg sn ev qu ip op pl cd jp jo) (v1 : Int32) : oo_r (fun post => wpX_background post (nI nj, nI nw, nI ns, nI nc, nI nt, nI e0, nI e1, nI i0, nI i1, nI o0, nI o1, sw, te, ex, re, sz, la, ac, kn, ix, sp, lr, mk, ln, pg, sg, sn, ev, qu, ip, op) v1) (fun post => wpY_background post (nI nj, nI nw, nI ns, nI nc, te, sw, ex, re, nI nt, nI i1, nI o1, sz, la, ac, kn, ix, sp, lr, mk, pl, ln, cd, sn, sg, jp, jo) v1) := by
  have n4 : ¬ (-4 : Int32) = 0 := by decide
  have n2 : ¬ (-2 : Int32) = 0 := by decide
  have n10 : ¬ (1 : Int32) = 0 := by decide
  by_cases ht : te = -1
  · rcases q_job (nj := nj) (nw := nw) (ns := ns) (nc := nc) (nt := nt) (e0 := e0) (e1 := e1) (i0 := i0) (i1 := i1) (o0 := o0) (o1 := o1) (sw := sw) (te := te) (ex := ex) (re := re) (sz := sz) (la := la) (ac := ac) (kn := kn) (ix := ix) (sp := sp) (lr := lr) (mk := mk) (ln := ln) (pg := pg) (sg := sg) (sn := sn) (ev := ev) (qu := qu) (ip := ip) (op := op) (pl := pl) (cd := cd) (jp := jp) (jo := jo) v1 h.1.1 with ⟨a, b⟩ | ⟨j, hj, rfl, hl, hn, a, b⟩
    · exact ⟨-4, (nI nj, nI nw, nI ns, nI nc, nI nt, nI e0, nI e1, nI i0, nI i1, nI o0, nI o1, sw, te, ex, re, sz, la, ac, kn, ix, sp, lr, mk, ln, pg, sg, sn, ev, qu, ip, op), (nI nj, nI nw, nI ns, nI nc, te, sw, ex, re, nI nt, nI i1, nI o1, sz, la, ac, kn, ix, sp, lr, mk, pl, ln, cd, sn, sg, jp, jo), fa_in h, fun post hp => br_t ht (a _ (br_t rfl (br_f n4 hp))), fun post hp => br_t ht (b _ (br_t rfl hp))⟩
    · obtain ⟨r, f, g, _⟩ := q_st (nj := nj) (nw := nw) (ns := ns) (nc := nc) (nt := nt) (e0 := e0) (e1 := e1) (i0 := i0) (i1 := i1) (o0 := o0) (o1 := o1) (sw := sw) (te := te) (ex := ex) (re := re) (sz := sz) (la := la) (ac := ac) (kn := kn) (ix := ix) (sp := sp) (lr := lr) (mk := mk) (ln := ln) (pg := pg) (sg := sg) (sn := sn) (ev := ev) (qu := qu) (ip := ip) (op := op) (pl := pl) (cd := cd) (jp := jp) (jo := jo) hj h.2.2.2.1
      by_cases h3 : r = 3
      · exact ⟨-4, (nI nj, nI nw, nI ns, nI nc, nI nt, nI e0, nI e1, nI i0, nI i1, nI o0, nI o1, sw, te, ex, re, sz, la, ac, kn, ix, sp, lr, mk, ln, pg, sg, sn, ev, qu, ip, op), (nI nj, nI nw, nI ns, nI nc, te, sw, ex, re, nI nt, nI i1, nI o1, sz, la, ac, kn, ix, sp, lr, mk, pl, ln, cd, sn, sg, jp, jo), fa_in h, fun post hp => br_t ht (a _ (br_f n10 (f _ (br_t h3 (br_f n4 hp))))), fun post hp => br_t ht (b _ (br_f n10 (g _ (br_t h3 hp))))⟩
      · by_cases h1 : r = 1
        · exact ⟨-5, (nI nj, nI nw, nI ns, nI nc, nI nt, nI e0, nI e1, nI i0, nI i1, nI o0, nI o1, sw, te, ex, re, sz, la, ac, kn, ix, sp, lr, mk, ln, pg, sg, sn, ev, qu, ip, op), (nI nj, nI nw, nI ns, nI nc, te, sw, ex, re, nI nt, nI i1, nI o1, sz, la, ac, kn, ix, sp, lr, mk, pl, ln, cd, sn, sg, jp, jo), fa_in h, fun post hp => br_t ht (a _ (br_f n10 (f _ (br_f h3 (br_t rfl (f _ (br_t h1 hp))))))), fun post hp => br_t ht (b _ (br_f n10 (g _ (br_f h3 (g _ (br_t h1 hp))))))⟩
        · refine oo_x (q_res (nj := nj) (nw := nw) (ns := ns) (nc := nc) (nt := nt) (e0 := e0) (e1 := e1) (i0 := i0) (i1 := i1) (o0 := o0) (o1 := o1) (sw := sw) (te := te) (ex := ex) (re := re) (sz := sz) (la := la) (ac := ac) (kn := kn) (ix := ix) (sp := sp) (lr := lr) (mk := mk) (ln := ln) (pg := pg) (sg := sg) (sn := sn) (ev := ev) (qu := qu) (ip := ip) (op := op) (pl := pl) (cd := cd) (jp := jp) (jo := jo) h hj) ?_
          intro nj nw ns nc nt e0 e1 i0 i1 o0 o1 sw te ex re sz la ac kn ix sp lr mk ln pg sg sn ev qu ip op pl cd jp jo h' x y
          exact ⟨0, (nI nj, nI nw, nI ns, nI nc, nI nt, nI e0, nI e1, nI i0, nI i1, nI o0, nI o1, sw, te, ex, re, sz, la, ac, kn, ix, sp, lr, mk, ln, pg, sg, sn, ev, qu, ip, op), (nI nj, nI nw, nI ns, nI nc, te, sw, ex, re, nI nt, nI i1, nI o1, sz, la, ac, kn, ix, sp, lr, mk, pl, ln, cd, sn, sg, jp, jo), fa_in h', fun post hp => br_t ht (a _ (br_f n10 (f _ (br_f h3 (br_t rfl (f _ (br_f h1 (x _ hp)))))))), fun post hp => br_t ht (b _ (br_f n10 (g _ (br_f h3 (g _ (br_f h1 (y _ hp)))))))⟩
  · exact ⟨-2, (nI nj, nI nw, nI ns, nI nc, nI nt, nI e0, nI e1, nI i0, nI i1, nI o0, nI o1, sw, te, ex, re, sz, la, ac, kn, ix, sp, lr, mk, ln, pg, sg, sn, ev, qu, ip, op), (nI nj, nI nw, nI ns, nI nc, te, sw, ex, re, nI nt, nI i1, nI o1, sz, la, ac, kn, ix, sp, lr, mk, pl, ln, cd, sn, sg, jp, jo), fa_in h, fun post hp => br_f ht (br_f n2 hp), fun post hp => br_f ht hp⟩
end
section
variable {nj nw ns nc nt e0 e1 i0 i1 o0 o1 : Nat} {sw te ex re : Int32} {sz la ac kn ix sp lr mk ln pg sg sn ev qu ip op pl cd jp jo : Nat → Int32}
theorem q_rp13 (h : fa_F nj nw ns nc nt e0 e1 i0 i1 o0 o1 sw te sz ac kn ix ln pg sg sn ev qu ip op pl cd jp jo) (hte : te = -1) : ∀ d j : Nat, j + d = 8 → oo_r (fun post => wX_report_13 post (nI nj) (nI nw) (nI ns) (nI nc) (nI nt) (nI e0) (nI e1) (nI i0) (nI i1) (nI o0) (nI o1) sw te ex re sz la ac kn ix sp lr mk ln pg sg sn ev qu ip op (d + 1) (nI j)) (fun post => wY_report_13 post (nI nj) (nI nw) (nI ns) (nI nc) te sw ex re (nI nt) (nI i1) (nI o1) sz la ac kn ix sp lr mk pl ln cd sn sg jp jo (d + 1) (nI j)) := by
  have hn : nj ≤ 8 := h.1.1
  intro d
  induction d with
  | zero =>
    intro j hj
    have c : nI nj ≤ nI j := nI_le (by omega) (by omega)
    exact ⟨-4, (nI nj, nI nw, nI ns, nI nc, nI nt, nI e0, nI e1, nI i0, nI i1, nI o0, nI o1, sw, te, ex, re, sz, la, ac, kn, ix, sp, lr, mk, ln, pg, sg, sn, ev, qu, ip, op), (nI nj, nI nw, nI ns, nI nc, te, sw, ex, re, nI nt, nI i1, nI o1, sz, la, ac, kn, ix, sp, lr, mk, pl, ln, cd, sn, sg, jp, jo), fa_in h, fun post hp => br_t c hp, fun post hp => br_t c hp⟩
  | succ d ih =>
    intro j hj
    by_cases c : nI nj ≤ nI j
    · exact ⟨-4, (nI nj, nI nw, nI ns, nI nc, nI nt, nI e0, nI e1, nI i0, nI i1, nI o0, nI o1, sw, te, ex, re, sz, la, ac, kn, ix, sp, lr, mk, ln, pg, sg, sn, ev, qu, ip, op), (nI nj, nI nw, nI ns, nI nc, te, sw, ex, re, nI nt, nI i1, nI o1, sz, la, ac, kn, ix, sp, lr, mk, pl, ln, cd, sn, sg, jp, jo), fa_in h, fun post hp => br_t c hp, fun post hp => br_t c hp⟩
    · obtain ⟨r', u', v', R, x, y⟩ := ih (j + 1) (by omega)
      have l0 : ¬ nI j < 0 := nI_pos (by omega)
      have hin : vp_in (nI j) 8 := vp_in_nI (by omega) (by omega)
      have cl : (nI j).toNatClampNeg = j := nI_clamp (by omega)
      have n10 : ¬ (1 : Int32) = 0 := by decide
      by_cases z : sz (nI j).toNatClampNeg ≤ 0
      · exact ⟨r', u', v', R, fun post hp => br_f c (And.intro hin (br_t z (nm_r (nI_1 j) (x post hp)))), fun post hp => br_f c (br_f l0 (br_f c (And.intro hin (br_t z (br_t rfl (nm_r (nI_1 j) (y post hp)))))))⟩
      · obtain ⟨r, f, g, h3⟩ := q_st (nj := nj) (nw := nw) (ns := ns) (nc := nc) (nt := nt) (e0 := e0) (e1 := e1) (i0 := i0) (i1 := i1) (o0 := o0) (o1 := o1) (sw := sw) (te := te) (ex := ex) (re := re) (sz := sz) (la := la) (ac := ac) (kn := kn) (ix := ix) (sp := sp) (lr := lr) (mk := mk) (ln := ln) (pg := pg) (sg := sg) (sn := sn) (ev := ev) (qu := qu) (ip := ip) (op := op) (pl := pl) (cd := cd) (jp := jp) (jo := jo) (j := j) (by omega) h.2.2.2.1
        by_cases w : r = la (nI j).toNatClampNeg
        · exact ⟨r', u', v', R, fun post hp => br_f c (And.intro hin (br_f z (f _ (And.intro hin (br_t w (nm_r (nI_1 j) (x post hp))))))),
            fun post hp => br_f c (br_f l0 (br_f c (And.intro hin (br_f z (br_f n10 (g _ (And.intro hin (br_t w (nm_r (nI_1 j) (y post hp))))))))))⟩
        · by_cases e3 : r = 3
          · have h' := h
            obtain ⟨hN, hS, hT, hZ, hL, hP, hC, hK, hI, hO, hE, hD⟩ := h'
            obtain ⟨s, hs, es⟩ := hZ j (by omega)
            have z' := z
            rw [cl, es] at z'
            have s1 : 1 ≤ s := by
              rcases Nat.eq_zero_or_pos s with q | q
              · subst q; exact absurd ev_00 z'
              · exact q
            have ei : nI j * 4 + sz (nI j).toNatClampNeg - 1 = nI (j * 4 + s - 1) := by
              rw [cl, es, sl_e]; exact pk_sub (b := 1) (by omega)
            have hin2 : vp_in (nI j * 4 + sz (nI j).toNatClampNeg - 1) 32 := by rw [ei]; exact vp_in_nI (by omega) (by omega)
            have hZ' : fa_Z (upd sz (nI j).toNatClampNeg 0) := by
              intro i hi
              by_cases e : i = (nI j).toNatClampNeg
              · rw [e, pk_us]; exact ⟨0, by omega, rfl⟩
              · rw [pk_un e]; exact hZ i hi
            have hD' : fa_D (upd sz (nI j).toNatClampNeg 0) ac kn pl := by
              refine ⟨hD.1, fun i k hi hk hs => ?_⟩
              rw [cl] at hs
              by_cases e : i = j
              · subst e
                by_cases q : sz i ≤ nI k
                · exact hD.2 i k hi hk q
                · exact (hD.1 _ (by omega) (h3 e3 k hk q)).2
              · rw [pk_un e] at hs; exact hD.2 i k hi hk hs
            exact ⟨(nI j * 10000 + r * 1000) + (kn (nI j * 4 + sz (nI j).toNatClampNeg - 1).toNatClampNeg - 1000), (nI nj, nI nw, nI ns, nI nc, nI nt, nI e0, nI e1, nI i0, nI i1, nI o0, nI o1, sw, te, ex, re, upd sz (nI j).toNatClampNeg 0, upd la (nI j).toNatClampNeg r, ac, kn, ix, sp, lr, mk, ln, pg, sg, sn, ev, qu, ip, op), (nI nj, nI nw, nI ns, nI nc, te, sw, ex, re, nI nt, nI i1, nI o1, upd sz (nI j).toNatClampNeg 0, upd la (nI j).toNatClampNeg r, ac, kn, ix, sp, lr, mk, pl, ln, cd, sn, sg, jp, jo),
              fa_in (show fa_F nj nw ns nc nt e0 e1 i0 i1 o0 o1 sw te (upd sz (nI j).toNatClampNeg 0) ac kn ix ln pg sg sn ev qu ip op pl cd jp jo from ⟨hN, hS, hT, hZ', hL, hP, hC, hK, hI, hO, hE, hD'⟩),
              fun post hp => br_f c (And.intro hin (br_f z (f _ (And.intro hin (br_f w (f _ (And.intro hin (nm_e (nm_e (br_t e3 (And.intro hin (And.intro hin2 (nm_e (And.intro hin (nm_e hp))))))))))))))),
              fun post hp => br_f c (br_f l0 (br_f c (And.intro hin (br_f z (br_f n10 (g _ (And.intro hin (br_f w (g _ (And.intro hin (nm_e (br_t e3 (And.intro hin (And.intro hin2 (nm_e (And.intro hin (nm_e hp)))))))))))))))))⟩
          · exact ⟨nI j * 10000 + r * 1000, (nI nj, nI nw, nI ns, nI nc, nI nt, nI e0, nI e1, nI i0, nI i1, nI o0, nI o1, sw, te, ex, re, sz, upd la (nI j).toNatClampNeg r, ac, kn, ix, sp, lr, mk, ln, pg, sg, sn, ev, qu, ip, op), (nI nj, nI nw, nI ns, nI nc, te, sw, ex, re, nI nt, nI i1, nI o1, sz, upd la (nI j).toNatClampNeg r, ac, kn, ix, sp, lr, mk, pl, ln, cd, sn, sg, jp, jo), fa_in h,
              fun post hp => br_f c (And.intro hin (br_f z (f _ (And.intro hin (br_f w (f _ (And.intro hin (nm_e (nm_e (br_f e3 hp)))))))))),
              fun post hp => br_f c (br_f l0 (br_f c (And.intro hin (br_f z (br_f n10 (g _ (And.intro hin (br_f w (g _ (And.intro hin (nm_e (br_f e3 hp))))))))))))⟩
theorem m_report (h : fa_F nj nw ns nc nt e0 e1 i0 i1 o0 o1 sw te sz ac kn ix ln pg sg sn ev qu ip op pl cd jp jo) : oo_r (fun post => wpX_report post (nI nj, nI nw, nI ns, nI nc, nI nt, nI e0, nI e1, nI i0, nI i1, nI o0, nI o1, sw, te, ex, re, sz, la, ac, kn, ix, sp, lr, mk, ln, pg, sg, sn, ev, qu, ip, op)) (fun post => wpY_report post (nI nj, nI nw, nI ns, nI nc, te, sw, ex, re, nI nt, nI i1, nI o1, sz, la, ac, kn, ix, sp, lr, mk, pl, ln, cd, sn, sg, jp, jo)) := by
  by_cases ht : te = -1
  · obtain ⟨r, u, v, R, x, y⟩ := q_rp13 (nj := nj) (nw := nw) (ns := ns) (nc := nc) (nt := nt) (e0 := e0) (e1 := e1) (i0 := i0) (i1 := i1) (o0 := o0) (o1 := o1) (sw := sw) (te := te) (ex := ex) (re := re) (sz := sz) (la := la) (ac := ac) (kn := kn) (ix := ix) (sp := sp) (lr := lr) (mk := mk) (ln := ln) (pg := pg) (sg := sg) (sn := sn) (ev := ev) (qu := qu) (ip := ip) (op := op) (pl := pl) (cd := cd) (jp := jp) (jo := jo) h ht 8 0 rfl
    exact ⟨r, u, v, R, fun post hp => br_t ht (Exists.intro 9 (x post hp)), fun post hp => br_t ht (Exists.intro 9 (y post hp))⟩
  · exact ⟨-2, (nI nj, nI nw, nI ns, nI nc, nI nt, nI e0, nI e1, nI i0, nI i1, nI o0, nI o1, sw, te, ex, re, sz, la, ac, kn, ix, sp, lr, mk, ln, pg, sg, sn, ev, qu, ip, op), (nI nj, nI nw, nI ns, nI nc, te, sw, ex, re, nI nt, nI i1, nI o1, sz, la, ac, kn, ix, sp, lr, mk, pl, ln, cd, sn, sg, jp, jo), fa_in h, fun post hp => br_f ht hp, fun post hp => br_f ht hp⟩
end
end
section
/-! launch -/
def cp_f (sg : Nat → Int32) (p g i : Nat) (a : Nat → Int32) : Nat → Int32 := fun q => if p * 8 ≤ q ∧ q < p * 8 + i then sg (g * 8 + (q - p * 8)) else a q
theorem cp_t {sg : Nat → Int32} {p g i q : Nat} {a : Nat → Int32} (h1 : p * 8 ≤ q) (h2 : q < p * 8 + i) : cp_f sg p g i a q = sg (g * 8 + (q - p * 8)) := if_pos ⟨h1, h2⟩
theorem cp_n {sg : Nat → Int32} {p g i q : Nat} {a : Nat → Int32} (h : ¬ (p * 8 ≤ q ∧ q < p * 8 + i)) : cp_f sg p g i a q = a q := if_neg h
theorem cp_0 (sg : Nat → Int32) (p g : Nat) (a : Nat → Int32) : cp_f sg p g 0 a = a := funext fun q => cp_n (by omega)
theorem cp_s (sg : Nat → Int32) (p g i : Nat) (a : Nat → Int32) : upd (cp_f sg p g i a) (p * 8 + i) (sg (g * 8 + i)) = cp_f sg p g (i + 1) a := by
  funext q
  by_cases e : q = p * 8 + i
  · subst e
    rw [pk_us, cp_t (by omega) (by omega)]
    exact congrArg sg (by omega)
  · rw [pk_un e]
    by_cases w : p * 8 ≤ q ∧ q < p * 8 + i
    · rw [cp_t w.1 w.2, cp_t w.1 (by omega)]
    · rw [cp_n w, cp_n (by omega)]
theorem cp_ix (p i : Nat) : nI p * 8 + nI i = nI (p * 8 + i) := by
  rw [← nI_add, ← pk_mul]; rfl
theorem cp_k {sg a : Nat → Int32} {p g i : Nat} (h : ∀ q, fa_k (a q)) (hs : ∀ q, fa_k (sg q)) : ∀ q, fa_k (cp_f sg p g i a q) := by
  intro q
  by_cases w : p * 8 ≤ q ∧ q < p * 8 + i
  · rw [cp_t w.1 w.2]; exact hs _
  · rw [cp_n w]; exact h q
theorem cp_c {pg cd ln sg : Nat → Int32} {p g m : Nat} (h : fa_C pg cd ln) (hm : m ≤ 8) : fa_C (cp_f sg p g m pg) (cp_f sg p g 8 cd) (upd ln p (nI m)) := by
  intro q i hq hi hl
  by_cases e : q = p
  · subst e
    rw [pk_us, nI_ltI (by omega) (by omega)] at hl
    rw [cp_t (by omega) (by omega), cp_t (by omega) (by omega)]
  · rw [pk_un e] at hl
    rw [cp_n (by omega), cp_n (by omega)]
    exact h q i hq hi hl
theorem cp_p {ix ln : Nat → Int32} {p m : Nat} (h : fa_P ix ln) (hm : m ≤ 8) : fa_P (upd ix p 0) (upd ln p (nI m)) := by
  intro q hq
  by_cases e : q = p
  · subst e
    exact ⟨0, m, by omega, hm, pk_us, pk_us⟩
  · rw [pk_un e, pk_un e]; exact h q hq
theorem cp_d {sz ac kn pl : Nat → Int32} (h : fa_D sz ac kn pl) (p : Nat) : fa_D sz (upd ac p 0) (upd kn p 0) pl := by
  refine ⟨fun q hq hk => ?_, h.2⟩
  by_cases e : q = p
  · rw [e, pk_us] at hk; exact absurd (by decide) hk
  · rw [pk_un e] at hk; rw [pk_un e]; exact h.1 q hq hk
theorem cp_u {a : Nat → Int32} {p : Nat} (h : a p = 0) : upd a p 0 = a := by
  funext q
  by_cases e : q = p
  · subst e; rw [pk_us, h]
  · rw [pk_un e]
section
variable {nj nw ns nc nt e0 e1 i0 i1 o0 o1 : Nat} {sw te ex re : Int32} {sz la ac kn ix sp lr mk ln pg sg sn ev qu ip op pl cd jp jo : Nat → Int32}
/-- the two copies of a script -/
theorem q_cpX {post : SX → Prop} {x1 : Int32} {p g m : Nat} (hx : x1 = nI p) (hp : p < 32) (hg : g < 4) (em : sn g = nI m) (hm : m ≤ 8) (hpost : post (nI nj, nI nw, nI ns, nI nc, nI nt, nI e0, nI e1, nI i0, nI i1, nI o0, nI o1, sw, te, ex, re, sz, la, ac, kn, ix, sp, lr, mk, ln, cp_f sg p g m pg, sg, sn, ev, qu, ip, op)) :
    ∀ d i : Nat, i + d = m → wX_startProcess_56 post x1 (nI g) (nI nj) (nI nw) (nI ns) (nI nc) (nI nt) (nI e0) (nI e1) (nI i0) (nI i1) (nI o0) (nI o1) sw te ex re (d + 1) (nI i) sz la ac kn ix sp lr mk ln (cp_f sg p g i pg) sg sn ev qu ip op := by
  subst hx
  have hin : vp_in (nI g) 4 := vp_in_nI hg (by omega)
  have cl : (nI g).toNatClampNeg = g := nI_clamp (by omega)
  intro d
  induction d with
  | zero =>
    intro i hi
    have e : i = m := by omega
    subst e
    exact And.intro hin (br_t (by rw [cl, em]; exact nI_le (by omega) (by omega)) hpost)
  | succ d ih =>
    intro i hi
    have e : upd (cp_f sg p g i pg) (nI p * 8 + nI i).toNatClampNeg (sg (nI g * 8 + nI i).toNatClampNeg) = cp_f sg p g (i + 1) pg := by
      rw [cp_ix, cp_ix, nI_clamp (by omega), nI_clamp (by omega)]; exact cp_s sg p g i pg
    exact And.intro hin (br_f (by rw [cl, em]; exact nI_ge (by omega) (by omega)) (And.intro (by rw [cp_ix]; exact vp_in_nI (by omega) (by omega)) (And.intro (by rw [cp_ix]; exact vp_in_nI (by omega) (by omega)) (nm_r e (nm_r (nI_1 i) (ih (i + 1) (by omega)))))))
theorem q_cpX0 {post : SX → Prop} {x1 : Int32} {p g m : Nat} (hx : x1 = nI p) (hp : p < 32) (hg : g < 4) (em : sn g = nI m) (hm : m ≤ 8) (hpost : post (nI nj, nI nw, nI ns, nI nc, nI nt, nI e0, nI e1, nI i0, nI i1, nI o0, nI o1, sw, te, ex, re, sz, la, ac, kn, ix, sp, lr, mk, ln, cp_f sg p g m pg, sg, sn, ev, qu, ip, op)) :
    wX_startProcess_56 post x1 (nI g) (nI nj) (nI nw) (nI ns) (nI nc) (nI nt) (nI e0) (nI e1) (nI i0) (nI i1) (nI o0) (nI o1) sw te ex re (m + 1) 0 sz la ac kn ix sp lr mk ln pg sg sn ev qu ip op := by
  have h := q_cpX hx hp hg em hm hpost m 0 (by omega)
  rw [cp_0] at h
  exact h
theorem q_cpY {post : Int32 → SY → Prop} {J : Int32 → (Nat → Int32) → (Nat → Int32) → (Nat → Int32) → (Nat → Int32) → (Nat → Int32) → (Nat → Int32) → (Nat → Int32) → (Nat → Int32) → (Nat → Int32) → (Nat → Int32) → (Nat → Int32) → (Nat → Int32) → (Nat → Int32) → (Nat → Int32) → (Nat → Int32) → Prop} {x1 x2 x4 : Int32} {p g : Nat} (hx : x4 = nI p) (hp : p < 32) (hg : g < 4) (hJ : J (nI (g + 1)) sz la ac kn ix sp lr mk pl ln (cp_f sg p g 8 cd) sn sg jp jo) :
    ∀ d i : Nat, i + d = 8 → wY_launch_147 post J x1 x2 (nI g) x4 (nI nj) (nI nw) (nI ns) (nI nc) te sw ex re (nI nt) (nI i1) (nI o1) (d + 1) (nI i) sz la ac kn ix sp lr mk pl ln (cp_f sg p g i cd) sn sg jp jo := by
  subst hx
  intro d
  induction d with
  | zero =>
    intro i hi
    have e : i = 8 := by omega
    subst e
    exact br_t (nI_le (a := 8) (b := 8) (by omega) (by omega)) (nm_r (nI_1 g) hJ)
  | succ d ih =>
    intro i hi
    have e : upd (cp_f sg p g i cd) (nI p * 8 + nI i).toNatClampNeg (sg (nI g * 8 + nI i).toNatClampNeg) = cp_f sg p g (i + 1) cd := by
      rw [cp_ix, cp_ix, nI_clamp (by omega), nI_clamp (by omega)]; exact cp_s sg p g i cd
    exact br_f (nI_ge (b := 8) (by omega) (by omega)) (And.intro (by rw [cp_ix]; exact vp_in_nI (by omega) (by omega)) (And.intro (by rw [cp_ix]; exact vp_in_nI (by omega) (by omega)) (nm_r e (nm_r (nI_1 i) (ih (i + 1) (by omega))))))
theorem q_cpY0 {post : Int32 → SY → Prop} {J : Int32 → (Nat → Int32) → (Nat → Int32) → (Nat → Int32) → (Nat → Int32) → (Nat → Int32) → (Nat → Int32) → (Nat → Int32) → (Nat → Int32) → (Nat → Int32) → (Nat → Int32) → (Nat → Int32) → (Nat → Int32) → (Nat → Int32) → (Nat → Int32) → (Nat → Int32) → Prop} {x1 x2 x4 : Int32} {p g : Nat} (hx : x4 = nI p) (hp : p < 32) (hg : g < 4) (hJ : J (nI (g + 1)) sz la ac kn ix sp lr mk pl ln (cp_f sg p g 8 cd) sn sg jp jo) :
    wY_launch_147 post J x1 x2 (nI g) x4 (nI nj) (nI nw) (nI ns) (nI nc) te sw ex re (nI nt) (nI i1) (nI o1) 9 0 sz la ac kn ix sp lr mk pl ln cd sn sg jp jo := by
  have h := q_cpY (nj := nj) (nw := nw) (ns := ns) (nc := nc) (te := te) (sw := sw) (ex := ex) (re := re) (nt := nt) (i1 := i1) (o1 := o1) (post := post) (x1 := x1) (x2 := x2) hx hp hg hJ 8 0 (by omega)
  rw [cp_0] at h
  exact h
theorem q_sp {post : SX → Prop} {j g m : Nat} (hj : j < 8) (hg : g < 4) (em : sn g = nI m) (hm : m ≤ 8)
    (hp : post (nI nj, nI nw, nI ns, nI nc, nI nt, nI e0, nI e1, nI i0, nI i1, nI o0, nI o1, sw, te, ex, re, sz, la, upd ac (j * 4 + g) 0, upd kn (j * 4 + g) 0, upd ix (j * 4 + g) 0, upd sp (j * 4 + g) 0, upd lr (j * 4 + g) 0, upd mk (j * 4 + g) 0, upd ln (j * 4 + g) (nI m), cp_f sg (j * 4 + g) g m pg, sg, sn, ev, qu, ip, op)) :
    wpX_startProcess post (nI nj, nI nw, nI ns, nI nc, nI nt, nI e0, nI e1, nI i0, nI i1, nI o0, nI o1, sw, te, ex, re, sz, la, ac, kn, ix, sp, lr, mk, ln, pg, sg, sn, ev, qu, ip, op) (nI j * 4 + nI g) (nI g) := by
  have hin := sl_in hj hg
  have ui : ∀ (f : Nat → Int32) (v : Int32), upd f (nI j * 4 + nI g).toNatClampNeg v = upd f (j * 4 + g) v := fun f v => by rw [sl_c hj hg]
  have el : upd ln (nI j * 4 + nI g).toNatClampNeg (sn (nI g).toNatClampNeg) = upd ln (j * 4 + g) (nI m) := by rw [ui, nI_clamp (by omega), em]
  exact And.intro hin (nm_r (ui _ _) (And.intro hin (nm_r (ui _ _) (And.intro hin (nm_r (ui _ _) (And.intro hin (nm_r (ui _ _) (And.intro hin (nm_r (ui _ _) (And.intro hin (nm_r (ui _ _) (And.intro (vp_in_nI hg (by omega)) (And.intro hin (nm_r el (Exists.intro (m + 1) (q_cpX0 (sl_e j g) (by omega) hg em hm hp))))))))))))))))
end
/-- the stages, in lockstep: X's size and report stand already, Y's come last -/
theorem q_ls {j : Nat} {v1 : Int32} (hj : j < 8) : ∀ d g : Nat, ∀ (nj nw ns nc nt e0 e1 i0 i1 o0 o1 : Nat) (sw te ex re : Int32) (sz la ac kn ix sp lr mk ln pg sg sn ev qu ip op pl cd jp jo : Nat → Int32), fa_F nj nw ns nc nt e0 e1 i0 i1 o0 o1 sw te sz ac kn ix ln pg sg sn ev qu ip op pl cd jp jo → sz j = 0 → g + d = nt →
    oo_r (fun post => wX_launch_42 post v1 (nI j) (d + 1) (nI g) (nI nj) (nI nw) (nI ns) (nI nc) (nI nt) (nI e0) (nI e1) (nI i0) (nI i1) (nI o0) (nI o1) sw te ex re (upd sz j (nI nt)) (upd la j 1) ac kn ix sp lr mk ln pg sg sn ev qu ip op) (fun post => wY_launch_60 post v1 (nI j) (nI nj) (nI nw) (nI ns) (nI nc) te sw ex re (nI nt) (nI i1) (nI o1) (d + 1) (nI g) sz la ac kn ix sp lr mk pl ln cd sn sg jp jo) := by
  have hin : vp_in (nI j) 8 := vp_in_nI hj (by omega)
  have cl : (nI j).toNatClampNeg = j := nI_clamp (by omega)
  intro d
  induction d with
  | zero =>
    intro g nj nw ns nc nt e0 e1 i0 i1 o0 o1 sw te ex re sz la ac kn ix sp lr mk ln pg sg sn ev qu ip op pl cd jp jo h hz hg
    obtain ⟨hN, hS, hT, hZ, hL, hP, hC, hK, hI, hO, hE, hD⟩ := h
    have hN' := hN
    unfold fa_N at hN'
    have c : nI nt ≤ nI g := nI_le (by omega) (by omega)
    have f1 : upd sz (nI j).toNatClampNeg (nI nt) = upd sz j (nI nt) := by rw [cl]
    have f2 : upd la (nI j).toNatClampNeg 1 = upd la j 1 := by rw [cl]
    have hL' : fa_L ns (upd sn 0 0) := by
      intro g hg
      by_cases e : g = 0
      · subst e; exact ⟨0, by omega, pk_us⟩
      · rw [pk_un e]; exact hL g hg
    have hZ' : fa_Z (upd sz j (nI nt)) := by
      intro i hi
      by_cases e : i = j
      · subst e; exact ⟨nt, by omega, pk_us⟩
      · rw [pk_un e]; exact hZ i hi
    have hD' : fa_D (upd sz j (nI nt)) ac kn pl := by
      refine ⟨hD.1, fun i k hi hk hs => ?_⟩
      by_cases e : i = j
      · subst e; exact hD.2 i k hi hk (by rw [hz]; exact nI_pos' (by omega))
      · rw [pk_un e] at hs; exact hD.2 i k hi hk hs
    by_cases w : v1 = 0
    · exact ⟨nI j, (nI nj, nI nw, nI ns, nI nc, nI 1, nI e0, nI e1, nI i0, nI i1, nI o0, nI o1, sw, nI j, ex, re, upd sz j (nI nt), upd la j 1, ac, kn, ix, sp, lr, mk, ln, pg, sg, upd sn 0 0, ev, qu, ip, op), (nI nj, nI nw, nI ns, nI nc, nI j, sw, ex, re, nI 1, nI i1, nI o1, upd sz j (nI nt), upd la j 1, ac, kn, ix, sp, lr, mk, pl, ln, cd, upd sn 0 0, sg, jp, jo),
        fa_in (show fa_F nj nw ns nc 1 e0 e1 i0 i1 o0 o1 sw (nI j) (upd sz j (nI nt)) ac kn ix ln pg sg (upd sn 0 0) ev qu ip op pl cd jp jo from ⟨by unfold fa_N; omega, hS, Or.inr ⟨j, hj, rfl⟩, hZ', hL', hP, hC, hK, hI, hO, hE, hD'⟩),
        fun post hp => br_t c (br_t w (nm_e hp)), fun post hp => br_t c (And.intro hin (nm_r f1 (And.intro hin (nm_r f2 (br_t w (nm_e hp))))))⟩
    · exact ⟨nI j, (nI nj, nI nw, nI ns, nI nc, nI 1, nI e0, nI e1, nI i0, nI i1, nI o0, nI o1, sw, te, ex, re, upd sz j (nI nt), upd la j 1, ac, kn, ix, sp, lr, mk, ln, pg, sg, upd sn 0 0, ev, qu, ip, op), (nI nj, nI nw, nI ns, nI nc, te, sw, ex, re, nI 1, nI i1, nI o1, upd sz j (nI nt), upd la j 1, ac, kn, ix, sp, lr, mk, pl, ln, cd, upd sn 0 0, sg, jp, jo),
        fa_in (show fa_F nj nw ns nc 1 e0 e1 i0 i1 o0 o1 sw te (upd sz j (nI nt)) ac kn ix ln pg sg (upd sn 0 0) ev qu ip op pl cd jp jo from ⟨by unfold fa_N; omega, hS, hT, hZ', hL', hP, hC, hK, hI, hO, hE, hD'⟩),
        fun post hp => br_t c (br_f w (nm_e hp)), fun post hp => br_t c (And.intro hin (nm_r f1 (And.intro hin (nm_r f2 (br_f w (nm_e hp))))))⟩
  | succ d ih =>
    intro g nj nw ns nc nt e0 e1 i0 i1 o0 o1 sw te ex re sz la ac kn ix sp lr mk ln pg sg sn ev qu ip op pl cd jp jo h hz hg
    obtain ⟨hN, hS, hT, hZ, hL, hP, hC, hK, hI, hO, hE, hD⟩ := h
    have hN' := hN
    unfold fa_N at hN'
    have c : ¬ nI nt ≤ nI g := nI_ge (by omega) (by omega)
    obtain ⟨m, hm, em⟩ := hL g (by omega)
    have pz : pl (j * 4 + g) = 0 := hD.2 j g hj (by omega) (by rw [hz]; exact nI_pos' (by omega))
    have h5 : fa_F nj nw ns nc nt e0 e1 i0 i1 o0 o1 sw te sz (upd ac (j * 4 + g) 0) (upd kn (j * 4 + g) 0) (upd ix (j * 4 + g) 0) (upd ln (j * 4 + g) (nI m)) (cp_f sg (j * 4 + g) g m pg) sg sn ev qu ip op pl (cp_f sg (j * 4 + g) g 8 cd) jp jo :=
      ⟨hN, hS, hT, hZ, hL, cp_p hP (by omega), cp_c hC (by omega), ⟨cp_k hK.1 hK.2, hK.2⟩, hI, hO, hE, cp_d hD _⟩
    obtain ⟨r, u, v, R, x, y⟩ := ih (g + 1) nj nw ns nc nt e0 e1 i0 i1 o0 o1 sw te ex re sz la (upd ac (j * 4 + g) 0) (upd kn (j * 4 + g) 0) (upd ix (j * 4 + g) 0) (upd sp (j * 4 + g) 0) (upd lr (j * 4 + g) 0) (upd mk (j * 4 + g) 0) (upd ln (j * 4 + g) (nI m)) (cp_f sg (j * 4 + g) g m pg) sg sn ev qu ip op pl (cp_f sg (j * 4 + g) g 8 cd) jp jo h5 hz (by omega)
    have hg4 : g < 4 := by omega
    have hin2 : vp_in (nI (j * 4 + g)) 32 := vp_in_nI (by omega) (by omega)
    have ui : ∀ (f : Nat → Int32) (w : Int32), upd f (nI (j * 4 + g)).toNatClampNeg w = upd f (j * 4 + g) w := fun f w => by rw [nI_clamp (by omega)]
    have up : upd pl (nI (j * 4 + g)).toNatClampNeg 0 = pl := by rw [ui]; exact cp_u pz
    have el : upd ln (nI (j * 4 + g)).toNatClampNeg (sn (nI g).toNatClampNeg) = upd ln (j * 4 + g) (nI m) := by rw [ui, nI_clamp (by omega), em]
    exact ⟨r, u, v, R, fun post hp => br_f c (q_sp hj hg4 em (by omega) (nm_r (nI_1 g) (x post hp))),
      fun post hp => br_f c (nm_r (sl_e j g) (And.intro hin2 (nm_r (ui _ _) (And.intro hin2 (nm_r (ui _ _) (And.intro hin2 (nm_r (ui _ _) (And.intro hin2 (nm_r (ui _ _) (And.intro hin2 (nm_r (ui _ _) (And.intro hin2 (nm_r (ui _ _) (And.intro hin2 (nm_r up (And.intro (vp_in_nI hg4 (by omega)) (And.intro hin2 (nm_r el (Exists.intro 9 (q_cpY0 rfl (by omega) hg4 (y post hp)))))))))))))))))))))⟩
section
variable {nj nw ns nc nt e0 e1 i0 i1 o0 o1 : Nat} {sw te ex re : Int32} {sz la ac kn ix sp lr mk ln pg sg sn ev qu ip op pl cd jp jo : Nat → Int32}
/-- Y's scan behind the lowest free number -/
theorem q_l15 {post : Int32 → SY → Prop} {x1 : Int32} {i : Nat} (hn : nj ≤ 8) (hi : i < nj) (hp : ∃ n : Nat, wY_launch_60 post x1 (nI i) (nI nj) (nI nw) (nI ns) (nI nc) te sw ex re (nI nt) (nI i1) (nI o1) n 0 sz la ac kn ix sp lr mk pl ln cd sn sg jp jo) :
    ∀ d j : Nat, j + d = nj → i < j → wY_launch_15 post x1 (nI nj) (nI nw) (nI ns) (nI nc) te sw ex re (nI nt) (nI i1) (nI o1) sz la ac kn ix sp lr mk pl ln cd sn sg jp jo (d + 1) (nI i) (nI j) := by
  intro d
  induction d with
  | zero =>
    intro j hj hl
    exact br_t (nI_le (by omega) (by omega)) (br_t (nI_lt hi (by omega)) hp)
  | succ d ih =>
    intro j hj hl
    exact br_f (nI_ge (by omega) (by omega)) (br_f (ne_f (by omega) (by omega) (by omega)) (nm_r (nI_1 j) (ih (j + 1) (by omega) (by omega))))
theorem q_lf (hn : nj ≤ 8) (hz : fa_Z sz) : ∀ d j : Nat, j + d = nj →
    ((∀ post : Int32 → Prop, post (-1) → wX_lowestFree_2 post (nI nj) (nI nw) (nI ns) (nI nc) (nI nt) (nI e0) (nI e1) (nI i0) (nI i1) (nI o0) (nI o1) sw te ex re sz la ac kn ix sp lr mk ln pg sg sn ev qu ip op (d + 1) (nI j)) ∧ (∀ (post : Int32 → SY → Prop) (x1 : Int32), post (-3) (nI nj, nI nw, nI ns, nI nc, te, sw, ex, re, nI nt, nI i1, nI o1, sz, la, ac, kn, ix, sp, lr, mk, pl, ln, cd, sn, sg, jp, jo) → wY_launch_15 post x1 (nI nj) (nI nw) (nI ns) (nI nc) te sw ex re (nI nt) (nI i1) (nI o1) sz la ac kn ix sp lr mk pl ln cd sn sg jp jo (d + 1) (nI j) (nI j))) ∨
    (∃ i : Nat, i < nj ∧ sz i = 0 ∧ (∀ post : Int32 → Prop, post (nI i) → wX_lowestFree_2 post (nI nj) (nI nw) (nI ns) (nI nc) (nI nt) (nI e0) (nI e1) (nI i0) (nI i1) (nI o0) (nI o1) sw te ex re sz la ac kn ix sp lr mk ln pg sg sn ev qu ip op (d + 1) (nI j)) ∧
      (∀ (post : Int32 → SY → Prop) (x1 : Int32), (∃ n : Nat, wY_launch_60 post x1 (nI i) (nI nj) (nI nw) (nI ns) (nI nc) te sw ex re (nI nt) (nI i1) (nI o1) n 0 sz la ac kn ix sp lr mk pl ln cd sn sg jp jo) → wY_launch_15 post x1 (nI nj) (nI nw) (nI ns) (nI nc) te sw ex re (nI nt) (nI i1) (nI o1) sz la ac kn ix sp lr mk pl ln cd sn sg jp jo (d + 1) (nI j) (nI j))) := by
  intro d
  induction d with
  | zero =>
    intro j hj
    have c : nI nj ≤ nI j := nI_le (by omega) (by omega)
    exact Or.inl ⟨fun _ hp => br_t c hp, fun _ _ hp => br_t c (br_f (nI_nlt (by omega) (by omega)) hp)⟩
  | succ d ih =>
    intro j hj
    have c : ¬ nI nj ≤ nI j := nI_ge (by omega) (by omega)
    have hin : vp_in (nI j) 8 := vp_in_nI (by omega) (by omega)
    have cl : (nI j).toNatClampNeg = j := nI_clamp (by omega)
    obtain ⟨s, hs, es⟩ := hz j (by omega)
    by_cases z : s = 0
    · subst z
      have es0 : sz j = 0 := es
      have c2 : sz (nI j).toNatClampNeg = 0 := by rw [cl]; exact es0
      have c3 : sz (nI j).toNatClampNeg ≤ 0 := by rw [c2]; exact ev_00
      exact Or.inr ⟨j, by omega, es0, fun _ hp => br_f c (And.intro hin (br_t c2 hp)),
        fun _ _ hp => br_f c (br_t rfl (And.intro hin (br_t c3 (nm_r (nI_1 j) (q_l15 hn (by omega) hp d (j + 1) (by omega) (by omega))))))⟩
    · have c2 : ¬ sz (nI j).toNatClampNeg = 0 := by rw [cl, es]; exact nI_ne0 (by omega) (by omega)
      have c3 : ¬ sz (nI j).toNatClampNeg ≤ 0 := by rw [cl, es]; exact nI_nle (by omega) (by omega)
      rcases ih (j + 1) (by omega) with ⟨a, b⟩ | ⟨i, hi, e0, a, b⟩
      · exact Or.inl ⟨fun _ hp => br_f c (And.intro hin (br_f c2 (nm_r (nI_1 j) (a _ hp)))), fun _ _ hp => br_f c (br_t rfl (And.intro hin (br_f c3 (nm_r (nI_1 j) (nm_r (nI_1 j) (b _ _ hp))))))⟩
      · exact Or.inr ⟨i, hi, e0, fun _ hp => br_f c (And.intro hin (br_f c2 (nm_r (nI_1 j) (a _ hp)))), fun _ _ hp => br_f c (br_t rfl (And.intro hin (br_f c3 (nm_r (nI_1 j) (nm_r (nI_1 j) (b _ _ hp))))))⟩
theorem m_launch (h : fa_F nj nw ns nc nt e0 e1 i0 i1 o0 o1 sw te sz ac kn ix ln pg sg sn ev qu ip op pl cd jp jo) (v1 : Int32) : oo_r (fun post => wpX_launch post (nI nj, nI nw, nI ns, nI nc, nI nt, nI e0, nI e1, nI i0, nI i1, nI o0, nI o1, sw, te, ex, re, sz, la, ac, kn, ix, sp, lr, mk, ln, pg, sg, sn, ev, qu, ip, op) v1) (fun post => wpY_launch post (nI nj, nI nw, nI ns, nI nc, te, sw, ex, re, nI nt, nI i1, nI o1, sz, la, ac, kn, ix, sp, lr, mk, pl, ln, cd, sn, sg, jp, jo) v1) := by
  by_cases ht : te = -1
  · have hn : nj ≤ 8 := h.1.1
    rcases q_lf (nj := nj) (nw := nw) (ns := ns) (nc := nc) (nt := nt) (e0 := e0) (e1 := e1) (i0 := i0) (i1 := i1) (o0 := o0) (o1 := o1) (sw := sw) (te := te) (ex := ex) (re := re) (sz := sz) (la := la) (ac := ac) (kn := kn) (ix := ix) (sp := sp) (lr := lr) (mk := mk) (ln := ln) (pg := pg) (sg := sg) (sn := sn) (ev := ev) (qu := qu) (ip := ip) (op := op) (pl := pl) (cd := cd) (jp := jp) (jo := jo) hn h.2.2.2.1 nj 0 (by omega) with ⟨a, b⟩ | ⟨j, hj, hz, a, b⟩
    · have l : ¬ (0 : Int32) ≤ -1 := by decide
      exact ⟨-3, (nI nj, nI nw, nI ns, nI nc, nI nt, nI e0, nI e1, nI i0, nI i1, nI o0, nI o1, sw, te, ex, re, sz, la, ac, kn, ix, sp, lr, mk, ln, pg, sg, sn, ev, qu, ip, op), (nI nj, nI nw, nI ns, nI nc, te, sw, ex, re, nI nt, nI i1, nI o1, sz, la, ac, kn, ix, sp, lr, mk, pl, ln, cd, sn, sg, jp, jo), fa_in h, fun post hp => br_t ht (Exists.intro (nj + 1) (a _ (br_f l hp))), fun post hp => br_t ht (Exists.intro (nj + 1) (b _ _ hp))⟩
    · have l : (0 : Int32) ≤ nI j := nI_pos' (by omega)
      have hin : vp_in (nI j) 8 := vp_in_nI (by omega) (by omega)
      have cl : (nI j).toNatClampNeg = j := nI_clamp (by omega)
      have f1 : upd sz (nI j).toNatClampNeg (nI nt) = upd sz j (nI nt) := by rw [cl]
      have f2 : upd la (nI j).toNatClampNeg 1 = upd la j 1 := by rw [cl]
      obtain ⟨r, u, v, R, x, y⟩ := q_ls (v1 := v1) (show j < 8 by omega) nt 0 nj nw ns nc nt e0 e1 i0 i1 o0 o1 sw te ex re sz la ac kn ix sp lr mk ln pg sg sn ev qu ip op pl cd jp jo h hz (by omega)
      exact ⟨r, u, v, R, fun post hp => br_t ht (Exists.intro (nj + 1) (a _ (br_t l (And.intro hin (nm_r f1 (And.intro hin (nm_r f2 (Exists.intro (nt + 1) (x post hp))))))))),
        fun post hp => br_t ht (Exists.intro (nj + 1) (b post v1 (Exists.intro (nt + 1) (y post hp))))⟩
  · exact ⟨-2, (nI nj, nI nw, nI ns, nI nc, nI nt, nI e0, nI e1, nI i0, nI i1, nI o0, nI o1, sw, te, ex, re, sz, la, ac, kn, ix, sp, lr, mk, ln, pg, sg, sn, ev, qu, ip, op), (nI nj, nI nw, nI ns, nI nc, te, sw, ex, re, nI nt, nI i1, nI o1, sz, la, ac, kn, ix, sp, lr, mk, pl, ln, cd, sn, sg, jp, jo), fa_in h, fun post hp => br_f ht hp, fun post hp => br_f ht hp⟩
end
end
section
/-! reap -/
section
variable {nj nw ns nc nt e0 e1 i0 i1 o0 o1 : Nat} {sw te ex re : Int32} {sz la ac kn ix sp lr mk ln pg sg sn ev qu ip op pl cd jp jo : Nat → Int32}
/-- X's end of reap against Y's -/
theorem q_r81 {p : Nat} {s : Int32} (h : fa_F nj nw ns nc nt e0 e1 i0 i1 o0 o1 sw te sz ac kn ix ln pg sg sn ev qu ip op pl cd jp jo) (hp32 : p < 32) : oo_r (fun post => wX_reap_81 post (nI p) s (nI nj) (nI nw) (nI ns) (nI nc) (nI nt) (nI e0) (nI e1) (nI i0) (nI i1) (nI o0) (nI o1) sw te ex re sz la ac kn ix sp lr mk ln pg sg sn ev qu ip op) (fun post => wY_reap_103 post (nI p) (nI (p / 4)) s (nI nj) (nI nw) (nI ns) (nI nc) te sw ex re (nI nt) (nI i1) (nI o1) sz la ac kn ix sp lr mk pl ln cd sn sg jp jo) := by
  have hj : p / 4 < 8 := by omega
  have e4 : nI p / 4 = nI (p / 4) := pk_div (d := 4) (by omega) (by omega) (by omega)
  by_cases c : nI (p / 4) = te
  · obtain ⟨r, f, g, _⟩ := q_st (nj := nj) (nw := nw) (ns := ns) (nc := nc) (nt := nt) (e0 := e0) (e1 := e1) (i0 := i0) (i1 := i1) (o0 := o0) (o1 := o1) (sw := sw) (te := te) (ex := ex) (re := re) (sz := sz) (la := la) (ac := ac) (kn := kn) (ix := ix) (sp := sp) (lr := lr) (mk := mk) (ln := ln) (pg := pg) (sg := sg) (sn := sn) (ev := ev) (qu := qu) (ip := ip) (op := op) (pl := pl) (cd := cd) (jp := jp) (jo := jo) hj h.2.2.2.1
    by_cases h1 : r = 1
    · exact ⟨_, (nI nj, nI nw, nI ns, nI nc, nI nt, nI e0, nI e1, nI i0, nI i1, nI o0, nI o1, sw, te, ex, re, sz, la, ac, kn, ix, sp, lr, mk, ln, pg, sg, sn, ev, qu, ip, op), (nI nj, nI nw, nI ns, nI nc, te, sw, ex, re, nI nt, nI i1, nI o1, sz, la, ac, kn, ix, sp, lr, mk, pl, ln, cd, sn, sg, jp, jo), fa_in h, fun post hp => And.intro rg_n4 (nm_r e4 (br_t c (f _ (br_t h1 (And.intro rg_n4 hp))))), fun post hp => br_t c (g _ (br_t h1 (And.intro rg_n4 hp)))⟩
    · have h' := h
      obtain ⟨hN, hS, hT, hZ, hL, hP, hC, hK, hI, hO, hE, hD⟩ := h'
      exact ⟨_, (nI nj, nI nw, nI ns, nI nc, nI nt, nI e0, nI e1, nI i0, nI i1, nI o0, nI o1, sw, -1, ex, re, sz, la, ac, kn, ix, sp, lr, mk, ln, pg, sg, sn, ev, qu, ip, op), (nI nj, nI nw, nI ns, nI nc, -1, sw, ex, re, nI nt, nI i1, nI o1, sz, la, ac, kn, ix, sp, lr, mk, pl, ln, cd, sn, sg, jp, jo), fa_in (show fa_F nj nw ns nc nt e0 e1 i0 i1 o0 o1 sw (-1) sz ac kn ix ln pg sg sn ev qu ip op pl cd jp jo from ⟨hN, hS, Or.inl rfl, hZ, hL, hP, hC, hK, hI, hO, hE, hD⟩),
        fun post hp => And.intro rg_n4 (nm_r e4 (br_t c (f _ (br_f h1 (And.intro rg_n4 hp))))), fun post hp => br_t c (g _ (br_f h1 (And.intro rg_n4 hp)))⟩
  · exact ⟨_, (nI nj, nI nw, nI ns, nI nc, nI nt, nI e0, nI e1, nI i0, nI i1, nI o0, nI o1, sw, te, ex, re, sz, la, ac, kn, ix, sp, lr, mk, ln, pg, sg, sn, ev, qu, ip, op), (nI nj, nI nw, nI ns, nI nc, te, sw, ex, re, nI nt, nI i1, nI o1, sz, la, ac, kn, ix, sp, lr, mk, pl, ln, cd, sn, sg, jp, jo), fa_in h, fun post hp => And.intro rg_n4 (nm_r e4 (br_f c (And.intro rg_n4 hp))), fun post hp => br_f c (And.intro rg_n4 hp)⟩
/-- Y's search for the front -/
theorem q_r4a {post : Int32 → SY → Prop} {x1 : Int32} (hK : (0 ≤ x1 → ∃ n : Nat, wY_reap_37 post x1 (nI nj) (nI nw) (nI ns) (nI nc) te sw ex re (nI nt) (nI i1) (nI o1) n 0 sz la ac kn ix sp lr mk pl ln cd sn sg jp jo) ∧ (¬ 0 ≤ x1 → post (-4) (nI nj, nI nw, nI ns, nI nc, te, sw, ex, re, nI nt, nI i1, nI o1, sz, la, ac, kn, ix, sp, lr, mk, pl, ln, cd, sn, sg, jp, jo))) :
    ∀ d i : Nat, i + d = 32 → (∀ q, i ≤ q → q < 32 → ¬ pl q = nI 1) → wY_reap_4 post (nI nj) (nI nw) (nI ns) (nI nc) te sw ex re (nI nt) (nI i1) (nI o1) sz la ac kn ix sp lr mk pl ln cd sn sg jp jo (d + 1) x1 (nI i) := by
  intro d
  induction d with
  | zero =>
    intro i hi _
    have e : i = 32 := by omega
    subst e
    exact br_t (nI_le (a := 32) (b := 32) (by omega) (by omega)) hK
  | succ d ih =>
    intro i hi hn
    have ne : ¬ pl (nI i).toNatClampNeg = 1 := by rw [nI_clamp (by omega)]; exact hn i (by omega) (by omega)
    exact br_f (nI_ge (b := 32) (by omega) (by omega)) (And.intro (vp_in_nI (by omega) (by omega)) (br_f ne (nm_r (nI_1 i) (ih (i + 1) (by omega) (fun q h1 h2 => hn q (by omega) h2)))))
theorem q_r4b {post : Int32 → SY → Prop} {p : Nat} (hp : p < 32) (h1 : pl p = nI 1) (hu : ∀ q, q < 32 → q ≠ p → ¬ pl q = nI 1) (hK : ∃ n : Nat, wY_reap_37 post (nI p) (nI nj) (nI nw) (nI ns) (nI nc) te sw ex re (nI nt) (nI i1) (nI o1) n 0 sz la ac kn ix sp lr mk pl ln cd sn sg jp jo) :
    ∀ (d i : Nat) (x1 : Int32), i + d = 32 → i ≤ p → wY_reap_4 post (nI nj) (nI nw) (nI ns) (nI nc) te sw ex re (nI nt) (nI i1) (nI o1) sz la ac kn ix sp lr mk pl ln cd sn sg jp jo (d + 1) x1 (nI i) := by
  intro d
  induction d with
  | zero => intro i x1 hi hl; omega
  | succ d ih =>
    intro i x1 hi hl
    by_cases e : i = p
    · subst e
      have e1 : pl (nI i).toNatClampNeg = 1 := by rw [nI_clamp (by omega)]; exact h1
      exact br_f (nI_ge (b := 32) (by omega) (by omega)) (And.intro (vp_in_nI (by omega) (by omega)) (br_t e1 (nm_r (nI_1 i) (q_r4a (br_t (nI_pos' (by omega)) hK) d (i + 1) (by omega) (fun q h2 h3 => hu q h3 (by omega))))))
    · have ne : ¬ pl (nI i).toNatClampNeg = 1 := by rw [nI_clamp (by omega)]; exact hu i (by omega) e
      exact br_f (nI_ge (b := 32) (by omega) (by omega)) (And.intro (vp_in_nI (by omega) (by omega)) (br_f ne (nm_r (nI_1 i) (ih (i + 1) x1 (by omega) (by omega)))))
/-- Y's places move up -/
theorem q_r37 {post : Int32 → SY → Prop} {p : Nat} (hp : p < 32) (H1 : ac p < 1000 → wY_reap_103 post (nI p) (nI (p / 4)) (ac p) (nI nj) (nI nw) (nI ns) (nI nc) te sw ex re (nI nt) (nI i1) (nI o1) sz la ac (upd kn p (ac p)) ix sp lr mk (ev_ds 32 pl) ln cd sn sg jp jo)
    (H2 : ¬ ac p < 1000 → wY_reap_103 post (nI p) (nI (p / 4)) (ac p) (nI nj) (nI nw) (nI ns) (nI nc) te sw ex (re + 1) (nI nt) (nI i1) (nI o1) sz la ac (upd kn p (ac p)) ix sp lr mk (ev_ds 32 pl) ln cd sn sg jp jo) :
    ∀ d i : Nat, i + d = 32 → wY_reap_37 post (nI p) (nI nj) (nI nw) (nI ns) (nI nc) te sw ex re (nI nt) (nI i1) (nI o1) (d + 1) (nI i) sz la ac kn ix sp lr mk (ev_ds i pl) ln cd sn sg jp jo := by
  have e4 : nI p / 4 = nI (p / 4) := pk_div (d := 4) (by omega) (by omega) (by omega)
  have hin : vp_in (nI p) 32 := vp_in_nI hp (by omega)
  have cl : (nI p).toNatClampNeg = p := nI_clamp (by omega)
  have ea : ac (nI p).toNatClampNeg = ac p := by rw [cl]
  have ek : upd kn (nI p).toNatClampNeg (ac p) = upd kn p (ac p) := by rw [cl]
  intro d
  induction d with
  | zero =>
    intro i hi
    have e : i = 32 := by omega
    subst e
    exact br_t (nI_le (a := 32) (b := 32) (by omega) (by omega)) (And.intro rg_n4 (nm_r e4 (And.intro hin (nm_r ea (And.intro hin (nm_r ek (br_c H1 (fun z => nm_e (H2 z)))))))))
  | succ d ih =>
    intro i hi
    have cli : (nI i).toNatClampNeg = i := nI_clamp (by omega)
    have dsi : ev_ds i pl (nI i).toNatClampNeg = pl i := by rw [cli]; exact ds_2 (by omega)
    have hin2 : vp_in (nI i) 32 := vp_in_nI (by omega) (by omega)
    have hI := ih (i + 1) (by omega)
    by_cases z : pl i ≤ 0
    · rw [ds_s0 z] at hI
      exact br_f (nI_ge (b := 32) (by omega) (by omega)) (And.intro hin2 (br_t (by rw [dsi]; exact z) (nm_r (nI_1 i) hI)))
    · have e : upd (ev_ds i pl) (nI i).toNatClampNeg (ev_ds i pl (nI i).toNatClampNeg - 1) = ev_ds (i + 1) pl := by
        rw [dsi, cli]; exact ds_s1 z
      exact br_f (nI_ge (b := 32) (by omega) (by omega)) (And.intro hin2 (br_f (by rw [dsi]; exact z) (And.intro hin2 (And.intro hin2 (nm_r e (nm_r (nI_1 i) hI))))))
theorem q_r370 {post : Int32 → SY → Prop} {p : Nat} (hp : p < 32) (H1 : ac p < 1000 → wY_reap_103 post (nI p) (nI (p / 4)) (ac p) (nI nj) (nI nw) (nI ns) (nI nc) te sw ex re (nI nt) (nI i1) (nI o1) sz la ac (upd kn p (ac p)) ix sp lr mk (ev_ds 32 pl) ln cd sn sg jp jo)
    (H2 : ¬ ac p < 1000 → wY_reap_103 post (nI p) (nI (p / 4)) (ac p) (nI nj) (nI nw) (nI ns) (nI nc) te sw ex (re + 1) (nI nt) (nI i1) (nI o1) sz la ac (upd kn p (ac p)) ix sp lr mk (ev_ds 32 pl) ln cd sn sg jp jo) :
    wY_reap_37 post (nI p) (nI nj) (nI nw) (nI ns) (nI nc) te sw ex re (nI nt) (nI i1) (nI o1) 33 0 sz la ac kn ix sp lr mk pl ln cd sn sg jp jo := by
  have h := q_r37 hp H1 H2 32 0 (by omega)
  rw [ds_z] at h
  exact h
theorem m_reap (h : fa_F nj nw ns nc nt e0 e1 i0 i1 o0 o1 sw te sz ac kn ix ln pg sg sn ev qu ip op pl cd jp jo) : oo_r (fun post => wpX_reap post (nI nj, nI nw, nI ns, nI nc, nI nt, nI e0, nI e1, nI i0, nI i1, nI o0, nI o1, sw, te, ex, re, sz, la, ac, kn, ix, sp, lr, mk, ln, pg, sg, sn, ev, qu, ip, op)) (fun post => wpY_reap post (nI nj, nI nw, nI ns, nI nc, te, sw, ex, re, nI nt, nI i1, nI o1, sz, la, ac, kn, ix, sp, lr, mk, pl, ln, cd, sn, sg, jp, jo)) := by
  have l0 : ¬ (0 : Int32) ≤ -1 := by decide
  cases e1 with
  | zero =>
    have hE := h.2.2.2.2.2.2.2.2.2.2.1
    have hn : ∀ q, 0 ≤ q → q < 32 → ¬ pl q = nI 1 := by
      intro q _ hq w
      rcases hE.2.1 q hq with ⟨_, d⟩ | ⟨_, i, hi, _⟩
      · rw [d] at w; exact nI_ne0 (n := 1) (by omega) (by omega) w.symm
      · omega
    exact ⟨-4, (nI nj, nI nw, nI ns, nI nc, nI nt, nI e0, nI 0, nI i0, nI i1, nI o0, nI o1, sw, te, ex, re, sz, la, ac, kn, ix, sp, lr, mk, ln, pg, sg, sn, ev, qu, ip, op), (nI nj, nI nw, nI ns, nI nc, te, sw, ex, re, nI nt, nI i1, nI o1, sz, la, ac, kn, ix, sp, lr, mk, pl, ln, cd, sn, sg, jp, jo), fa_in h, fun post hp => br_t nI_0 hp, fun post hp => Exists.intro 33 (q_r4a (br_f l0 hp) 32 0 (by omega) hn)⟩
  | succ m =>
    obtain ⟨hN, hS, hT, hZ, hL, hP, hC, hK, hI, hO, hE, hD⟩ := h
    have hN' := hN
    unfold fa_N at hN'
    have l := ev_l hE
    obtain ⟨p, hp32, a, b, un, hE'⟩ := ev_pop hE (by omega)
    have c : ¬ nI (m + 1) = 0 := nI_ne0 (by omega) (by omega)
    have hin : vp_in (nI p) 32 := vp_in_nI hp32 (by omega)
    have cl : (nI p).toNatClampNeg = p := nI_clamp (by omega)
    have ea : ev (nI e0).toNatClampNeg = nI p := by rw [nI_clamp (by omega)]; exact a
    have eq : upd qu (nI p).toNatClampNeg (vp_nar .boolean 0) = upd qu p 0 := by rw [cl]; rfl
    have ec : ac (nI p).toNatClampNeg = ac p := by rw [cl]
    have ek : upd kn (nI p).toNatClampNeg (ac p) = upd kn p (ac p) := by rw [cl]
    have zr : ∀ q, pl q = 0 → ev_ds 32 pl q = 0 := fun q z => by rw [ds_0 (by rw [z]; exact ev_00)]; exact z
    have hD' : fa_D sz ac (upd kn p (ac p)) (ev_ds 32 pl) := by
      refine ⟨fun q hq hk => ?_, fun i k hi hk hs => zr _ (hD.2 i k hi hk hs)⟩
      by_cases e : q = p
      · subst e
        rw [pk_us] at hk
        exact ⟨hk, by rw [ds_n hq (i := 0) (by omega) b, nI_0]⟩
      · rw [pk_un e] at hk
        exact ⟨(hD.1 q hq hk).1, zr _ (hD.1 q hq hk).2⟩
    have h5 : fa_F nj nw ns nc nt ((e0 + 1) % 32) m i0 i1 o0 o1 sw te sz ac (upd kn p (ac p)) ix ln pg sg sn ev (upd qu p 0) ip op (ev_ds 32 pl) cd jp jo := ⟨by unfold fa_N; omega, hS, hT, hZ, hL, hP, hC, hK, hI, hO, hE', hD'⟩
    by_cases w : ac p < 1000
    · obtain ⟨r, u, v, R, x, y⟩ := q_r81 (nj := nj) (nw := nw) (ns := ns) (nc := nc) (nt := nt) (e0 := (e0 + 1) % 32) (e1 := m) (i0 := i0) (i1 := i1) (o0 := o0) (o1 := o1) (sw := sw) (te := te) (ex := ex) (re := re) (sz := sz) (la := la) (ac := ac) (kn := upd kn p (ac p)) (ix := ix) (sp := sp) (lr := lr) (mk := mk) (ln := ln) (pg := pg) (sg := sg) (sn := sn) (ev := ev) (qu := upd qu p 0) (ip := ip) (op := op) (pl := ev_ds 32 pl) (cd := cd) (jp := jp) (jo := jo) (s := ac p) h5 hp32
      exact ⟨r, u, v, R, fun post hp => br_f c (And.intro (vp_in_nI (by omega) (by omega)) (nm_r ea (And.intro rg_n32 (nm_r (rg_321 (by omega)) (nm_r (nI_pred m) (And.intro hin (nm_r eq (And.intro hin (nm_r ec (And.intro hin (nm_r ek (br_t w (x post hp))))))))))))),
        fun post hp => Exists.intro 33 (q_r4b hp32 b un (Exists.intro 33 (q_r370 hp32 (fun _ => y post hp) (fun z => absurd w z))) 32 0 (-1) (by omega) (by omega))⟩
    · obtain ⟨r, u, v, R, x, y⟩ := q_r81 (nj := nj) (nw := nw) (ns := ns) (nc := nc) (nt := nt) (e0 := (e0 + 1) % 32) (e1 := m) (i0 := i0) (i1 := i1) (o0 := o0) (o1 := o1) (sw := sw) (te := te) (ex := ex) (re := re + 1) (sz := sz) (la := la) (ac := ac) (kn := upd kn p (ac p)) (ix := ix) (sp := sp) (lr := lr) (mk := mk) (ln := ln) (pg := pg) (sg := sg) (sn := sn) (ev := ev) (qu := upd qu p 0) (ip := ip) (op := op) (pl := ev_ds 32 pl) (cd := cd) (jp := jp) (jo := jo) (s := ac p) h5 hp32
      exact ⟨r, u, v, R, fun post hp => br_f c (And.intro (vp_in_nI (by omega) (by omega)) (nm_r ea (And.intro rg_n32 (nm_r (rg_321 (by omega)) (nm_r (nI_pred m) (And.intro hin (nm_r eq (And.intro hin (nm_r ec (And.intro hin (nm_r ek (br_f w (nm_e (x post hp)))))))))))))),
        fun post hp => Exists.intro 33 (q_r4b hp32 b un (Exists.intro 33 (q_r370 hp32 (fun z => absurd z w) (fun _ => y post hp))) 32 0 (-1) (by omega) (by omega))⟩
end
end
section
/-! the methods that only answer -/
def oo_q (A B : (Int32 → Prop) → Prop) : Prop := ∃ r : Int32, (∀ post : Int32 → Prop, post r → A post) ∧ (∀ post : Int32 → Prop, post r → B post)
theorem oo_qf {A B : (Int32 → Prop) → Prop} {C : Prop} (h : oo_q A B) (hc : C) : A (fun r => B (fun r' => r' = r ∧ C)) := by
  obtain ⟨r, a, b⟩ := h
  exact a _ (b _ ⟨rfl, hc⟩)
section
variable {nj nw ns nc nt e0 e1 i0 i1 o0 o1 : Nat} {sw te ex re : Int32} {sz la ac kn ix sp lr mk ln pg sg sn ev qu ip op pl cd jp jo : Nat → Int32}
theorem m_jobStatus (h : fa_F nj nw ns nc nt e0 e1 i0 i1 o0 o1 sw te sz ac kn ix ln pg sg sn ev qu ip op pl cd jp jo) (v1 : Int32) : oo_q (fun post => wpX_jobStatus post (nI nj, nI nw, nI ns, nI nc, nI nt, nI e0, nI e1, nI i0, nI i1, nI o0, nI o1, sw, te, ex, re, sz, la, ac, kn, ix, sp, lr, mk, ln, pg, sg, sn, ev, qu, ip, op) v1) (fun post => wpY_jobStatus post (nI nj, nI nw, nI ns, nI nc, te, sw, ex, re, nI nt, nI i1, nI o1, sz, la, ac, kn, ix, sp, lr, mk, pl, ln, cd, sn, sg, jp, jo) v1) := by
  have n10 : ¬ (1 : Int32) = 0 := by decide
  rcases q_job (nj := nj) (nw := nw) (ns := ns) (nc := nc) (nt := nt) (e0 := e0) (e1 := e1) (i0 := i0) (i1 := i1) (o0 := o0) (o1 := o1) (sw := sw) (te := te) (ex := ex) (re := re) (sz := sz) (la := la) (ac := ac) (kn := kn) (ix := ix) (sp := sp) (lr := lr) (mk := mk) (ln := ln) (pg := pg) (sg := sg) (sn := sn) (ev := ev) (qu := qu) (ip := ip) (op := op) (pl := pl) (cd := cd) (jp := jp) (jo := jo) v1 h.1.1 with ⟨a, b⟩ | ⟨j, hj, rfl, hl, hn, a, b⟩
  · exact ⟨-4, fun post hp => by unfold wpX_jobStatus; exact a _ (br_t rfl hp), fun post hp => by unfold wpY_jobStatus; exact b _ (br_t rfl hp)⟩
  · obtain ⟨r, f, g, _⟩ := q_st (nj := nj) (nw := nw) (ns := ns) (nc := nc) (nt := nt) (e0 := e0) (e1 := e1) (i0 := i0) (i1 := i1) (o0 := o0) (o1 := o1) (sw := sw) (te := te) (ex := ex) (re := re) (sz := sz) (la := la) (ac := ac) (kn := kn) (ix := ix) (sp := sp) (lr := lr) (mk := mk) (ln := ln) (pg := pg) (sg := sg) (sn := sn) (ev := ev) (qu := qu) (ip := ip) (op := op) (pl := pl) (cd := cd) (jp := jp) (jo := jo) hj h.2.2.2.1
    exact ⟨r, fun post hp => by unfold wpX_jobStatus; exact a _ (br_f n10 (f _ hp)), fun post hp => by unfold wpY_jobStatus; exact b _ (br_f n10 (g _ hp))⟩
/-- the indexed part of look -/
theorem m_li (h : fa_F nj nw ns nc nt e0 e1 i0 i1 o0 o1 sw te sz ac kn ix ln pg sg sn ev qu ip op pl cd jp jo) (v1 v2 : Int32) (hX : v1 < 0 ∨ 6 < v1) (n0 : ¬ v1 = 0) (n1 : ¬ v1 = 1) (n2 : ¬ v1 = 2) (n3 : ¬ v1 = 3) (n4 : ¬ v1 = 4) (n5 : ¬ v1 = 5) (n6 : ¬ v1 = 6) :
    oo_q (fun post => wpX_look post (nI nj, nI nw, nI ns, nI nc, nI nt, nI e0, nI e1, nI i0, nI i1, nI o0, nI o1, sw, te, ex, re, sz, la, ac, kn, ix, sp, lr, mk, ln, pg, sg, sn, ev, qu, ip, op) v1 v2) (fun post => wpY_look post (nI nj, nI nw, nI ns, nI nc, te, sw, ex, re, nI nt, nI i1, nI o1, sz, la, ac, kn, ix, sp, lr, mk, pl, ln, cd, sn, sg, jp, jo) v1 v2) := by
  have n10 : ¬ (1 : Int32) = 0 := by decide
  have fX : ∀ post : Int32 → Prop, wpX_lookIndexed post (nI nj, nI nw, nI ns, nI nc, nI nt, nI e0, nI e1, nI i0, nI i1, nI o0, nI o1, sw, te, ex, re, sz, la, ac, kn, ix, sp, lr, mk, ln, pg, sg, sn, ev, qu, ip, op) v1 v2 → wpX_look post (nI nj, nI nw, nI ns, nI nc, nI nt, nI e0, nI e1, nI i0, nI i1, nI o0, nI o1, sw, te, ex, re, sz, la, ac, kn, ix, sp, lr, mk, ln, pg, sg, sn, ev, qu, ip, op) v1 v2 := by
    intro post w
    by_cases c : v1 < 0
    · exact br_t c w
    · exact br_f c (br_t (hX.resolve_left c) w)
  obtain ⟨hN, hS, hT, hZ, hL, hP, hC, hK, hI, hO, hE, hD⟩ := h
  have hN' := hN
  unfold fa_N at hN'
  by_cases z : v2 < 0
  · have z' : ¬ 0 ≤ v2 := Int32.not_le.mpr z
    refine ⟨-4, fun post hp => fX _ (br_f z' hp), fun post hp => ?_⟩
    by_cases c7 : v1 = 7
    · have c8 : ¬ v1 = 8 := by rw [c7]; decide
      have c9 : ¬ v1 = 9 := by rw [c7]; decide
      exact br_f n0 (br_f n1 (br_f n2 (br_f n3 (br_f n4 (br_f n5 (br_f n6 (br_t c7 (br_t z (br_f c8 (br_f c9 hp))))))))))
    · by_cases c8 : v1 = 8
      · have c9 : ¬ v1 = 9 := by rw [c8]; decide
        exact br_f n0 (br_f n1 (br_f n2 (br_f n3 (br_f n4 (br_f n5 (br_f n6 (br_f c7 (br_t c8 (br_t z (br_f c9 hp))))))))))
      · by_cases c9 : v1 = 9
        · exact br_f n0 (br_f n1 (br_f n2 (br_f n3 (br_f n4 (br_f n5 (br_f n6 (br_f c7 (br_f c8 (br_t c9 (br_t z (br_t rfl hp)))))))))))
        · exact br_f n0 (br_f n1 (br_f n2 (br_f n3 (br_f n4 (br_f n5 (br_f n6 (br_f c7 (br_f c8 (br_f c9 hp)))))))))
  · have z' : 0 ≤ v2 := Int32.not_lt.mp z
    by_cases c7 : v1 = 7
    · have c8 : ¬ v1 = 8 := by rw [c7]; decide
      have c9 : ¬ v1 = 9 := by rw [c7]; decide
      by_cases s : nI nt ≤ v2
      · exact ⟨-4, fun post hp => fX _ (br_t z' (br_t c7 (br_t s (br_f c8 (br_f c9 hp))))), fun post hp => br_f n0 (br_f n1 (br_f n2 (br_f n3 (br_f n4 (br_f n5 (br_f n6 (br_t c7 (br_f z (br_t s (br_f c8 (br_f c9 hp)))))))))))⟩
      · have hin : vp_in v2 4 := by
          obtain ⟨q, hq, rfl⟩ := nI_of z
          rw [nI_leI (by omega) hq] at s
          exact vp_in_nI (by omega) (by omega)
        exact ⟨_, fun post hp => fX _ (br_t z' (br_t c7 (br_f s (And.intro hin hp)))), fun post hp => br_f n0 (br_f n1 (br_f n2 (br_f n3 (br_f n4 (br_f n5 (br_f n6 (br_t c7 (br_f z (br_f s (And.intro hin hp))))))))))⟩
    · by_cases c8 : v1 = 8
      · have c9 : ¬ v1 = 9 := by rw [c8]; decide
        by_cases s : nI i1 ≤ v2
        · exact ⟨-4, fun post hp => fX _ (br_t z' (br_f c7 (br_t c8 (br_t s (br_f c9 hp))))), fun post hp => br_f n0 (br_f n1 (br_f n2 (br_f n3 (br_f n4 (br_f n5 (br_f n6 (br_f c7 (br_t c8 (br_f z (br_t s (br_f c9 hp)))))))))))⟩
        · obtain ⟨q, hq, rfl⟩ := nI_of z
          have s' := s
          rw [nI_leI (by omega) hq] at s'
          have er := rg_16 (a := i0) (b := q) (by omega) (by omega)
          have e : ip ((nI i0 + nI q) - (nI i0 + nI q) / 16 * 16).toNatClampNeg = jp (nI q).toNatClampNeg := by
            rw [er, nI_clamp (by omega), nI_clamp (by omega)]; exact hI q (by omega)
          exact ⟨jp (nI q).toNatClampNeg, fun post hp => fX _ (br_t z' (br_f c7 (br_t c8 (br_f s (And.intro rg_n16 (And.intro (by rw [er]; exact vp_in_nI (by omega) (by omega)) (by rw [e]; exact hp))))))),
            fun post hp => br_f n0 (br_f n1 (br_f n2 (br_f n3 (br_f n4 (br_f n5 (br_f n6 (br_f c7 (br_t c8 (br_f z (br_f s (And.intro (vp_in_nI (by omega) (by omega)) hp)))))))))))⟩
      · by_cases c9 : v1 = 9
        · rcases q_job (nj := nj) (nw := nw) (ns := ns) (nc := nc) (nt := nt) (e0 := e0) (e1 := e1) (i0 := i0) (i1 := i1) (o0 := o0) (o1 := o1) (sw := sw) (te := te) (ex := ex) (re := re) (sz := sz) (la := la) (ac := ac) (kn := kn) (ix := ix) (sp := sp) (lr := lr) (mk := mk) (ln := ln) (pg := pg) (sg := sg) (sn := sn) (ev := ev) (qu := qu) (ip := ip) (op := op) (pl := pl) (cd := cd) (jp := jp) (jo := jo) v2 hN.1 with ⟨a, b⟩ | ⟨j, hj, rfl, hl, hn, a, b⟩
          · exact ⟨-4, fun post hp => fX _ (br_t z' (br_f c7 (br_f c8 (br_t c9 (a _ (br_t rfl hp)))))), fun post hp => br_f n0 (br_f n1 (br_f n2 (br_f n3 (br_f n4 (br_f n5 (br_f n6 (br_f c7 (br_f c8 (br_t c9 (b _ (br_t rfl hp)))))))))))⟩
          · have hin : vp_in (nI j) 8 := vp_in_nI hj (by omega)
            exact ⟨_, fun post hp => fX _ (br_t z' (br_f c7 (br_f c8 (br_t c9 (a _ (br_f n10 (And.intro hin hp))))))), fun post hp => br_f n0 (br_f n1 (br_f n2 (br_f n3 (br_f n4 (br_f n5 (br_f n6 (br_f c7 (br_f c8 (br_t c9 (b _ (br_f n10 (And.intro hin hp))))))))))))⟩
        · exact ⟨-4, fun post hp => fX _ (br_t z' (br_f c7 (br_f c8 (br_f c9 hp)))), fun post hp => br_f n0 (br_f n1 (br_f n2 (br_f n3 (br_f n4 (br_f n5 (br_f n6 (br_f c7 (br_f c8 (br_f c9 hp)))))))))⟩
theorem m_look (h : fa_F nj nw ns nc nt e0 e1 i0 i1 o0 o1 sw te sz ac kn ix ln pg sg sn ev qu ip op pl cd jp jo) (v1 v2 : Int32) : oo_q (fun post => wpX_look post (nI nj, nI nw, nI ns, nI nc, nI nt, nI e0, nI e1, nI i0, nI i1, nI o0, nI o1, sw, te, ex, re, sz, la, ac, kn, ix, sp, lr, mk, ln, pg, sg, sn, ev, qu, ip, op) v1 v2) (fun post => wpY_look post (nI nj, nI nw, nI ns, nI nc, te, sw, ex, re, nI nt, nI i1, nI o1, sz, la, ac, kn, ix, sp, lr, mk, pl, ln, cd, sn, sg, jp, jo) v1 v2) := by
  by_cases n0 : v1 = 0
  · have a : ¬ v1 < 0 := by rw [n0]; decide
    have b : ¬ 6 < v1 := by rw [n0]; decide
    have eE : cn_c pl 32 = e1 := h.2.2.2.2.2.2.2.2.2.2.1.2.2
    exact ⟨nI e1, fun post hp => br_f a (br_f b (br_t n0 hp)), fun post hp => br_t n0 (q_qd (by rw [eE]; exact hp))⟩
  by_cases n1 : v1 = 1
  · have a : ¬ v1 < 0 := by rw [n1]; decide
    have b : ¬ 6 < v1 := by rw [n1]; decide
    exact ⟨nI i1, fun post hp => br_f a (br_f b (br_f n0 (br_t n1 hp))), fun post hp => br_f n0 (br_t n1 hp)⟩
  by_cases n2 : v1 = 2
  · have a : ¬ v1 < 0 := by rw [n2]; decide
    have b : ¬ 6 < v1 := by rw [n2]; decide
    exact ⟨nI o1, fun post hp => br_f a (br_f b (br_f n0 (br_f n1 (br_t n2 hp)))), fun post hp => br_f n0 (br_f n1 (br_t n2 hp))⟩
  by_cases n3 : v1 = 3
  · have a : ¬ v1 < 0 := by rw [n3]; decide
    have b : ¬ 6 < v1 := by rw [n3]; decide
    rcases h.2.1 with s | s
    · exact ⟨sw, fun post hp => br_f a (br_f b (br_f n0 (br_f n1 (br_f n2 (br_t n3 (br_t s (by rw [s] at hp; exact hp))))))), fun post hp => br_f n0 (br_f n1 (br_f n2 (br_t n3 hp)))⟩
    · have s0 : ¬ sw = 0 := by rw [s]; decide
      exact ⟨sw, fun post hp => br_f a (br_f b (br_f n0 (br_f n1 (br_f n2 (br_t n3 (br_f s0 (by rw [s] at hp; exact hp))))))), fun post hp => br_f n0 (br_f n1 (br_f n2 (br_t n3 hp)))⟩
  by_cases n4 : v1 = 4
  · have a : ¬ v1 < 0 := by rw [n4]; decide
    have b : ¬ 6 < v1 := by rw [n4]; decide
    exact ⟨ex, fun post hp => br_f a (br_f b (br_f n0 (br_f n1 (br_f n2 (br_f n3 (br_t n4 hp)))))), fun post hp => br_f n0 (br_f n1 (br_f n2 (br_f n3 (br_t n4 hp))))⟩
  by_cases n5 : v1 = 5
  · have a : ¬ v1 < 0 := by rw [n5]; decide
    have b : ¬ 6 < v1 := by rw [n5]; decide
    exact ⟨re, fun post hp => br_f a (br_f b (br_f n0 (br_f n1 (br_f n2 (br_f n3 (br_f n4 (br_t n5 hp))))))), fun post hp => br_f n0 (br_f n1 (br_f n2 (br_f n3 (br_f n4 (br_t n5 hp)))))⟩
  by_cases n6 : v1 = 6
  · have a : ¬ v1 < 0 := by rw [n6]; decide
    have b : ¬ 6 < v1 := by rw [n6]; decide
    exact ⟨nI nt, fun post hp => br_f a (br_f b (br_f n0 (br_f n1 (br_f n2 (br_f n3 (br_f n4 (br_f n5 (br_t n6 hp)))))))), fun post hp => br_f n0 (br_f n1 (br_f n2 (br_f n3 (br_f n4 (br_f n5 (br_t n6 hp))))))⟩
  refine m_li h v1 v2 ?_ n0 n1 n2 n3 n4 n5 n6
  by_cases c : v1 < 0
  · exact Or.inl c
  · obtain ⟨q, hq, rfl⟩ := nI_of c
    refine Or.inr (nI_lt (a := 6) ?_ hq)
    have t0 : q ≠ 0 := fun e => n0 (by rw [e]; rfl)
    have t1 : q ≠ 1 := fun e => n1 (by rw [e]; rfl)
    have t2 : q ≠ 2 := fun e => n2 (by rw [e]; rfl)
    have t3 : q ≠ 3 := fun e => n3 (by rw [e]; rfl)
    have t4 : q ≠ 4 := fun e => n4 (by rw [e]; rfl)
    have t5 : q ≠ 5 := fun e => n5 (by rw [e]; rfl)
    have t6 : q ≠ 6 := fun e => n6 (by rw [e]; rfl)
    omega
end
end
section
/-! process -/
section
variable {nj nw ns nc nt e0 e1 i0 i1 o0 o1 : Nat} {sw te ex re : Int32} {sz la ac kn ix sp lr mk ln pg sg sn ev qu ip op pl cd jp jo : Nat → Int32}
theorem m_process (h : fa_F nj nw ns nc nt e0 e1 i0 i1 o0 o1 sw te sz ac kn ix ln pg sg sn ev qu ip op pl cd jp jo) (v1 v2 v3 : Int32) : oo_q (fun post => wpX_process post (nI nj, nI nw, nI ns, nI nc, nI nt, nI e0, nI e1, nI i0, nI i1, nI o0, nI o1, sw, te, ex, re, sz, la, ac, kn, ix, sp, lr, mk, ln, pg, sg, sn, ev, qu, ip, op) v1 v2 v3) (fun post => wpY_process post (nI nj, nI nw, nI ns, nI nc, te, sw, ex, re, nI nt, nI i1, nI o1, sz, la, ac, kn, ix, sp, lr, mk, pl, ln, cd, sn, sg, jp, jo) v1 v2 v3) := by
  have n10 : ¬ (1 : Int32) = 0 := by decide
  obtain ⟨hN, hS, hT, hZ, hL, hP, hC, hK, hI, hO, hE, hD⟩ := h
  rcases q_job (nj := nj) (nw := nw) (ns := ns) (nc := nc) (nt := nt) (e0 := e0) (e1 := e1) (i0 := i0) (i1 := i1) (o0 := o0) (o1 := o1) (sw := sw) (te := te) (ex := ex) (re := re) (sz := sz) (la := la) (ac := ac) (kn := kn) (ix := ix) (sp := sp) (lr := lr) (mk := mk) (ln := ln) (pg := pg) (sg := sg) (sn := sn) (ev := ev) (qu := qu) (ip := ip) (op := op) (pl := pl) (cd := cd) (jp := jp) (jo := jo) v1 hN.1 with ⟨a, b⟩ | ⟨j, hj, rfl, hl, hn, a, b⟩
  · exact ⟨-4, fun post hp => by unfold wpX_process; exact a _ (br_t rfl hp), fun post hp => by unfold wpY_process; exact b _ (br_t rfl hp)⟩
  have hin8 : vp_in (nI j) 8 := vp_in_nI hj (by omega)
  by_cases k0 : v2 < 0
  · exact ⟨-4, fun post hp => by unfold wpX_process; exact a _ (br_f n10 (br_t k0 hp)), fun post hp => by unfold wpY_process; exact b _ (br_f n10 (br_t k0 hp))⟩
  by_cases ks : v2 < sz (nI j).toNatClampNeg
  rotate_left
  · exact ⟨-4, fun post hp => by unfold wpX_process; exact a _ (br_f n10 (br_f k0 (And.intro hin8 (br_f ks hp)))), fun post hp => by unfold wpY_process; exact b _ (br_f n10 (br_f k0 (And.intro hin8 (br_f ks hp))))⟩
  obtain ⟨k, hk, rfl⟩ := nI_of k0
  have hk4 : k < 4 := by
    obtain ⟨s, hs, es⟩ := hZ j hj
    have q := ks
    rw [nI_clamp (by omega), es, nI_ltI hk (by omega)] at q
    omega
  have hin : vp_in (nI (j * 4 + k)) 32 := vp_in_nI (by omega) (by omega)
  have cl : (nI (j * 4 + k)).toNatClampNeg = j * 4 + k := nI_clamp (by omega)
  by_cases z0 : v3 < 0
  · exact ⟨-4, fun post hp => by unfold wpX_process; exact a _ (br_f n10 (br_f k0 (And.intro hin8 (br_t ks (nm_r (sl_e j k) (br_t (Int32.lt_trans z0 (by decide)) (br_t z0 hp))))))), fun post hp => by unfold wpY_process; exact b _ (br_f n10 (br_f k0 (And.intro hin8 (br_t ks (br_t z0 hp)))))⟩
  by_cases z15 : v3 ≤ 15
  rotate_left
  · have w15 : 15 < v3 := Int32.not_le.mp z15
    have w8 : ¬ v3 < 8 := fun q => z15 (Int32.le_of_lt (Int32.lt_trans q (by decide)))
    have w6 : 6 < v3 := Int32.lt_trans (by decide) w15
    have w7 : ¬ v3 = 7 := fun q => z15 (by rw [q]; decide)
    exact ⟨-4, fun post hp => by unfold wpX_process; exact a _ (br_f n10 (br_f k0 (And.intro hin8 (br_t ks (nm_r (sl_e j k) (br_f w8 (br_t w15 (br_f z0 (br_t w6 hp))))))))), fun post hp => by unfold wpY_process; exact b _ (br_f n10 (br_f k0 (And.intro hin8 (br_t ks (br_f z0 (br_f w7 (br_f z15 hp)))))))⟩
  by_cases n0 : v3 = 0
  · have w8 : v3 < 8 := by rw [n0]; decide
    have w6 : ¬ 6 < v3 := by rw [n0]; decide
    have w7 : ¬ v3 = 7 := by rw [n0]; decide
    exact ⟨ac (nI (j * 4 + k)).toNatClampNeg, fun post hp => by unfold wpX_process; exact a _ (br_f n10 (br_f k0 (And.intro hin8 (br_t ks (nm_r (sl_e j k) (br_t w8 (br_f z0 (br_f w6 (br_t n0 (And.intro hin hp)))))))))), fun post hp => by unfold wpY_process; exact b _ (br_f n10 (br_f k0 (And.intro hin8 (br_t ks (br_f z0 (br_f w7 (br_t z15 (nm_r (sl_e j k) (br_t n0 (And.intro hin hp))))))))))⟩
  by_cases n1 : v3 = 1
  · have w8 : v3 < 8 := by rw [n1]; decide
    have w6 : ¬ 6 < v3 := by rw [n1]; decide
    have w7 : ¬ v3 = 7 := by rw [n1]; decide
    exact ⟨kn (nI (j * 4 + k)).toNatClampNeg, fun post hp => by unfold wpX_process; exact a _ (br_f n10 (br_f k0 (And.intro hin8 (br_t ks (nm_r (sl_e j k) (br_t w8 (br_f z0 (br_f w6 (br_f n0 (br_t n1 (And.intro hin hp))))))))))), fun post hp => by unfold wpY_process; exact b _ (br_f n10 (br_f k0 (And.intro hin8 (br_t ks (br_f z0 (br_f w7 (br_t z15 (nm_r (sl_e j k) (br_f n0 (br_t n1 (And.intro hin hp)))))))))))⟩
  by_cases n2 : v3 = 2
  · have w8 : v3 < 8 := by rw [n2]; decide
    have w6 : ¬ 6 < v3 := by rw [n2]; decide
    have w7 : ¬ v3 = 7 := by rw [n2]; decide
    exact ⟨lr (nI (j * 4 + k)).toNatClampNeg, fun post hp => by unfold wpX_process; exact a _ (br_f n10 (br_f k0 (And.intro hin8 (br_t ks (nm_r (sl_e j k) (br_t w8 (br_f z0 (br_f w6 (br_f n0 (br_f n1 (br_t n2 (And.intro hin hp)))))))))))), fun post hp => by unfold wpY_process; exact b _ (br_f n10 (br_f k0 (And.intro hin8 (br_t ks (br_f z0 (br_f w7 (br_t z15 (nm_r (sl_e j k) (br_f n0 (br_f n1 (br_t n2 (And.intro hin hp))))))))))))⟩
  by_cases n3 : v3 = 3
  · have w8 : v3 < 8 := by rw [n3]; decide
    have w6 : ¬ 6 < v3 := by rw [n3]; decide
    have w7 : ¬ v3 = 7 := by rw [n3]; decide
    exact ⟨ix (nI (j * 4 + k)).toNatClampNeg, fun post hp => by unfold wpX_process; exact a _ (br_f n10 (br_f k0 (And.intro hin8 (br_t ks (nm_r (sl_e j k) (br_t w8 (br_f z0 (br_f w6 (br_f n0 (br_f n1 (br_f n2 (br_t n3 (And.intro hin hp))))))))))))), fun post hp => by unfold wpY_process; exact b _ (br_f n10 (br_f k0 (And.intro hin8 (br_t ks (br_f z0 (br_f w7 (br_t z15 (nm_r (sl_e j k) (br_f n0 (br_f n1 (br_f n2 (br_t n3 (And.intro hin hp)))))))))))))⟩
  by_cases n4 : v3 = 4
  · have w8 : v3 < 8 := by rw [n4]; decide
    have w6 : ¬ 6 < v3 := by rw [n4]; decide
    have w7 : ¬ v3 = 7 := by rw [n4]; decide
    exact ⟨sp (nI (j * 4 + k)).toNatClampNeg, fun post hp => by unfold wpX_process; exact a _ (br_f n10 (br_f k0 (And.intro hin8 (br_t ks (nm_r (sl_e j k) (br_t w8 (br_f z0 (br_f w6 (br_f n0 (br_f n1 (br_f n2 (br_f n3 (br_t n4 (And.intro hin hp)))))))))))))), fun post hp => by unfold wpY_process; exact b _ (br_f n10 (br_f k0 (And.intro hin8 (br_t ks (br_f z0 (br_f w7 (br_t z15 (nm_r (sl_e j k) (br_f n0 (br_f n1 (br_f n2 (br_f n3 (br_t n4 (And.intro hin hp))))))))))))))⟩
  by_cases n5 : v3 = 5
  · have w8 : v3 < 8 := by rw [n5]; decide
    have w6 : ¬ 6 < v3 := by rw [n5]; decide
    have w7 : ¬ v3 = 7 := by rw [n5]; decide
    exact ⟨mk (nI (j * 4 + k)).toNatClampNeg, fun post hp => by unfold wpX_process; exact a _ (br_f n10 (br_f k0 (And.intro hin8 (br_t ks (nm_r (sl_e j k) (br_t w8 (br_f z0 (br_f w6 (br_f n0 (br_f n1 (br_f n2 (br_f n3 (br_f n4 (br_t n5 (And.intro hin hp))))))))))))))), fun post hp => by unfold wpY_process; exact b _ (br_f n10 (br_f k0 (And.intro hin8 (br_t ks (br_f z0 (br_f w7 (br_t z15 (nm_r (sl_e j k) (br_f n0 (br_f n1 (br_f n2 (br_f n3 (br_f n4 (br_t n5 (And.intro hin hp)))))))))))))))⟩
  by_cases n6 : v3 = 6
  · have w8 : v3 < 8 := by rw [n6]; decide
    have w6 : ¬ 6 < v3 := by rw [n6]; decide
    have w7 : ¬ v3 = 7 := by rw [n6]; decide
    exact ⟨pl (j * 4 + k), fun post hp => by unfold wpX_process; exact a _ (br_f n10 (br_f k0 (And.intro hin8 (br_t ks (nm_r (sl_e j k) (br_t w8 (br_f z0 (br_f w6 (br_f n0 (br_f n1 (br_f n2 (br_f n3 (br_f n4 (br_f n5 (br_t n6 (q_qp hE hN.2.2.2.2.2.2.1 (by omega) hp)))))))))))))))), fun post hp => by unfold wpY_process; exact b _ (br_f n10 (br_f k0 (And.intro hin8 (br_t ks (br_f z0 (br_f w7 (br_t z15 (nm_r (sl_e j k) (br_f n0 (br_f n1 (br_f n2 (br_f n3 (br_f n4 (br_f n5 (br_t n6 (And.intro hin (by rw [cl]; exact hp)))))))))))))))))⟩
  by_cases w7 : v3 = 7
  · have w8 : v3 < 8 := by rw [w7]; decide
    have w6 : 6 < v3 := by rw [w7]; decide
    exact ⟨-4, fun post hp => by unfold wpX_process; exact a _ (br_f n10 (br_f k0 (And.intro hin8 (br_t ks (nm_r (sl_e j k) (br_t w8 (br_f z0 (br_t w6 hp)))))))), fun post hp => by unfold wpY_process; exact b _ (br_f n10 (br_f k0 (And.intro hin8 (br_t ks (br_f z0 (br_t w7 hp))))))⟩
  obtain ⟨f, hf, rfl⟩ := nI_of2 (M := 15) (n := 15) (by decide) z0 z15
  have t0 : f ≠ 0 := fun e => n0 (by rw [e]; rfl)
  have t1 : f ≠ 1 := fun e => n1 (by rw [e]; rfl)
  have t2 : f ≠ 2 := fun e => n2 (by rw [e]; rfl)
  have t3 : f ≠ 3 := fun e => n3 (by rw [e]; rfl)
  have t4 : f ≠ 4 := fun e => n4 (by rw [e]; rfl)
  have t5 : f ≠ 5 := fun e => n5 (by rw [e]; rfl)
  have t6 : f ≠ 6 := fun e => n6 (by rw [e]; rfl)
  have t7 : f ≠ 7 := fun e => w7 (by rw [e]; rfl)
  obtain ⟨i, rfl⟩ : ∃ i, f = i + 8 := ⟨f - 8, by omega⟩
  have w8 : ¬ nI (i + 8) < 8 := nI_nlt (b := 8) (by omega) (by omega)
  have w15 : ¬ 15 < nI (i + 8) := nI_nlt (a := 15) (by omega) (by omega)
  have e8 : nI (i + 8) - 8 = nI i := by
    have q := pk_sub (a := i + 8) (b := 8) (by omega)
    rw [Nat.add_sub_cancel] at q
    exact q
  have ei : nI (j * 4 + k) * 8 + nI i = nI ((j * 4 + k) * 8 + i) := cp_ix (j * 4 + k) i
  have ej : nI (j * 4 + k) * 8 + nI (i + 8) - 8 = nI ((j * 4 + k) * 8 + i) := by
    rw [cp_ix]
    have q := pk_sub (a := (j * 4 + k) * 8 + (i + 8)) (b := 8) (by omega)
    rw [show (j * 4 + k) * 8 + (i + 8) - 8 = (j * 4 + k) * 8 + i by omega] at q
    exact q
  have hin2 : vp_in (nI ((j * 4 + k) * 8 + i)) 256 := vp_in_nI (by omega) (by omega)
  by_cases c : ln (nI (j * 4 + k)).toNatClampNeg ≤ nI i
  · exact ⟨0, fun post hp => by unfold wpX_process; exact a _ (br_f n10 (br_f k0 (And.intro hin8 (br_t ks (nm_r (sl_e j k) (br_f w8 (br_f w15 (nm_r e8 (And.intro hin (br_t c hp)))))))))), fun post hp => by unfold wpY_process; exact b _ (br_f n10 (br_f k0 (And.intro hin8 (br_t ks (br_f z0 (br_f w7 (br_t z15 (nm_r (sl_e j k) (br_f n0 (br_f n1 (br_f n2 (br_f n3 (br_f n4 (br_f n5 (br_f n6 (And.intro hin (br_t (by rw [e8]; exact c) hp)))))))))))))))))⟩
  · have cc : pg ((j * 4 + k) * 8 + i) = cd ((j * 4 + k) * 8 + i) := by
      rw [cl] at c
      exact hC (j * 4 + k) i (by omega) (by omega) (Int32.not_le.mp c)
    exact ⟨pg ((j * 4 + k) * 8 + i), fun post hp => by unfold wpX_process; exact a _ (br_f n10 (br_f k0 (And.intro hin8 (br_t ks (nm_r (sl_e j k) (br_f w8 (br_f w15 (nm_r e8 (And.intro hin (br_f c (And.intro (by rw [ei]; exact hin2) (by rw [ei, nI_clamp (by omega)]; exact hp)))))))))))),
      fun post hp => by unfold wpY_process; exact b _ (br_f n10 (br_f k0 (And.intro hin8 (br_t ks (br_f z0 (br_f w7 (br_t z15 (nm_r (sl_e j k) (br_f n0 (br_f n1 (br_f n2 (br_f n3 (br_f n4 (br_f n5 (br_f n6 (And.intro hin (br_f (by rw [e8]; exact c) (And.intro (by rw [ej]; exact hin2) (by rw [ej, nI_clamp (by omega), ← cc]; exact hp)))))))))))))))))))⟩
end
end
section
/-! the constructors -/
theorem q_clp (lim : Nat) (h1 : 1 ≤ lim) (hl : lim < 100) (x : Int32) : ∃ n : Nat, 1 ≤ n ∧ n ≤ lim ∧
    (∀ (post : Int32 → Prop) (nj nw ns nc nt e0 e1 i0 i1 o0 o1 sw te ex re : Int32) (sz la ac kn ix sp lr mk ln pg sg sn ev qu ip op : Nat → Int32), post (nI n) → wpX_clamp post (nj, nw, ns, nc, nt, e0, e1, i0, i1, o0, o1, sw, te, ex, re, sz, la, ac, kn, ix, sp, lr, mk, ln, pg, sg, sn, ev, qu, ip, op) x 1 (nI lim)) ∧ (∀ (post : Int32 → Prop) (nj nw ns nc te sw ex re nt i1 o1 : Int32) (sz la ac kn ix sp lr mk pl ln cd sn sg jp jo : Nat → Int32), post (nI n) → wpY_clamp post (nj, nw, ns, nc, te, sw, ex, re, nt, i1, o1, sz, la, ac, kn, ix, sp, lr, mk, pl, ln, cd, sn, sg, jp, jo) x (nI lim)) := by
  by_cases c : 1 ≤ x
  · by_cases d : x ≤ nI lim
    · obtain ⟨n, hn, rfl⟩ := nI_of (x := x) (fun z => Int32.not_le.mpr (Int32.lt_trans z (by decide)) c)
      have c' := c
      rw [show (1 : Int32) = nI 1 from rfl, nI_leI (by omega) hn] at c'
      have d' := d
      rw [nI_leI hn (by omega)] at d'
      exact ⟨n, c', d', fun _ _ _ _ _ _ _ _ _ _ _ _ _ _ _ _ _ _ _ _ _ _ _ _ _ _ _ _ _ _ _ _ hp => br_t c (br_t d hp), fun _ _ _ _ _ _ _ _ _ _ _ _ _ _ _ _ _ _ _ _ _ _ _ _ _ _ _ hp => br_t c (br_t d hp)⟩
    · exact ⟨lim, h1, Nat.le_refl _, fun _ _ _ _ _ _ _ _ _ _ _ _ _ _ _ _ _ _ _ _ _ _ _ _ _ _ _ _ _ _ _ _ hp => br_t c (br_f d hp), fun _ _ _ _ _ _ _ _ _ _ _ _ _ _ _ _ _ _ _ _ _ _ _ _ _ _ _ hp => br_t c (br_f d hp)⟩
  · exact ⟨1, Nat.le_refl _, h1, fun _ _ _ _ _ _ _ _ _ _ _ _ _ _ _ _ _ _ _ _ _ _ _ _ _ _ _ _ _ _ _ _ hp => br_f c hp, fun _ _ _ _ _ _ _ _ _ _ _ _ _ _ _ _ _ _ _ _ _ _ _ _ _ _ _ hp => br_f c hp⟩
theorem z_cn (n : Nat) : cn_c (fun _ => 0) n = 0 := by
  induction n with
  | zero => rfl
  | succ n ih => exact (cn_t (f := fun _ => 0) (n := n) ev_00).trans ih
theorem z_F {nj nw ns nc : Nat} (a : nj ≤ 8) (b : 1 ≤ nw) (b' : nw ≤ 4) (c : ns ≤ 8) (d : nc ≤ 16) :
    fa_F nj nw ns nc 1 0 0 0 0 0 0 0 (-1) (fun _ => 0) (fun _ => 0) (fun _ => 0) (fun _ => 0) (fun _ => 0) (fun _ => 0) (fun _ => 0) (fun _ => 0) (fun _ => 0) (fun _ => 0) (fun _ => 0) (fun _ => 0) (fun _ => 0) (fun _ => 0) (fun _ => 0) (fun _ => 0) := by
  refine ⟨by unfold fa_N; omega, Or.inl rfl, Or.inl rfl, fun _ _ => ⟨0, by omega, rfl⟩, fun _ _ => ⟨0, by omega, rfl⟩, fun _ _ => ⟨0, 0, by omega, by omega, rfl, rfl⟩, fun _ _ _ _ _ => rfl, ⟨fun _ => kd_0, fun _ => kd_0⟩, fun _ h => by omega, fun _ h => by omega, ⟨fun _ h => by omega, fun _ _ => Or.inl ⟨rfl, rfl⟩, z_cn 32⟩, ⟨fun _ _ h => absurd (show (0 : Int32) < 1000 by decide) h, fun _ _ _ _ _ => rfl⟩⟩
theorem i_vc0 (k0 : Int32) (k1 : Int32) (k2 : Int32) (k3 : Int32) : wpX_init (fun u => wpY_init (fun v => i_Rel 4 u v) k0 k1 k2 k3) k0 k1 k2 k3 := by
  obtain ⟨nj, a1, a2, aX, aY⟩ := q_clp 8 (by omega) (by omega) k0
  obtain ⟨nw, b1, b2, bX, bY⟩ := q_clp 4 (by omega) (by omega) k1
  obtain ⟨ns, c1, c2, cX, cY⟩ := q_clp 8 (by omega) (by omega) k2
  obtain ⟨nc, d1, d2, dX, dY⟩ := q_clp 16 (by omega) (by omega) k3
  unfold wpX_init
  refine aX _ _ _ _ _ _ _ _ _ _ _ _ _ _ _ _ _ _ _ _ _ _ _ _ _ _ _ _ _ _ _ _ ?_
  refine bX _ _ _ _ _ _ _ _ _ _ _ _ _ _ _ _ _ _ _ _ _ _ _ _ _ _ _ _ _ _ _ _ ?_
  refine cX _ _ _ _ _ _ _ _ _ _ _ _ _ _ _ _ _ _ _ _ _ _ _ _ _ _ _ _ _ _ _ _ ?_
  refine dX _ _ _ _ _ _ _ _ _ _ _ _ _ _ _ _ _ _ _ _ _ _ _ _ _ _ _ _ _ _ _ _ ?_
  unfold wpY_init
  refine aY _ _ _ _ _ _ _ _ _ _ _ _ _ _ _ _ _ _ _ _ _ _ _ _ _ _ _ ?_
  refine bY _ _ _ _ _ _ _ _ _ _ _ _ _ _ _ _ _ _ _ _ _ _ _ _ _ _ _ ?_
  refine cY _ _ _ _ _ _ _ _ _ _ _ _ _ _ _ _ _ _ _ _ _ _ _ _ _ _ _ ?_
  refine dY _ _ _ _ _ _ _ _ _ _ _ _ _ _ _ _ _ _ _ _ _ _ _ _ _ _ _ ?_
  exact fa_in (z_F a2 b1 b2 c2 d2)
end
section
/-! what is owed -/
theorem i_vc_add {k : Nat} {u : SX} {v : SY} (I : i_Rel k u v) (hk : k + 4 ≤ 2052) (v1 : Int32) (v2 : Int32) : wpX_add (fun r u' => wpY_add (fun r' v' => r' = r ∧ i_Rel (k + 4) u' v') v v1 v2) u v1 v2 :=
  I (fun u v => wpX_add (fun r u' => wpY_add (fun r' v' => r' = r ∧ i_Rel (k + 4) u' v') v v1 v2) u v1 v2) (fun nj nw ns nc nt e0 e1 i0 i1 o0 o1 sw te ex re sz la ac kn ix sp lr mk ln pg sg sn ev qu ip op pl cd jp jo h => oo_f (m_add h v1 v2))
theorem i_vc_pipe {k : Nat} {u : SX} {v : SY} (I : i_Rel k u v) (hk : k + 4 ≤ 2052) : wpX_pipe (fun r u' => wpY_pipe (fun r' v' => r' = r ∧ i_Rel (k + 4) u' v') v) u :=
  I (fun u v => wpX_pipe (fun r u' => wpY_pipe (fun r' v' => r' = r ∧ i_Rel (k + 4) u' v') v) u) (fun nj nw ns nc nt e0 e1 i0 i1 o0 o1 sw te ex re sz la ac kn ix sp lr mk ln pg sg sn ev qu ip op pl cd jp jo h => oo_f (m_pipe h))
theorem i_vc_launch {k : Nat} {u : SX} {v : SY} (I : i_Rel k u v) (hk : k + 4 ≤ 2052) (v1 : Int32) : wpX_launch (fun r u' => wpY_launch (fun r' v' => r' = r ∧ i_Rel (k + 4) u' v') v v1) u v1 :=
  I (fun u v => wpX_launch (fun r u' => wpY_launch (fun r' v' => r' = r ∧ i_Rel (k + 4) u' v') v v1) u v1) (fun nj nw ns nc nt e0 e1 i0 i1 o0 o1 sw te ex re sz la ac kn ix sp lr mk ln pg sg sn ev qu ip op pl cd jp jo h => oo_f (m_launch h v1))
theorem i_vc_foreground {k : Nat} {u : SX} {v : SY} (I : i_Rel k u v) (hk : k + 4 ≤ 2052) (v1 : Int32) : wpX_foreground (fun r u' => wpY_foreground (fun r' v' => r' = r ∧ i_Rel (k + 4) u' v') v v1) u v1 :=
  I (fun u v => wpX_foreground (fun r u' => wpY_foreground (fun r' v' => r' = r ∧ i_Rel (k + 4) u' v') v v1) u v1) (fun nj nw ns nc nt e0 e1 i0 i1 o0 o1 sw te ex re sz la ac kn ix sp lr mk ln pg sg sn ev qu ip op pl cd jp jo h => oo_f (m_foreground h v1))
theorem i_vc_background {k : Nat} {u : SX} {v : SY} (I : i_Rel k u v) (hk : k + 4 ≤ 2052) (v1 : Int32) : wpX_background (fun r u' => wpY_background (fun r' v' => r' = r ∧ i_Rel (k + 4) u' v') v v1) u v1 :=
  I (fun u v => wpX_background (fun r u' => wpY_background (fun r' v' => r' = r ∧ i_Rel (k + 4) u' v') v v1) u v1) (fun nj nw ns nc nt e0 e1 i0 i1 o0 o1 sw te ex re sz la ac kn ix sp lr mk ln pg sg sn ev qu ip op pl cd jp jo h => oo_f (m_background h v1))
theorem i_vc_signal {k : Nat} {u : SX} {v : SY} (I : i_Rel k u v) (hk : k + 4 ≤ 2052) (v1 : Int32) (v2 : Int32) : wpX_signal (fun r u' => wpY_signal (fun r' v' => r' = r ∧ i_Rel (k + 4) u' v') v v1 v2) u v1 v2 :=
  I (fun u v => wpX_signal (fun r u' => wpY_signal (fun r' v' => r' = r ∧ i_Rel (k + 4) u' v') v v1 v2) u v1 v2) (fun nj nw ns nc nt e0 e1 i0 i1 o0 o1 sw te ex re sz la ac kn ix sp lr mk ln pg sg sn ev qu ip op pl cd jp jo h => oo_f (m_signal h v1 v2))
theorem i_vc_key {k : Nat} {u : SX} {v : SY} (I : i_Rel k u v) (hk : k + 4 ≤ 2052) (v1 : Int32) : wpX_key (fun r u' => wpY_key (fun r' v' => r' = r ∧ i_Rel (k + 4) u' v') v v1) u v1 :=
  I (fun u v => wpX_key (fun r u' => wpY_key (fun r' v' => r' = r ∧ i_Rel (k + 4) u' v') v v1) u v1) (fun nj nw ns nc nt e0 e1 i0 i1 o0 o1 sw te ex re sz la ac kn ix sp lr mk ln pg sg sn ev qu ip op pl cd jp jo h => oo_f (m_key h v1))
theorem i_vc_reap {k : Nat} {u : SX} {v : SY} (I : i_Rel k u v) (hk : k + 4 ≤ 2052) : wpX_reap (fun r u' => wpY_reap (fun r' v' => r' = r ∧ i_Rel (k + 4) u' v') v) u :=
  I (fun u v => wpX_reap (fun r u' => wpY_reap (fun r' v' => r' = r ∧ i_Rel (k + 4) u' v') v) u) (fun nj nw ns nc nt e0 e1 i0 i1 o0 o1 sw te ex re sz la ac kn ix sp lr mk ln pg sg sn ev qu ip op pl cd jp jo h => oo_f (m_reap h))
theorem i_vc_report {k : Nat} {u : SX} {v : SY} (I : i_Rel k u v) (hk : k + 4 ≤ 2052) : wpX_report (fun r u' => wpY_report (fun r' v' => r' = r ∧ i_Rel (k + 4) u' v') v) u :=
  I (fun u v => wpX_report (fun r u' => wpY_report (fun r' v' => r' = r ∧ i_Rel (k + 4) u' v') v) u) (fun nj nw ns nc nt e0 e1 i0 i1 o0 o1 sw te ex re sz la ac kn ix sp lr mk ln pg sg sn ev qu ip op pl cd jp jo h => oo_f (m_report h))
theorem i_vc_takeOutput {k : Nat} {u : SX} {v : SY} (I : i_Rel k u v) (hk : k + 4 ≤ 2052) : wpX_takeOutput (fun r u' => wpY_takeOutput (fun r' v' => r' = r ∧ i_Rel (k + 4) u' v') v) u :=
  I (fun u v => wpX_takeOutput (fun r u' => wpY_takeOutput (fun r' v' => r' = r ∧ i_Rel (k + 4) u' v') v) u) (fun nj nw ns nc nt e0 e1 i0 i1 o0 o1 sw te ex re sz la ac kn ix sp lr mk ln pg sg sn ev qu ip op pl cd jp jo h => oo_f (m_takeOutput h))
theorem q_tostop {nj nw ns nc nt e0 e1 i0 i1 o0 o1 : Nat} {sw te ex re : Int32} {sz la ac kn ix sp lr mk ln pg sg sn ev qu ip op pl cd jp jo : Nat → Int32} (h : fa_F nj nw ns nc nt e0 e1 i0 i1 o0 o1 sw te sz ac kn ix ln pg sg sn ev qu ip op pl cd jp jo) {k : Nat} (v1 : Int32) : wpX_tostop (fun u' => wpY_tostop (fun v' => i_Rel (k + 4) u' v') (nI nj, nI nw, nI ns, nI nc, te, sw, ex, re, nI nt, nI i1, nI o1, sz, la, ac, kn, ix, sp, lr, mk, pl, ln, cd, sn, sg, jp, jo) v1) (nI nj, nI nw, nI ns, nI nc, nI nt, nI e0, nI e1, nI i0, nI i1, nI o0, nI o1, sw, te, ex, re, sz, la, ac, kn, ix, sp, lr, mk, ln, pg, sg, sn, ev, qu, ip, op) v1 := by
  have h' := h
  obtain ⟨hN, hS, hT, hZ, hL, hP, hC, hK, hI, hO, hE, hD⟩ := h'
  by_cases c : v1 = 0
  · exact br_t c (br_t c (fa_in (show fa_F nj nw ns nc nt e0 e1 i0 i1 o0 o1 0 te sz ac kn ix ln pg sg sn ev qu ip op pl cd jp jo from ⟨hN, Or.inl rfl, hT, hZ, hL, hP, hC, hK, hI, hO, hE, hD⟩)))
  · exact br_f c (br_f c (fa_in (show fa_F nj nw ns nc nt e0 e1 i0 i1 o0 o1 1 te sz ac kn ix ln pg sg sn ev qu ip op pl cd jp jo from ⟨hN, Or.inr rfl, hT, hZ, hL, hP, hC, hK, hI, hO, hE, hD⟩)))
theorem i_vc_tostop {k : Nat} {u : SX} {v : SY} (I : i_Rel k u v) (hk : k + 4 ≤ 2052) (v1 : Int32) : wpX_tostop (fun u' => wpY_tostop (fun v' => i_Rel (k + 4) u' v') v v1) u v1 :=
  I (fun u v => wpX_tostop (fun u' => wpY_tostop (fun v' => i_Rel (k + 4) u' v') v v1) u v1) (fun nj nw ns nc nt e0 e1 i0 i1 o0 o1 sw te ex re sz la ac kn ix sp lr mk ln pg sg sn ev qu ip op pl cd jp jo h => q_tostop h v1)
theorem m_owner {nj nw ns nc nt e0 e1 i0 i1 o0 o1 : Nat} {sw te ex re : Int32} {sz la ac kn ix sp lr mk ln pg sg sn ev qu ip op pl cd jp jo : Nat → Int32} : oo_q (fun post => wpX_owner post (nI nj, nI nw, nI ns, nI nc, nI nt, nI e0, nI e1, nI i0, nI i1, nI o0, nI o1, sw, te, ex, re, sz, la, ac, kn, ix, sp, lr, mk, ln, pg, sg, sn, ev, qu, ip, op)) (fun post => wpY_owner post (nI nj, nI nw, nI ns, nI nc, te, sw, ex, re, nI nt, nI i1, nI o1, sz, la, ac, kn, ix, sp, lr, mk, pl, ln, cd, sn, sg, jp, jo)) := ⟨te, fun _ hp => hp, fun _ hp => hp⟩
theorem i_vc_owner {k : Nat} {u : SX} {v : SY} (I : i_Rel k u v) (hk : k + 4 ≤ 2052) : wpX_owner (fun r => wpY_owner (fun r' => r' = r ∧ i_Rel (k + 4) u v) v) u :=
  I (fun u v => wpX_owner (fun r => wpY_owner (fun r' => r' = r ∧ i_Rel (k + 4) u v) v) u) (fun nj nw ns nc nt e0 e1 i0 i1 o0 o1 sw te ex re sz la ac kn ix sp lr mk ln pg sg sn ev qu ip op pl cd jp jo h => oo_qf m_owner (fa_in h))
theorem i_vc_jobStatus {k : Nat} {u : SX} {v : SY} (I : i_Rel k u v) (hk : k + 4 ≤ 2052) (v1 : Int32) : wpX_jobStatus (fun r => wpY_jobStatus (fun r' => r' = r ∧ i_Rel (k + 4) u v) v v1) u v1 :=
  I (fun u v => wpX_jobStatus (fun r => wpY_jobStatus (fun r' => r' = r ∧ i_Rel (k + 4) u v) v v1) u v1) (fun nj nw ns nc nt e0 e1 i0 i1 o0 o1 sw te ex re sz la ac kn ix sp lr mk ln pg sg sn ev qu ip op pl cd jp jo h => oo_qf (m_jobStatus h v1) (fa_in h))
theorem i_vc_process {k : Nat} {u : SX} {v : SY} (I : i_Rel k u v) (hk : k + 4 ≤ 2052) (v1 : Int32) (v2 : Int32) (v3 : Int32) : wpX_process (fun r => wpY_process (fun r' => r' = r ∧ i_Rel (k + 4) u v) v v1 v2 v3) u v1 v2 v3 :=
  I (fun u v => wpX_process (fun r => wpY_process (fun r' => r' = r ∧ i_Rel (k + 4) u v) v v1 v2 v3) u v1 v2 v3) (fun nj nw ns nc nt e0 e1 i0 i1 o0 o1 sw te ex re sz la ac kn ix sp lr mk ln pg sg sn ev qu ip op pl cd jp jo h => oo_qf (m_process h v1 v2 v3) (fa_in h))
theorem i_vc_look {k : Nat} {u : SX} {v : SY} (I : i_Rel k u v) (hk : k + 4 ≤ 2052) (v1 : Int32) (v2 : Int32) : wpX_look (fun r => wpY_look (fun r' => r' = r ∧ i_Rel (k + 4) u v) v v1 v2) u v1 v2 :=
  I (fun u v => wpX_look (fun r => wpY_look (fun r' => r' = r ∧ i_Rel (k + 4) u v) v v1 v2) u v1 v2) (fun nj nw ns nc nt e0 e1 i0 i1 o0 o1 sw te ex re sz la ac kn ix sp lr mk ln pg sg sn ev qu ip op pl cd jp jo h => oo_qf (m_look h v1 v2) (fa_in h))
end
