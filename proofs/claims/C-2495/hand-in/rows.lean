section
/-! rows of kit/rows/PURE-ROWS (starting text), as pasted -/
theorem pk_us {f : Nat → Int32} {k : Nat} {x : Int32} : upd f k x k = x := if_pos rfl
theorem pk_un {f : Nat → Int32} {k j : Nat} {x : Int32} (h : j ≠ k) : upd f k x j = f j := if_neg h
theorem pk_sub {a b : Nat} (h : b ≤ a) : nI a - nI b = nI (a - b) := by
  obtain ⟨c, rfl⟩ : ∃ c, a = c + b := ⟨a - b, by omega⟩
  rw [← nI_add, Int32.add_sub_cancel, Nat.add_sub_cancel]
theorem pk_m1 (n : Nat) : nI (n + 1) + (-1) = nI n := by
  rw [← nI_1, Int32.add_assoc, show (1 : Int32) + (-1) = 0 from rfl, Int32.add_zero]
theorem pk_mul (a b : Nat) : nI a * nI b = nI (a * b) := (Int32.ofNat_mul a b).symm
theorem pk_div {a d : Nat} (ha : a < 2 ^ 31) (h0 : 0 < d) (hd : d < 2 ^ 31) : nI a / nI d = nI (a / d) := by
  apply Int32.toInt_inj.mp
  rw [lg_idiv_nonneg (by rw [nI_toInt ha]; omega) (by rw [nI_toInt hd]; omega), nI_toInt ha, nI_toInt hd, nI_toInt (Nat.lt_of_le_of_lt (Nat.div_le_self a d) ha)]
  first | rfl | exact (Int.natCast_ediv _ _).symm
theorem pk_ix (x : Int32) {n : Nat} (hn : n < 2 ^ 31) : x < 0 ∨ nI n ≤ x ∨ ∃ j : Nat, j < n ∧ x = nI j := by
  by_cases h : x < 0
  · exact Or.inl h
  · obtain ⟨j, hj, rfl⟩ := nI_of h
    by_cases h2 : j < n
    · exact Or.inr (Or.inr ⟨j, h2, rfl⟩)
    · exact Or.inr (Or.inl (nI_le (by omega) hj))
theorem pk_le {x y : Int32} {A B : Prop} (a b : Nat) (f : a ≤ b → A) (g : b < a → B) (hx : x = nI a := by rfl) (hy : y = nI b := by rfl) (ha : a < 2 ^ 31 := by omega) (hb : b < 2 ^ 31 := by omega) : (x ≤ y → A) ∧ (¬ x ≤ y → B) := by
  subst hx hy
  rw [nI_leI ha hb]
  exact ⟨f, fun z => g (by omega)⟩
theorem pk_lt {x y : Int32} {A B : Prop} (a b : Nat) (f : a < b → A) (g : b ≤ a → B) (hx : x = nI a := by rfl) (hy : y = nI b := by rfl) (ha : a < 2 ^ 31 := by omega) (hb : b < 2 ^ 31 := by omega) : (x < y → A) ∧ (¬ x < y → B) := by
  subst hx hy
  rw [nI_ltI ha hb]
  exact ⟨f, fun z => g (by omega)⟩
theorem pk_eq {x y : Int32} {A B : Prop} (a b : Nat) (f : a = b → A) (g : a ≠ b → B) (hx : x = nI a := by rfl) (hy : y = nI b := by rfl) (ha : a < 2 ^ 31 := by omega) (hb : b < 2 ^ 31 := by omega) : (x = y → A) ∧ (¬ x = y → B) := by
  subst hx hy
  rw [nI_eq ha hb]
  exact ⟨f, g⟩
theorem pk_in {x : Int32} (n N : Nat) (h : n < N) (hx : x = nI n := by rfl) (hN : N < 2 ^ 31 := by omega) : vp_in x N := by
  subst hx
  exact vp_in_nI h hN
theorem pk_cl {x : Int32} (n : Nat) (hx : x = nI n := by rfl) (h : n < 2 ^ 31 := by omega) : x.toNatClampNeg = n := by
  subst hx
  exact nI_clamp h
theorem pk_least (P : Nat → Prop) (h : ∃ k, P k) : ∃ k, P k ∧ ∀ j, j < k → ¬ P j := by
  obtain ⟨k, hk⟩ := h
  induction k using Nat.strongRecOn with
  | ind k ih =>
    by_cases e : ∃ j, j < k ∧ P j
    · obtain ⟨j, hj, pj⟩ := e
      exact ih j hj pj
    · exact ⟨k, hk, fun j hj pj => e ⟨j, hj, pj⟩⟩
end
section
/-! last and next places of a value in a sequence; the linked entries -/
theorem tl_m1 {a : Nat} (h : a < 2 ^ 31) : ¬ (-1 : Int32) = nI a := by
  intro e
  have h2 : ¬ nI a < 0 := nI_pos h
  rw [← e] at h2
  exact h2 (by decide)
theorem tl_m1' {a : Nat} (h : a < 2 ^ 31) : ¬ nI a = (-1 : Int32) := fun e => tl_m1 h e.symm
theorem tl_ne {a b : Nat} (ha : a < 2 ^ 31) (hb : b < 2 ^ 31) (h : a ≠ b) : ¬ nI a = nI b := fun e => h ((nI_eq ha hb).mp e)
def tl_LS (E : Nat → Int32) : Nat → Int32 → Int32
  | 0 => fun _ => -1
  | n + 1 => fun a => if E n = a then nI n else tl_LS E n a
theorem tl_LS_t {E : Nat → Int32} {n : Nat} {a : Int32} (h : E n = a) : tl_LS E (n + 1) a = nI n := if_pos h
theorem tl_LS_f {E : Nat → Int32} {n : Nat} {a : Int32} (h : ¬ E n = a) : tl_LS E (n + 1) a = tl_LS E n a := if_neg h
theorem tl_LS_sp (E : Nat → Int32) (a : Int32) : ∀ n : Nat, (tl_LS E n a = -1 ∧ ∀ t, t < n → ¬ E t = a) ∨ (∃ t, t < n ∧ tl_LS E n a = nI t ∧ E t = a ∧ ∀ s, t < s → s < n → ¬ E s = a) := by
  intro n
  induction n with
  | zero => exact Or.inl ⟨rfl, fun t h => absurd h (Nat.not_lt_zero t)⟩
  | succ n ih =>
    by_cases h : E n = a
    · exact Or.inr ⟨n, Nat.lt_succ_self n, tl_LS_t h, h, fun s h1 h2 => absurd h2 (by omega)⟩
    · rw [tl_LS_f h]
      rcases ih with ⟨h1, h2⟩ | ⟨t, h1, h2, h3, h4⟩
      · refine Or.inl ⟨h1, fun t ht => ?_⟩
        by_cases ht2 : t = n
        · rw [ht2]; exact h
        · exact h2 t (by omega)
      · refine Or.inr ⟨t, by omega, h2, h3, fun s h5 h6 => ?_⟩
        by_cases hs : s = n
        · rw [hs]; exact h
        · exact h4 s h5 (by omega)
theorem tl_LS_no {E : Nat → Int32} {n : Nat} {a : Int32} (h : ∀ t, t < n → ¬ E t = a) : tl_LS E n a = -1 := by
  rcases tl_LS_sp E a n with ⟨h1, _⟩ | ⟨t, h1, _, h3, _⟩
  · exact h1
  · exact absurd h3 (h t h1)
theorem tl_LS_is {E : Nat → Int32} {n t : Nat} {a : Int32} (ht : t < n) (e : E t = a) (h : ∀ s, t < s → s < n → ¬ E s = a) : tl_LS E n a = nI t := by
  rcases tl_LS_sp E a n with ⟨_, h2⟩ | ⟨t', h1, h2, h3, h4⟩
  · exact absurd e (h2 t ht)
  · rcases Nat.lt_trichotomy t t' with hh | hh | hh
    · exact absurd h3 (h t' hh h1)
    · rw [hh]; exact h2
    · exact absurd e (h4 t hh ht)
theorem tl_LS_c {E E' : Nat → Int32} {a : Int32} : ∀ n : Nat, (∀ t, t < n → E t = E' t) → tl_LS E n a = tl_LS E' n a := by
  intro n
  induction n with
  | zero => intro _; rfl
  | succ n ih =>
    intro h
    have e := ih (fun t ht => h t (by omega))
    have en := h n (Nat.lt_succ_self n)
    show (if E n = a then nI n else tl_LS E n a) = (if E' n = a then nI n else tl_LS E' n a)
    rw [e, en]
def tl_NX (E : Nat → Int32) (i : Nat) : Nat → Int32 → Int32
  | 0 => fun _ => -1
  | n + 1 => fun a => if tl_NX E i n a < 0 ∧ i ≤ n ∧ E n = a then nI n else tl_NX E i n a
theorem tl_NX_t {E : Nat → Int32} {i n : Nat} {a : Int32} (h : tl_NX E i n a < 0) (hi : i ≤ n) (e : E n = a) : tl_NX E i (n + 1) a = nI n := if_pos ⟨h, hi, e⟩
theorem tl_NX_f {E : Nat → Int32} {i n : Nat} {a : Int32} (h : ¬ (tl_NX E i n a < 0 ∧ i ≤ n ∧ E n = a)) : tl_NX E i (n + 1) a = tl_NX E i n a := if_neg h
theorem tl_NX_ne {E : Nat → Int32} {i n : Nat} {a : Int32} (h : ¬ E n = a) : tl_NX E i (n + 1) a = tl_NX E i n a := if_neg (fun z => h z.2.2)
theorem tl_NX_sp (E : Nat → Int32) (i : Nat) (a : Int32) : ∀ n : Nat, n < 2 ^ 31 → (tl_NX E i n a = -1 ∧ ∀ t, i ≤ t → t < n → ¬ E t = a) ∨ (∃ t, i ≤ t ∧ t < n ∧ tl_NX E i n a = nI t ∧ E t = a ∧ ∀ s, i ≤ s → s < t → ¬ E s = a) := by
  intro n
  induction n with
  | zero => intro _; exact Or.inl ⟨rfl, fun t _ h => absurd h (Nat.not_lt_zero t)⟩
  | succ n ih =>
    intro hn
    rcases ih (by omega) with ⟨h1, h2⟩ | ⟨t, h0, h1, h2, h3, h4⟩
    · by_cases h : i ≤ n ∧ E n = a
      · refine Or.inr ⟨n, h.1, Nat.lt_succ_self n, tl_NX_t (by rw [h1]; decide) h.1 h.2, h.2, fun s h5 h6 => h2 s h5 h6⟩
      · rw [tl_NX_f (fun z => h z.2)]
        refine Or.inl ⟨h1, fun t ht ht2 => ?_⟩
        by_cases hs : t = n
        · rw [hs]; rw [hs] at ht; exact fun e => h ⟨ht, e⟩
        · exact h2 t ht (by omega)
    · have hp : ¬ nI t < 0 := nI_pos (by omega)
      rw [tl_NX_f (fun z => by rw [h2] at z; exact hp z.1)]
      exact Or.inr ⟨t, h0, by omega, h2, h3, h4⟩
theorem tl_NX_no {E : Nat → Int32} {i n : Nat} {a : Int32} (hn : n < 2 ^ 31) (h : ∀ t, i ≤ t → t < n → ¬ E t = a) : tl_NX E i n a = -1 := by
  rcases tl_NX_sp E i a n hn with ⟨h1, _⟩ | ⟨t, h0, h1, _, h3, _⟩
  · exact h1
  · exact absurd h3 (h t h0 h1)
theorem tl_NX_is {E : Nat → Int32} {i n t : Nat} {a : Int32} (hn : n < 2 ^ 31) (hi : i ≤ t) (ht : t < n) (e : E t = a) (h : ∀ s, i ≤ s → s < t → ¬ E s = a) : tl_NX E i n a = nI t := by
  rcases tl_NX_sp E i a n hn with ⟨_, h2⟩ | ⟨t', h0, h1, h2, h3, h4⟩
  · exact absurd e (h2 t hi ht)
  · rcases Nat.lt_trichotomy t t' with hh | hh | hh
    · exact absurd e (h4 t hi hh)
    · rw [hh]; exact h2
    · exact absurd h3 (h t' h0 hh)
theorem tl_NX_old {E : Nat → Int32} {i n q : Nat} {a : Int32} (hn : n < 2 ^ 31) (hi : i ≤ q) (hq : q < n) (e : E q = a) : tl_NX E i (n + 1) a = tl_NX E i n a := by
  rcases tl_NX_sp E i a n hn with ⟨_, h2⟩ | ⟨t', h0, h1, h2, h3, h4⟩
  · exact absurd e (h2 q hi hq)
  · have hp : ¬ nI t' < 0 := nI_pos (by omega)
    exact tl_NX_f (fun z => by rw [h2] at z; exact hp z.1)
theorem tl_NX_c {E E' : Nat → Int32} {i : Nat} {a : Int32} : ∀ n : Nat, (∀ t, t < n → E t = E' t) → tl_NX E i n a = tl_NX E' i n a := by
  intro n
  induction n with
  | zero => intro _; rfl
  | succ n ih =>
    intro h
    have e := ih (fun t ht => h t (by omega))
    have en := h n (Nat.lt_succ_self n)
    show (if tl_NX E i n a < 0 ∧ i ≤ n ∧ E n = a then nI n else tl_NX E i n a) = (if tl_NX E' i n a < 0 ∧ i ≤ n ∧ E' n = a then nI n else tl_NX E' i n a)
    rw [e, en]
/-- the linked entries of side s over the first n transfers, E the account of each -/
def tl_EN (s : Nat) (E : Nat → Int32) (n : Nat) (fe le ne pe : Nat → Int32) : Prop :=
  (∀ a, a < 10 → fe (2 * a + s) = tl_NX E 0 n (nI a)) ∧ (∀ a, a < 10 → le (2 * a + s) = tl_LS E n (nI a)) ∧
  (∀ t, t < n → ∀ a, a < 10 → E t = nI a → ne (2 * t + s) = tl_NX E (t + 1) n (nI a) ∧ pe (2 * t + s) = tl_LS E t (nI a))
theorem tl_EN_c {s : Nat} {E E' : Nat → Int32} {n : Nat} {fe le ne pe : Nat → Int32} (h : ∀ t, t < n → E t = E' t) (I : tl_EN s E n fe le ne pe) : tl_EN s E' n fe le ne pe := by
  obtain ⟨h1, h2, h3⟩ := I
  refine ⟨fun a ha => ?_, fun a ha => ?_, fun t ht a ha e => ?_⟩
  · rw [h1 a ha]; exact tl_NX_c n h
  · rw [h2 a ha]; exact tl_LS_c n h
  · obtain ⟨p, q⟩ := h3 t ht a ha (by rw [h t ht]; exact e)
    exact ⟨by rw [p]; exact tl_NX_c n h, by rw [q]; exact tl_LS_c t (fun z hz => h z (by omega))⟩
theorem tl_EN_o {s : Nat} {E : Nat → Int32} {n : Nat} {fe le ne pe fe' le' ne' pe' : Nat → Int32} (I : tl_EN s E n fe le ne pe) (h1 : ∀ j, fe' (2 * j + s) = fe (2 * j + s)) (h2 : ∀ j, le' (2 * j + s) = le (2 * j + s)) (h3 : ∀ j, ne' (2 * j + s) = ne (2 * j + s)) (h4 : ∀ j, pe' (2 * j + s) = pe (2 * j + s)) : tl_EN s E n fe' le' ne' pe' := by
  obtain ⟨i1, i2, i3⟩ := I
  refine ⟨fun a ha => by rw [h1]; exact i1 a ha, fun a ha => by rw [h2]; exact i2 a ha, fun t ht a ha e => ?_⟩
  rw [h3, h4]
  exact i3 t ht a ha e
theorem tl_EN_skip {s : Nat} {E : Nat → Int32} {n : Nat} {fe le ne pe : Nat → Int32} (I : tl_EN s E n fe le ne pe) (h : ∀ a, a < 10 → ¬ E n = nI a) : tl_EN s E (n + 1) fe le ne pe := by
  obtain ⟨h1, h2, h3⟩ := I
  refine ⟨fun a ha => ?_, fun a ha => ?_, fun t ht a ha e => ?_⟩
  · rw [tl_NX_ne (h a ha)]; exact h1 a ha
  · rw [tl_LS_f (h a ha)]; exact h2 a ha
  · by_cases htn : t = n
    · rw [htn] at e; exact absurd e (h a ha)
    · rw [tl_NX_ne (h a ha)]; exact h3 t (by omega) a ha e
theorem tl_EN_unskip {s : Nat} {E : Nat → Int32} {n : Nat} {fe le ne pe : Nat → Int32} (I : tl_EN s E (n + 1) fe le ne pe) (h : ∀ a, a < 10 → ¬ E n = nI a) : tl_EN s E n fe le ne pe := by
  obtain ⟨h1, h2, h3⟩ := I
  refine ⟨fun a ha => ?_, fun a ha => ?_, fun t ht a ha e => ?_⟩
  · rw [← tl_NX_ne (h a ha)]; exact h1 a ha
  · rw [← tl_LS_f (h a ha)]; exact h2 a ha
  · rw [← tl_NX_ne (h a ha)]; exact h3 t (by omega) a ha e
theorem tl_EN_e0 {s : Nat} {E : Nat → Int32} {n a : Nat} {fe le ne pe : Nat → Int32} (hn : n < 1000) (ha : a < 10) (I : tl_EN s E n fe le ne pe) (e : E n = nI a) (hl : tl_LS E n (nI a) = -1) :
    tl_EN s E (n + 1) (upd fe (2 * a + s) (nI n)) (upd le (2 * a + s) (nI n)) (upd ne (2 * n + s) (-1)) (upd pe (2 * n + s) (-1)) := by
  obtain ⟨h1, h2, h3⟩ := I
  have hno : ∀ t, t < n → ¬ E t = nI a := by
    rcases tl_LS_sp E (nI a) n with ⟨_, z⟩ | ⟨t, ht, z, _, _⟩
    · exact z
    · rw [hl] at z; exact absurd z (tl_m1 (by omega))
  have hne : ∀ b, b < 10 → b ≠ a → ¬ E n = nI b := fun b hb hba => by
    rw [e]; exact tl_ne (by omega) (by omega) (fun z => hba z.symm)
  refine ⟨fun b hb => ?_, fun b hb => ?_, fun t ht b hb et => ?_⟩
  · by_cases hba : b = a
    · rw [hba, pk_us, tl_NX_is (by omega) (Nat.zero_le n) (Nat.lt_succ_self n) e (fun z _ hz => hno z hz)]
    · rw [pk_un (by omega), tl_NX_ne (hne b hb hba)]; exact h1 b hb
  · by_cases hba : b = a
    · rw [hba, pk_us, tl_LS_t e]
    · rw [pk_un (by omega), tl_LS_f (hne b hb hba)]; exact h2 b hb
  · by_cases htn : t = n
    · have hba : b = a := by
        rw [htn, e] at et
        exact ((nI_eq (by omega) (by omega)).mp et).symm
      rw [htn, hba, pk_us, pk_us]
      exact ⟨(tl_NX_no (by omega) (fun z hz hz2 => by omega)).symm, hl.symm⟩
    · have hba : b ≠ a := fun z => hno t (by omega) (by rw [← z]; exact et)
      rw [pk_un (by omega), pk_un (by omega), tl_NX_ne (hne b hb hba)]
      exact h3 t (by omega) b hb et
theorem tl_EN_e1 {s : Nat} {E : Nat → Int32} {n a q : Nat} {fe le ne pe : Nat → Int32} (hn : n < 1000) (ha : a < 10) (I : tl_EN s E n fe le ne pe) (e : E n = nI a) (hq : q < n) (hl : tl_LS E n (nI a) = nI q) :
    tl_EN s E (n + 1) fe (upd le (2 * a + s) (nI n)) (upd (upd ne (2 * n + s) (-1)) (2 * q + s) (nI n)) (upd pe (2 * n + s) (nI q)) := by
  obtain ⟨h1, h2, h3⟩ := I
  have hz : E q = nI a ∧ ∀ s, q < s → s < n → ¬ E s = nI a := by
    rcases tl_LS_sp E (nI a) n with ⟨z, _⟩ | ⟨t, ht, z, z2, z3⟩
    · rw [hl] at z; exact absurd z (tl_m1' (by omega))
    · rw [hl] at z
      have : q = t := (nI_eq (by omega) (by omega)).mp z
      rw [this]; exact ⟨z2, z3⟩
  obtain ⟨eq, hno⟩ := hz
  have hne : ∀ b, b < 10 → b ≠ a → ¬ E n = nI b := fun b hb hba => by
    rw [e]; exact tl_ne (by omega) (by omega) (fun z => hba z.symm)
  refine ⟨fun b hb => ?_, fun b hb => ?_, fun t ht b hb et => ?_⟩
  · by_cases hba : b = a
    · rw [hba, tl_NX_old (by omega) (Nat.zero_le q) hq eq]; exact h1 a ha
    · rw [tl_NX_ne (hne b hb hba)]; exact h1 b hb
  · by_cases hba : b = a
    · rw [hba, pk_us, tl_LS_t e]
    · rw [pk_un (by omega), tl_LS_f (hne b hb hba)]; exact h2 b hb
  · by_cases htn : t = n
    · have hba : b = a := by
        rw [htn, e] at et
        exact ((nI_eq (by omega) (by omega)).mp et).symm
      rw [htn, hba, pk_un (by omega), pk_us, pk_us]
      exact ⟨(tl_NX_no (by omega) (fun z hz hz2 => by omega)).symm, hl.symm⟩
    · by_cases htq : t = q
      · have hba : b = a := by
          rw [htq, eq] at et
          exact ((nI_eq (by omega) (by omega)).mp et).symm
        rw [htq, hba, pk_us, pk_un (by omega)]
        refine ⟨(tl_NX_is (by omega) (by omega) (Nat.lt_succ_self n) e (fun z hz hz2 => hno z (by omega) hz2)).symm, ?_⟩
        exact (h3 q hq a ha eq).2
      · rw [pk_un (by omega), pk_un (by omega), pk_un (by omega)]
        refine ⟨?_, (h3 t (by omega) b hb et).2⟩
        rw [(h3 t (by omega) b hb et).1]
        by_cases hba : b = a
        · have htlt : t < q := by
            rcases Nat.lt_or_ge t q with z | z
            · exact z
            · exact absurd (by rw [← hba]; exact et) (hno t (by omega) (by omega))
          rw [hba, tl_NX_old (by omega) (by omega) hq eq]
        · rw [tl_NX_ne (hne b hb hba)]
theorem tl_EN_top {s : Nat} {E : Nat → Int32} {n a : Nat} {fe le ne pe : Nat → Int32} (ha : a < 10) (I : tl_EN s E (n + 1) fe le ne pe) (e : E n = nI a) : le (2 * a + s) = nI n ∧ pe (2 * n + s) = tl_LS E n (nI a) := by
  obtain ⟨h1, h2, h3⟩ := I
  exact ⟨by rw [h2 a ha, tl_LS_t e], (h3 n (Nat.lt_succ_self n) a ha e).2⟩
theorem tl_EN_l0 {s : Nat} {E : Nat → Int32} {n a : Nat} {fe le ne pe : Nat → Int32} (hn : n < 1000) (ha : a < 10) (I : tl_EN s E (n + 1) fe le ne pe) (e : E n = nI a) (hl : tl_LS E n (nI a) = -1) :
    tl_EN s E n (upd fe (2 * a + s) (-1)) (upd le (2 * a + s) (-1)) ne pe := by
  obtain ⟨h1, h2, h3⟩ := I
  have hno : ∀ t, t < n → ¬ E t = nI a := by
    rcases tl_LS_sp E (nI a) n with ⟨_, z⟩ | ⟨t, ht, z, _, _⟩
    · exact z
    · rw [hl] at z; exact absurd z (tl_m1 (by omega))
  have hne : ∀ b, b < 10 → b ≠ a → ¬ E n = nI b := fun b hb hba => by
    rw [e]; exact tl_ne (by omega) (by omega) (fun z => hba z.symm)
  refine ⟨fun b hb => ?_, fun b hb => ?_, fun t ht b hb et => ?_⟩
  · by_cases hba : b = a
    · rw [hba, pk_us, tl_NX_no (by omega) (fun z _ hz => hno z hz)]
    · rw [pk_un (by omega), ← tl_NX_ne (hne b hb hba)]; exact h1 b hb
  · by_cases hba : b = a
    · rw [hba, pk_us, hl]
    · rw [pk_un (by omega), ← tl_LS_f (hne b hb hba)]; exact h2 b hb
  · have hba : b ≠ a := fun z => hno t ht (by rw [← z]; exact et)
    rw [← tl_NX_ne (hne b hb hba)]
    exact h3 t (by omega) b hb et
theorem tl_EN_l1 {s : Nat} {E : Nat → Int32} {n a q : Nat} {fe le ne pe : Nat → Int32} (hn : n < 1000) (ha : a < 10) (I : tl_EN s E (n + 1) fe le ne pe) (e : E n = nI a) (hq : q < n) (hl : tl_LS E n (nI a) = nI q) :
    tl_EN s E n fe (upd le (2 * a + s) (nI q)) (upd ne (2 * q + s) (-1)) pe := by
  obtain ⟨h1, h2, h3⟩ := I
  have hz : E q = nI a ∧ ∀ s, q < s → s < n → ¬ E s = nI a := by
    rcases tl_LS_sp E (nI a) n with ⟨z, _⟩ | ⟨t, ht, z, z2, z3⟩
    · rw [hl] at z; exact absurd z (tl_m1' (by omega))
    · rw [hl] at z
      have : q = t := (nI_eq (by omega) (by omega)).mp z
      rw [this]; exact ⟨z2, z3⟩
  obtain ⟨eq, hno⟩ := hz
  have hne : ∀ b, b < 10 → b ≠ a → ¬ E n = nI b := fun b hb hba => by
    rw [e]; exact tl_ne (by omega) (by omega) (fun z => hba z.symm)
  refine ⟨fun b hb => ?_, fun b hb => ?_, fun t ht b hb et => ?_⟩
  · by_cases hba : b = a
    · rw [hba, ← tl_NX_old (by omega) (Nat.zero_le q) hq eq]; exact h1 a ha
    · rw [← tl_NX_ne (hne b hb hba)]; exact h1 b hb
  · by_cases hba : b = a
    · rw [hba, pk_us, hl]
    · rw [pk_un (by omega), ← tl_LS_f (hne b hb hba)]; exact h2 b hb
  · by_cases htq : t = q
    · have hba : b = a := by
        rw [htq, eq] at et
        exact ((nI_eq (by omega) (by omega)).mp et).symm
      rw [htq, hba, pk_us]
      refine ⟨(tl_NX_no (by omega) (fun z hz hz2 => hno z (by omega) hz2)).symm, ?_⟩
      exact (h3 q (by omega) a ha eq).2
    · rw [pk_un (by omega)]
      refine ⟨?_, (h3 t (by omega) b hb et).2⟩
      rw [(h3 t (by omega) b hb et).1]
      by_cases hba : b = a
      · have htlt : t < q := by
          rcases Nat.lt_or_ge t q with z | z
          · exact z
          · exact absurd (by rw [← hba]; exact et) (hno t (by omega) (by omega))
        rw [hba, tl_NX_old (by omega) (by omega) hq eq]
      · rw [tl_NX_ne (hne b hb hba)]
end
section
/-! the sums of accounts, by definition over the transfers -/
def tl_dl (w0 : Nat) (d c : Int32) (x : Int) (a w : Nat) : Int := (if w = w0 ∧ d = nI a then x else 0) + (if w = w0 + 2 ∧ c = nI a then x else 0)
def tl_ct (tr : Nat → Nat → Int32) (st : Nat → Int32) (t a w : Nat) : Int :=
  if tr t 1 = 1 then (if st t = 0 then tl_dl 0 (tr t 2) (tr t 3) (tr t 4).toInt a w else 0) else tl_dl 1 (tr t 9) (tr t 10) (tr t 7).toInt a w
def tl_SM (tr : Nat → Nat → Int32) (st : Nat → Int32) : Nat → Nat → Nat → Int
  | 0 => fun _ _ => 0
  | n + 1 => fun a w => tl_SM tr st n a w + tl_ct tr st n a w
theorem tl_SM_s (tr : Nat → Nat → Int32) (st : Nat → Int32) (n a w : Nat) : tl_SM tr st (n + 1) a w = tl_SM tr st n a w + tl_ct tr st n a w := rfl
theorem tl_ct_c {tr tr' : Nat → Nat → Int32} {st st' : Nat → Int32} {t a w : Nat} (h1 : tr t = tr' t) (h2 : st t = st' t) : tl_ct tr st t a w = tl_ct tr' st' t a w := by
  show (if tr t 1 = 1 then (if st t = 0 then tl_dl 0 (tr t 2) (tr t 3) (tr t 4).toInt a w else 0) else tl_dl 1 (tr t 9) (tr t 10) (tr t 7).toInt a w) = (if tr' t 1 = 1 then (if st' t = 0 then tl_dl 0 (tr' t 2) (tr' t 3) (tr' t 4).toInt a w else 0) else tl_dl 1 (tr' t 9) (tr' t 10) (tr' t 7).toInt a w)
  rw [h1, h2]
theorem tl_SM_c {tr tr' : Nat → Nat → Int32} {st st' : Nat → Int32} {a w : Nat} : ∀ n : Nat, (∀ t, t < n → tr t = tr' t) → (∀ t, t < n → st t = st' t) → tl_SM tr st n a w = tl_SM tr' st' n a w := by
  intro n
  induction n with
  | zero => intro _ _; rfl
  | succ n ih =>
    intro h1 h2
    rw [tl_SM_s, tl_SM_s, ih (fun t ht => h1 t (by omega)) (fun t ht => h2 t (by omega)), tl_ct_c (h1 n (by omega)) (h2 n (by omega))]
theorem tl_ct_h {tr : Nat → Nat → Int32} {st : Nat → Int32} {t a w : Nat} (h1 : tr t 1 = 1) (h2 : st t = 0) : tl_ct tr st t a w = tl_dl 0 (tr t 2) (tr t 3) (tr t 4).toInt a w := by
  show (if tr t 1 = 1 then (if st t = 0 then tl_dl 0 (tr t 2) (tr t 3) (tr t 4).toInt a w else 0) else tl_dl 1 (tr t 9) (tr t 10) (tr t 7).toInt a w) = _
  rw [if_pos h1, if_pos h2]
theorem tl_ct_0 {tr : Nat → Nat → Int32} {st : Nat → Int32} {t a w : Nat} (h1 : tr t 1 = 1) (h2 : ¬ st t = 0) : tl_ct tr st t a w = 0 := by
  show (if tr t 1 = 1 then (if st t = 0 then tl_dl 0 (tr t 2) (tr t 3) (tr t 4).toInt a w else 0) else tl_dl 1 (tr t 9) (tr t 10) (tr t 7).toInt a w) = _
  rw [if_pos h1, if_neg h2]
theorem tl_ct_m {tr : Nat → Nat → Int32} {st : Nat → Int32} {t a w : Nat} (h1 : ¬ tr t 1 = 1) : tl_ct tr st t a w = tl_dl 1 (tr t 9) (tr t 10) (tr t 7).toInt a w := by
  show (if tr t 1 = 1 then (if st t = 0 then tl_dl 0 (tr t 2) (tr t 3) (tr t 4).toInt a w else 0) else tl_dl 1 (tr t 9) (tr t 10) (tr t 7).toInt a w) = _
  rw [if_neg h1]
theorem tl_SM_un {tr : Nat → Nat → Int32} {st : Nat → Int32} {h a w : Nat} {s : Int32} (h1 : tr h 1 = 1) (h2 : st h = 0) (hs : ¬ s = 0) : ∀ n : Nat, h < n →
    tl_SM tr (upd st h s) n a w = tl_SM tr st n a w - tl_dl 0 (tr h 2) (tr h 3) (tr h 4).toInt a w := by
  intro n
  induction n with
  | zero => intro z; exact absurd z (Nat.not_lt_zero h)
  | succ n ih =>
    intro hn
    rw [tl_SM_s, tl_SM_s]
    by_cases e : h = n
    · have e1 : tl_SM tr (upd st h s) n a w = tl_SM tr st n a w := tl_SM_c n (fun _ _ => rfl) (fun t ht => pk_un (by omega))
      have e2 : tl_ct tr (upd st h s) n a w = 0 := by
        rw [← e]; exact tl_ct_0 h1 (by rw [pk_us]; exact hs)
      have e3 : tl_ct tr st n a w = tl_dl 0 (tr h 2) (tr h 3) (tr h 4).toInt a w := by
        rw [← e]; exact tl_ct_h h1 h2
      rw [e1, e2, e3]; omega
    · have e2 : tl_ct tr (upd st h s) n a w = tl_ct tr st n a w := tl_ct_c rfl (pk_un (by omega))
      rw [ih (by omega), e2]; omega
/-- the array of sums holds F -/
def tl_SF (F : Nat → Nat → Int) (su : Nat → Int32) : Prop := ∀ a, a < 10 → ∀ w, w < 4 → su (4 * a + w) = Int32.ofInt (F a w)
theorem tl_SF_c {F G : Nat → Nat → Int} {su : Nat → Int32} (h : tl_SF F su) (e : ∀ a w, a < 10 → w < 4 → F a w = G a w) : tl_SF G su := fun a ha w hw => by rw [h a ha w hw, e a w ha hw]
def tl_ad (su : Nat → Int32) (d c w : Nat) (x : Int32) : Nat → Int32 :=
  upd (upd su (4 * d + w) (su (4 * d + w) + x)) (4 * c + w + 2) ((upd su (4 * d + w) (su (4 * d + w) + x)) (4 * c + w + 2) + x)
theorem tl_SF_ad {F : Nat → Nat → Int} {su : Nat → Int32} {d c w0 : Nat} {x : Int32} {xi : Int} (h : tl_SF F su) (hd : d < 10) (hc : c < 10) (hw : w0 < 2) (hx : x = Int32.ofInt xi) :
    tl_SF (fun a w => F a w + tl_dl w0 (nI d) (nI c) xi a w) (tl_ad su d c w0 x) := by
  intro a ha w hww
  have hne : 4 * c + w0 + 2 ≠ 4 * d + w0 := by omega
  have kd : (nI d : Int32) = nI a ↔ d = a := nI_eq (by omega) (by omega)
  have kc : (nI c : Int32) = nI a ↔ c = a := nI_eq (by omega) (by omega)
  show upd (upd su (4 * d + w0) (su (4 * d + w0) + x)) (4 * c + w0 + 2) ((upd su (4 * d + w0) (su (4 * d + w0) + x)) (4 * c + w0 + 2) + x) (4 * a + w) = Int32.ofInt (F a w + ((if w = w0 ∧ nI d = nI a then xi else 0) + (if w = w0 + 2 ∧ nI c = nI a then xi else 0)))
  simp only [kd, kc]
  rw [pk_un (f := su) hne]
  by_cases h1 : w = w0 + 2 ∧ c = a
  · obtain ⟨r1, r2⟩ := h1
    subst r2
    have e : 4 * c + w = 4 * c + w0 + 2 := by omega
    rw [e, pk_us, ← e, if_neg (fun z => by omega), if_pos ⟨r1, rfl⟩, h c ha w hww, hx, Int.zero_add, Int32.ofInt_add]
  · rw [pk_un (by omega), if_neg h1]
    by_cases h2 : w = w0 ∧ d = a
    · obtain ⟨r1, r2⟩ := h2
      subst r2
      subst r1
      rw [pk_us, if_pos ⟨rfl, rfl⟩, h d ha w hww, hx, Int.add_zero, Int32.ofInt_add]
    · rw [pk_un (by omega), if_neg h2, Int.add_zero, Int.add_zero]
      exact h a ha w hww
theorem tl_dl_neg (w0 : Nat) (d c : Int32) (x : Int) (a w : Nat) : tl_dl w0 d c (-x) a w = - tl_dl w0 d c x a w := by
  show (if w = w0 ∧ d = nI a then -x else 0) + (if w = w0 + 2 ∧ c = nI a then -x else 0) = -((if w = w0 ∧ d = nI a then x else 0) + (if w = w0 + 2 ∧ c = nI a then x else 0))
  by_cases h1 : w = w0 ∧ d = nI a
  · rw [if_pos h1, if_pos h1]
    by_cases h2 : w = w0 + 2 ∧ c = nI a
    · rw [if_pos h2, if_pos h2]; omega
    · rw [if_neg h2, if_neg h2]; omega
  · rw [if_neg h1, if_neg h1]
    by_cases h2 : w = w0 + 2 ∧ c = nI a
    · rw [if_pos h2, if_pos h2]; omega
    · rw [if_neg h2, if_neg h2]; omega
theorem tl_dl_b {w0 : Nat} {d c : Int32} {x M : Int} (a w : Nat) (h0 : 0 ≤ x) (h1 : x ≤ M) : 0 ≤ tl_dl w0 d c x a w ∧ tl_dl w0 d c x a w ≤ M := by
  show 0 ≤ (if w = w0 ∧ d = nI a then x else 0) + (if w = w0 + 2 ∧ c = nI a then x else 0) ∧ (if w = w0 ∧ d = nI a then x else 0) + (if w = w0 + 2 ∧ c = nI a then x else 0) ≤ M
  by_cases h1 : w = w0 ∧ d = nI a
  · rw [if_pos h1, if_neg (fun z => by omega)]; omega
  · rw [if_neg h1]
    by_cases h2 : w = w0 + 2 ∧ c = nI a
    · rw [if_pos h2]; omega
    · rw [if_neg h2]; omega
theorem tl_d00 (d c : Int32) (x : Int) (a : Nat) : tl_dl 0 d c x a 0 = if d = nI a then x else 0 := by simp [tl_dl]
theorem tl_d01 (d c : Int32) (x : Int) (a : Nat) : tl_dl 0 d c x a 1 = 0 := by simp [tl_dl]
theorem tl_d02 (d c : Int32) (x : Int) (a : Nat) : tl_dl 0 d c x a 2 = if c = nI a then x else 0 := by simp [tl_dl]
theorem tl_d03 (d c : Int32) (x : Int) (a : Nat) : tl_dl 0 d c x a 3 = 0 := by simp [tl_dl]
theorem tl_d10 (d c : Int32) (x : Int) (a : Nat) : tl_dl 1 d c x a 0 = 0 := by simp [tl_dl]
theorem tl_d11 (d c : Int32) (x : Int) (a : Nat) : tl_dl 1 d c x a 1 = if d = nI a then x else 0 := by simp [tl_dl]
theorem tl_d12 (d c : Int32) (x : Int) (a : Nat) : tl_dl 1 d c x a 2 = 0 := by simp [tl_dl]
theorem tl_d13 (d c : Int32) (x : Int) (a : Nat) : tl_dl 1 d c x a 3 = if c = nI a then x else 0 := by simp [tl_dl]
theorem tl_oT {x : Int} (h0 : -1000000000 ≤ x) (h1 : x ≤ 1000000000) : (Int32.ofInt x).toInt = x := Int32.toInt_ofInt_of_le (by omega) (by omega)
theorem tl_oLe {x y : Int} (h0 : -1000000000 ≤ x) (h1 : x ≤ 1000000000) (h2 : -1000000000 ≤ y) (h3 : y ≤ 1000000000) : Int32.ofInt x ≤ Int32.ofInt y ↔ x ≤ y := by
  rw [Int32.le_iff_toInt_le, tl_oT h0 h1, tl_oT h2 h3]
theorem tl_oLt {x y : Int} (h0 : -1000000000 ≤ x) (h1 : x ≤ 1000000000) (h2 : -1000000000 ≤ y) (h3 : y ≤ 1000000000) : Int32.ofInt x < Int32.ofInt y ↔ x < y := by
  rw [Int32.lt_iff_toInt_lt, tl_oT h0 h1, tl_oT h2 h3]
theorem tl_nO (n : Nat) : nI n = Int32.ofInt (n : Int) := Int32.ofInt_eq_ofNat.symm
theorem tl_oi (x : Int32) : x = Int32.ofInt x.toInt := (Int32.ofInt_toInt x).symm
theorem tl_on (x : Int32) : -x = Int32.ofInt (-x.toInt) := by rw [Int32.ofInt_neg, Int32.ofInt_toInt]
end
section
/-! a heap over any total order: sifting up and down with a hole -/
section
variable {le : Int32 → Int32 → Prop}
/-- heap order on the first m -/
def tl_HO (le : Int32 → Int32 → Prop) (m : Nat) (h : Nat → Int32) : Prop := ∀ j, 0 < j → j < m → le (h ((j - 1) / 2)) (h j)
/-- going up: a hole at i, that x shall fill -/
def tl_UP (le : Int32 → Int32 → Prop) (m : Nat) (h : Nat → Int32) (i : Nat) (x : Int32) : Prop :=
  (∀ j, 0 < j → j < m → j ≠ i → (j - 1) / 2 ≠ i → le (h ((j - 1) / 2)) (h j)) ∧
  (∀ j, 0 < j → j < m → (j - 1) / 2 = i → le x (h j) ∧ (0 < i → le (h ((i - 1) / 2)) (h j)))
/-- going down: a hole at i, that x shall fill -/
def tl_DN (le : Int32 → Int32 → Prop) (m : Nat) (h : Nat → Int32) (i : Nat) (x : Int32) : Prop :=
  (∀ j, 0 < j → j < m → j ≠ i → (j - 1) / 2 ≠ i → le (h ((j - 1) / 2)) (h j)) ∧
  (0 < i → le (h ((i - 1) / 2)) x ∧ ∀ j, 0 < j → j < m → (j - 1) / 2 = i → le (h ((i - 1) / 2)) (h j))
/-- what stands in the first m but for the hole, and x -/
def tl_MB (m : Nat) (h : Nat → Int32) (i : Nat) (x y : Int32) : Prop := y = x ∨ ∃ j, j < m ∧ j ≠ i ∧ h j = y
theorem tl_UP_end {m i : Nat} {h : Nat → Int32} {x : Int32} (I : tl_UP le m h i x) (he : i = 0 ∨ le (h ((i - 1) / 2)) x) : tl_HO le m (upd h i x) := by
  intro j h0 hm
  obtain ⟨i1, i2⟩ := I
  by_cases e1 : j = i
  · rcases he with he | he
    · omega
    · rw [e1, pk_us, pk_un (by omega)]; exact he
  · by_cases e2 : (j - 1) / 2 = i
    · rw [e2, pk_us, pk_un e1]; exact (i2 j h0 hm e2).1
    · rw [pk_un e1, pk_un e2]; exact i1 j h0 hm e1 e2
theorem tl_UP_step {m i : Nat} {h : Nat → Int32} {x : Int32} (tot : ∀ a b, le a b ∨ le b a) (trn : ∀ a b c, le a b → le b c → le a c) (I : tl_UP le m h i x) (hi : 0 < i) (him : i < m) (hx : le x (h ((i - 1) / 2))) : tl_UP le m (upd h i (h ((i - 1) / 2))) ((i - 1) / 2) x := by
  obtain ⟨i1, i2⟩ := I
  have rfl' : ∀ a, le a a := fun a => (tot a a).elim id id
  have hpi : (i - 1) / 2 ≠ i := by omega
  refine ⟨fun j h0 hm e1 e2 => ?_, fun j h0 hm e => ?_⟩
  · have e3 : j ≠ i := fun z => e2 (by rw [z])
    rw [pk_un e3]
    by_cases e4 : (j - 1) / 2 = i
    · rw [e4, pk_us]; exact (i2 j h0 hm e4).2 hi
    · rw [pk_un e4]; exact i1 j h0 hm e3 e4
  · have hpp : 0 < (i - 1) / 2 → le (h (((i - 1) / 2 - 1) / 2)) (h ((i - 1) / 2)) := fun z => i1 ((i - 1) / 2) z (by omega) hpi (by omega)
    by_cases e3 : j = i
    · rw [e3, pk_us]
      refine ⟨hx, fun z => ?_⟩
      rw [pk_un (by omega)]
      exact hpp z
    · have e5 : le (h ((i - 1) / 2)) (h j) := by
        have := i1 j h0 hm e3 (by omega)
        rw [e] at this; exact this
      rw [pk_un e3]
      refine ⟨trn _ _ _ hx e5, fun z => ?_⟩
      rw [pk_un (by omega)]
      exact trn _ _ _ (hpp z) e5
theorem tl_DN_end {m i : Nat} {h : Nat → Int32} {x : Int32} (I : tl_DN le m h i x) (he : ∀ j, 0 < j → j < m → (j - 1) / 2 = i → le x (h j)) : tl_HO le m (upd h i x) := by
  intro j h0 hm
  obtain ⟨i1, i2⟩ := I
  by_cases e1 : j = i
  · rw [e1, pk_us, pk_un (by omega)]; exact (i2 (by omega)).1
  · by_cases e2 : (j - 1) / 2 = i
    · rw [e2, pk_us, pk_un e1]; exact he j h0 hm e2
    · rw [pk_un e1, pk_un e2]; exact i1 j h0 hm e1 e2
theorem tl_DN_step {m i c : Nat} {h : Nat → Int32} {x : Int32} (I : tl_DN le m h i x) (hc0 : 0 < c) (hcm : c < m) (hc : (c - 1) / 2 = i) (hmin : ∀ j, 0 < j → j < m → (j - 1) / 2 = i → le (h c) (h j)) (hx : le (h c) x) : tl_DN le m (upd h i (h c)) c x := by
  obtain ⟨i1, i2⟩ := I
  have hic : i < c := by omega
  refine ⟨fun j h0 hm e1 e2 => ?_, fun _ => ?_⟩
  · by_cases e3 : j = i
    · rw [e3, pk_us, pk_un (by omega)]
      exact (i2 (by omega)).2 c hc0 hcm hc
    · rw [pk_un e3]
      by_cases e4 : (j - 1) / 2 = i
      · rw [e4, pk_us]; exact hmin j h0 hm e4
      · rw [pk_un e4]; exact i1 j h0 hm e3 e4
  · rw [hc, pk_us]
    refine ⟨hx, fun j h0 hm e => ?_⟩
    rw [pk_un (by omega)]
    have := i1 j h0 hm (by omega) (by omega)
    rw [e] at this; exact this
theorem tl_HO_min {m : Nat} {h : Nat → Int32} (tot : ∀ a b, le a b ∨ le b a) (trn : ∀ a b c, le a b → le b c → le a c) (I : tl_HO le m h) : ∀ j, j < m → le (h 0) (h j) := by
  intro j
  induction j using Nat.strongRecOn with
  | ind j ih =>
    intro hj
    by_cases e : j = 0
    · rw [e]; exact (tot (h 0) (h 0)).elim id id
    · exact trn _ _ _ (ih ((j - 1) / 2) (by omega) (by omega)) (I j (by omega) hj)
end
theorem tl_MB_end {m i : Nat} {h : Nat → Int32} {x y : Int32} (hi : i < m) : (∃ j, j < m ∧ upd h i x j = y) ↔ tl_MB m h i x y := by
  constructor
  · rintro ⟨j, hj, e⟩
    by_cases hji : j = i
    · rw [hji, pk_us] at e; exact Or.inl e.symm
    · rw [pk_un hji] at e; exact Or.inr ⟨j, hj, hji, e⟩
  · rintro (e | ⟨j, hj, hji, e⟩)
    · exact ⟨i, hi, by rw [pk_us]; exact e.symm⟩
    · exact ⟨j, hj, by rw [pk_un hji]; exact e⟩
theorem tl_MB_step {m i c : Nat} {h : Nat → Int32} {x y : Int32} (hi : i < m) (hc : c < m) (hci : c ≠ i) : tl_MB m (upd h i (h c)) c x y ↔ tl_MB m h i x y := by
  constructor
  · rintro (e | ⟨j, hj, hjc, e⟩)
    · exact Or.inl e
    · by_cases hji : j = i
      · rw [hji, pk_us] at e; exact Or.inr ⟨c, hc, hci, e⟩
      · rw [pk_un hji] at e; exact Or.inr ⟨j, hj, hji, e⟩
  · rintro (e | ⟨j, hj, hji, e⟩)
    · exact Or.inl e
    · by_cases hjc : j = c
      · exact Or.inr ⟨i, hi, fun z => hci z.symm, by rw [pk_us, ← hjc]; exact e⟩
      · exact Or.inr ⟨j, hj, hjc, by rw [pk_un hji]; exact e⟩
/-- the order of two places of transfers: the lapse, then the id -/
def tl_bf (la id : Nat → Int32) (x y : Int32) : Prop := la x.toNatClampNeg < la y.toNatClampNeg ∨ (la x.toNatClampNeg = la y.toNatClampNeg ∧ id x.toNatClampNeg < id y.toNatClampNeg)
def tl_le (la id : Nat → Int32) (x y : Int32) : Prop := ¬ tl_bf la id y x
theorem tl_bf_i {la id : Nat → Int32} {x y : Int32} : tl_bf la id x y ↔ ((la x.toNatClampNeg).toInt < (la y.toNatClampNeg).toInt ∨ ((la x.toNatClampNeg).toInt = (la y.toNatClampNeg).toInt ∧ (id x.toNatClampNeg).toInt < (id y.toNatClampNeg).toInt)) := by
  unfold tl_bf
  rw [Int32.lt_iff_toInt_lt, Int32.lt_iff_toInt_lt, Int32.toInt_inj]
theorem tl_le_tot (la id : Nat → Int32) (x y : Int32) : tl_le la id x y ∨ tl_le la id y x := by
  unfold tl_le
  rw [tl_bf_i, tl_bf_i]
  omega
theorem tl_le_trn (la id : Nat → Int32) (x y z : Int32) : tl_le la id x y → tl_le la id y z → tl_le la id x z := by
  unfold tl_le
  rw [tl_bf_i, tl_bf_i, tl_bf_i]
  omega
theorem tl_le_of {la id : Nat → Int32} {x y : Int32} (h : tl_bf la id x y) : tl_le la id x y := by
  unfold tl_le
  rw [tl_bf_i] at h
  rw [tl_bf_i]
  omega
end
section
/-! the abstract state and the two pictures of it.
tr t j: 0 id, 1 kind, 2 one, 3 two, 4 amount, 5 life, 6 lapse, 7 came, 8 its hold, 9 account of the debit entry or -1, 10 of the credit entry -/
def tl_MV (A : Nat) (w : Nat → Int32) : Prop := ∃ a b m : Nat, a < A ∧ b < A ∧ a ≠ b ∧ w 2 = nI a ∧ w 3 = nI b ∧ 1 ≤ m ∧ m ≤ 1000000 ∧ w 4 = nI m
def tl_V0 (A : Nat) (w : Nat → Int32) : Prop := w 1 = 0 ∧ tl_MV A w ∧ w 5 = 0 ∧ w 7 = w 4 ∧ w 9 = w 2 ∧ w 10 = w 3
def tl_V1 (A T : Nat) (w : Nat → Int32) : Prop := w 1 = 1 ∧ tl_MV A w ∧ (∃ q : Nat, q ≤ 1000 ∧ w 5 = nI q) ∧ (∃ p : Nat, p ≤ T + 1000 ∧ w 6 = nI p ∧ (¬ w 5 ≤ 0 → 0 < p)) ∧ w 9 = -1 ∧ w 10 = -1
def tl_V2 (tr : Nat → Nat → Int32) (t : Nat) (w : Nat → Int32) : Prop := w 1 = 2 ∧ w 3 = 0 ∧ w 5 = 0 ∧ (∃ c : Nat, 1 ≤ c ∧ c ≤ 1000000 ∧ w 7 = nI c) ∧ ∃ h : Nat, h < t ∧ w 8 = nI h ∧ tr h 1 = 1 ∧ tr h 0 = w 2 ∧ w 9 = tr h 2 ∧ w 10 = tr h 3
def tl_V3 (tr : Nat → Nat → Int32) (t : Nat) (w : Nat → Int32) : Prop := w 1 = 3 ∧ w 3 = 0 ∧ w 4 = 0 ∧ w 5 = 0 ∧ w 7 = 0 ∧ w 9 = -1 ∧ w 10 = -1 ∧ ∃ h : Nat, h < t ∧ w 8 = nI h ∧ tr h 1 = 1 ∧ tr h 0 = w 2
/-- transfer number t, with record w, is sound over those before it -/
def tl_V (A T : Nat) (tr : Nat → Nat → Int32) (t : Nat) (w : Nat → Int32) : Prop :=
  (∃ i : Nat, i < 100 ∧ w 0 = nI i) ∧ (∀ s, s < t → ¬ tr s 0 = w 0) ∧ (tl_V0 A w ∨ tl_V1 A T w ∨ tl_V2 tr t w ∨ tl_V3 tr t w)
def tl_Vs (A T : Nat) (tr : Nat → Nat → Int32) (n : Nat) : Prop := ∀ t, t < n → tl_V A T tr t (tr t)
/-- no account is broken -/
def tl_NB (A : Nat) (bd : Nat → Int32) (F : Nat → Nat → Int) : Prop := ∀ a, a < A → (bd a = 1 → F a 0 + F a 1 ≤ F a 3) ∧ (bd a = 2 → F a 2 + F a 3 ≤ F a 1)
/-- the numbers given with a call are as its kind lays them -/
def tl_WF (w : Nat → Int32) : Prop := (w 1 = 0 ∧ w 5 = 0) ∨ w 1 = 1 ∨ (w 1 = 2 ∧ w 3 = 0 ∧ w 5 = 0) ∨ (w 1 = 3 ∧ w 3 = 0 ∧ w 4 = 0 ∧ w 5 = 0)
def tl_SS (n : Nat) (st : Nat → Int32) : Prop := ∀ t, t < n → st t = 0 ∨ st t = 1 ∨ st t = 2 ∨ st t = 3
def tl_Iv (A : Nat) (bd : Nat → Int32) (T n : Nat) (tr : Nat → Nat → Int32) (st : Nat → Int32) (l : Nat) (lk : Nat → Nat → Int32) : Prop :=
  A ≤ 10 ∧ T ≤ 4000000 ∧ n ≤ 60 ∧ l ≤ 8 ∧ tl_SS n st ∧ tl_Vs A T tr n ∧ tl_NB A bd (tl_SM tr st n) ∧ (∀ j, j < l → tl_WF (lk j))
def tl_XB (n : Nat) (tr : Nat → Nat → Int32) (st id ki on tw am li ca s la : Nat → Int32) : Prop :=
  ∀ t, t < n → (id t = tr t 0 ∧ ki t = tr t 1 ∧ on t = tr t 2 ∧ tw t = tr t 3 ∧ am t = tr t 4 ∧ li t = tr t 5 ∧ ca t = tr t 7 ∧ s t = st t) ∧ (tr t 1 = 1 → la t = tr t 6)
def tl_PL (n : Nat) (tr : Nat → Nat → Int32) (pl : Nat → Int32) : Prop := ∀ i, i < 100 → pl i = tl_LS (fun t => tr t 0) n (nI i)
def tl_XL (l : Nat) (lk : Nat → Nat → Int32) (lI lK lO lT lA lL : Nat → Int32) : Prop :=
  ∀ j, j < l → lI j = lk j 0 ∧ lK j = lk j 1 ∧ lO j = lk j 2 ∧ lT j = lk j 3 ∧ lA j = lk j 4 ∧ lL j = lk j 5
/-- a hold that lapses, as an element of the heap -/
def tl_G (n : Nat) (tr : Nat → Nat → Int32) (y : Int32) : Prop := ∃ t : Nat, t < n ∧ y = nI t ∧ tr t 1 = 1 ∧ ¬ tr t 5 ≤ 0
def tl_HP (n : Nat) (tr : Nat → Nat → Int32) (st la id : Nat → Int32) (m : Nat) (hp : Nat → Int32) : Prop :=
  m ≤ n ∧ (∀ j, j < m → tl_G n tr (hp j)) ∧ tl_HO (tl_le la id) m hp ∧ (∀ t, t < n → tr t 1 = 1 → st t = 0 → ¬ tr t 5 ≤ 0 → ∃ j, j < m ∧ hp j = nI t)
def tl_RX (f : Prop) (A : Nat) (bd : Nat → Int32) (T n : Nat) (tr : Nat → Nat → Int32) (st : Nat → Int32) (ch : Int32) (l : Nat) (lk : Nat → Nat → Int32) (u : SX) : Prop := match u with
  | (xA, xT, xN, xH, xC, xL, xbo, xsu, xid, xki, xon, xtw, xam, xli, xca, xst, xla, xpl, xfe, xle, xne, xpe, xhp, xlI, xlK, xlO, xlT, xlA, xlL) => (xA = nI A ∧ xT = nI T ∧ xN = nI n ∧ xC = ch ∧ xL = nI l ∧ xbo = bd) ∧ tl_XB n tr st xid xki xon xtw xam xli xca xst xla ∧ tl_PL n tr xpl ∧ tl_SF (tl_SM tr st n) xsu ∧
    tl_EN 0 (fun t => tr t 9) n xfe xle xne xpe ∧ tl_EN 1 (fun t => tr t 10) n xfe xle xne xpe ∧ tl_XL l lk xlI xlK xlO xlT xlA xlL ∧ (f → ∃ m : Nat, xH = nI m ∧ tl_HP n tr st xla xid m xhp)
def tl_n1 (w : Nat → Int32) : Int32 := if w 1 = 2 then w 4 else w 3
def tl_n2 (w : Nat → Int32) : Int32 := if w 1 = 2 then 0 else w 4
def tl_wt (w : Nat → Int32) : Int32 := if w 1 = 1 ∧ ¬ w 5 ≤ 0 then w 6 else 0
def tl_YB (n : Nat) (tr : Nat → Nat → Int32) (st ki id nu s en ho ca : Nat → Int32) : Prop :=
  ∀ t, t < n → (ki t = tr t 1 ∧ id t = tr t 0 ∧ nu (4 * t) = tr t 2 ∧ nu (4 * t + 1) = tl_n1 (tr t) ∧ nu (4 * t + 2) = tl_n2 (tr t) ∧ nu (4 * t + 3) = tr t 5 ∧ s t = st t) ∧ en t = tl_wt (tr t) ∧ (tr t 1 = 2 → ho t = tr t 8 ∧ ca t = tr t 7)
def tl_YL (l : Nat) (lk : Nat → Nat → Int32) (lK lI lN : Nat → Int32) : Prop :=
  ∀ j, j < l → lK j = lk j 1 ∧ lI j = lk j 0 ∧ lN (4 * j) = lk j 2 ∧ lN (4 * j + 1) = tl_n1 (lk j) ∧ lN (4 * j + 2) = tl_n2 (lk j) ∧ lN (4 * j + 3) = lk j 5
def tl_RY (A : Nat) (bd : Nat → Int32) (T n : Nat) (tr : Nat → Nat → Int32) (st : Nat → Int32) (ch : Int32) (l : Nat) (lk : Nat → Nat → Int32) (ks kt : Nat → Int32) (v : SY) : Prop := match v with
  | (yA, yT, yN, yC, yL, ybo, ysu, yki, yid, ynu, yst, yen, yho, yca, ylK, ylI, ylN, ykS, ykT) => (yA = nI A ∧ yT = nI T ∧ yN = nI n ∧ yC = ch ∧ yL = nI l ∧ ybo = bd) ∧ tl_YB n tr st yki yid ynu yst yen yho yca ∧ tl_SF (tl_SM tr st n) ysu ∧ tl_YL l lk ylK ylI ylN ∧ ykS = ks ∧ ykT = kt
/-- the relation at the head of a turn whose first cell is k: one abstract state for both -/
def i_Rel (k : Nat) (u : SX) (v : SY) : Prop := ∃ (A : Nat) (bd : Nat → Int32) (T n : Nat) (tr : Nat → Nat → Int32) (st : Nat → Int32) (ch : Int32) (l : Nat) (lk : Nat → Nat → Int32) (ks kt : Nat → Int32),
  T ≤ 1000 * k ∧ tl_Iv A bd T n tr st l lk ∧ tl_RX True A bd T n tr st ch l lk u ∧ tl_RY A bd T n tr st ch l lk ks kt v
theorem i_up {k : Nat} {u : SX} {v : SY} (h : i_Rel k u v) : i_Rel (k + 6) u v := by
  obtain ⟨A, bd, T, n, tr, st, ch, l, lk, ks, kt, hT, h⟩ := h
  exact ⟨A, bd, T, n, tr, st, ch, l, lk, ks, kt, by omega, h⟩
/-! plain laws of validity and sums -/
theorem tl_nT {x : Int32} {m : Nat} (h : x = nI m) (hm : m < 2 ^ 31) : x.toInt = (m : Int) := by rw [h]; exact nI_toInt hm
theorem tl_V_mv {A T : Nat} {tr : Nat → Nat → Int32} {t : Nat} {w : Nat → Int32} (h : tl_V A T tr t w) (h1 : w 1 = 1) : tl_V1 A T w := by
  obtain ⟨_, _, h | h | h | h⟩ := h
  · rw [h.1] at h1; exact absurd h1 (by decide)
  · exact h
  · rw [h.1] at h1; exact absurd h1 (by decide)
  · rw [h.1] at h1; exact absurd h1 (by decide)
theorem tl_ct_b {A T : Nat} {tr : Nat → Nat → Int32} {st : Nat → Int32} {t : Nat} (h : tl_V A T tr t (tr t)) (a w : Nat) : 0 ≤ tl_ct tr st t a w ∧ tl_ct tr st t a w ≤ 1000000 := by
  obtain ⟨_, _, h | h | h | h⟩ := h
  · obtain ⟨h1, ⟨x, y, m, _, _, _, _, _, hm1, hm2, hm⟩, _, h7, _⟩ := h
    rw [tl_ct_m (by rw [h1]; decide), h7, tl_nT hm (by omega)]
    exact tl_dl_b a w (by omega) (by omega)
  · obtain ⟨h1, ⟨x, y, m, _, _, _, _, _, hm1, hm2, hm⟩, _⟩ := h
    by_cases hs : st t = 0
    · rw [tl_ct_h h1 hs, tl_nT hm (by omega)]
      exact tl_dl_b a w (by omega) (by omega)
    · rw [tl_ct_0 h1 hs]; omega
  · obtain ⟨h1, _, _, ⟨c, hc1, hc2, hc⟩, _⟩ := h
    rw [tl_ct_m (by rw [h1]; decide), tl_nT hc (by omega)]
    exact tl_dl_b a w (by omega) (by omega)
  · obtain ⟨h1, _, _, _, h7, _⟩ := h
    rw [tl_ct_m (by rw [h1]; decide), h7]
    exact tl_dl_b a w (by decide) (by decide)
theorem tl_SM_b {A T : Nat} {tr : Nat → Nat → Int32} {st : Nat → Int32} (a w : Nat) : ∀ n : Nat, tl_Vs A T tr n → 0 ≤ tl_SM tr st n a w ∧ tl_SM tr st n a w ≤ 1000000 * (n : Int) := by
  intro n
  induction n with
  | zero => intro _; exact ⟨Int.le_refl 0, Int.le_refl 0⟩
  | succ n ih =>
    intro h
    have h1 := ih (fun t ht => h t (by omega))
    have h2 := tl_ct_b (st := st) (h n (by omega)) a w
    rw [tl_SM_s]
    omega
theorem tl_SM_bb {A T : Nat} {tr : Nat → Nat → Int32} {st : Nat → Int32} {n : Nat} (hn : n ≤ 60) (h : tl_Vs A T tr n) (a w : Nat) : 0 ≤ tl_SM tr st n a w ∧ tl_SM tr st n a w ≤ 60000000 := by
  have := tl_SM_b (st := st) a w n h
  omega
theorem tl_dl_z {w0 : Nat} {d c : Int32} {x : Int} {a w : Nat} (h1 : ¬ d = nI a) (h2 : ¬ c = nI a) : tl_dl w0 d c x a w = 0 := by
  show (if w = w0 ∧ d = nI a then x else 0) + (if w = w0 + 2 ∧ c = nI a then x else 0) = 0
  rw [if_neg (fun z => h1 z.2), if_neg (fun z => h2 z.2)]; rfl
theorem tl_ct_z {A T : Nat} {tr : Nat → Nat → Int32} {st : Nat → Int32} {n t a w : Nat} (hA : A ≤ 10) (ha : A ≤ a) (ha2 : a < 100) (H : tl_Vs A T tr n) (ht : t < n) : tl_ct tr st t a w = 0 := by
  have hd : ∀ w' : Nat → Int32, tl_MV A w' → (¬ w' 2 = nI a) ∧ ¬ w' 3 = nI a := by
    rintro w' ⟨x, y, m, hx, hy, _, e1, e2, _⟩
    rw [e1, e2]
    exact ⟨tl_ne (by omega) (by omega) (by omega), tl_ne (by omega) (by omega) (by omega)⟩
  obtain ⟨_, _, h | h | h | h⟩ := H t ht
  · obtain ⟨h1, hm, _, h7, h9, h10⟩ := h
    rw [tl_ct_m (by rw [h1]; decide), h9, h10]
    exact tl_dl_z (hd _ hm).1 (hd _ hm).2
  · obtain ⟨h1, hm, _⟩ := h
    by_cases hs : st t = 0
    · rw [tl_ct_h h1 hs]
      exact tl_dl_z (hd _ hm).1 (hd _ hm).2
    · exact tl_ct_0 h1 hs
  · obtain ⟨h1, _, _, _, q, hq, _, k1, _, h9, h10⟩ := h
    have hm := (tl_V_mv (H q (by omega)) k1).2.1
    rw [tl_ct_m (by rw [h1]; decide), h9, h10]
    exact tl_dl_z (hd _ hm).1 (hd _ hm).2
  · obtain ⟨h1, _, _, _, h7, h9, h10, _⟩ := h
    rw [tl_ct_m (by rw [h1]; decide), h9, h10]
    exact tl_dl_z (tl_m1 (by omega)) (tl_m1 (by omega))
theorem tl_SM_z {A T : Nat} {tr : Nat → Nat → Int32} {st : Nat → Int32} {a w : Nat} (hA : A ≤ 10) (ha : A ≤ a) (ha2 : a < 100) : ∀ n : Nat, tl_Vs A T tr n → tl_SM tr st n a w = 0 := by
  intro n
  induction n with
  | zero => intro _; rfl
  | succ n ih =>
    intro h
    rw [tl_SM_s, ih (fun t ht => h t (by omega)), tl_ct_z hA ha ha2 h (Nat.lt_succ_self n)]; rfl
theorem tl_V_up {A A' T T' : Nat} {tr : Nat → Nat → Int32} {t : Nat} {w : Nat → Int32} (hA : A ≤ A') (hT : T ≤ T') (h : tl_V A T tr t w) : tl_V A' T' tr t w := by
  have hm : ∀ w' : Nat → Int32, tl_MV A w' → tl_MV A' w' := by
    rintro w' ⟨x, y, m, hx, hy, h⟩
    exact ⟨x, y, m, by omega, by omega, h⟩
  obtain ⟨h1, h2, h | h | h | h⟩ := h
  · exact ⟨h1, h2, Or.inl ⟨h.1, hm _ h.2.1, h.2.2⟩⟩
  · obtain ⟨k1, k2, k3, ⟨p, kp, k4⟩, k5⟩ := h
    exact ⟨h1, h2, Or.inr (Or.inl ⟨k1, hm _ k2, k3, ⟨p, by omega, k4⟩, k5⟩)⟩
  · exact ⟨h1, h2, Or.inr (Or.inr (Or.inl h))⟩
  · exact ⟨h1, h2, Or.inr (Or.inr (Or.inr h))⟩
/-- a record put behind n others -/
def tl_ap (tr : Nat → Nat → Int32) (n : Nat) (w : Nat → Int32) : Nat → Nat → Int32 := fun t => if t = n then w else tr t
theorem tl_ap_s {tr : Nat → Nat → Int32} {n : Nat} {w : Nat → Int32} : tl_ap tr n w n = w := if_pos rfl
theorem tl_ap_n {tr : Nat → Nat → Int32} {n t : Nat} {w : Nat → Int32} (h : t ≠ n) : tl_ap tr n w t = tr t := if_neg h
theorem tl_V_c {A T : Nat} {tr tr' : Nat → Nat → Int32} {t : Nat} {w : Nat → Int32} (e : ∀ s, s < t → tr s = tr' s) (h : tl_V A T tr t w) : tl_V A T tr' t w := by
  obtain ⟨h1, h2, h3⟩ := h
  refine ⟨h1, fun s hs => by rw [← e s hs]; exact h2 s hs, ?_⟩
  rcases h3 with h | h | h | h
  · exact Or.inl h
  · exact Or.inr (Or.inl h)
  · obtain ⟨a, b, c, d, q, hq, k⟩ := h
    rw [e q hq] at k
    exact Or.inr (Or.inr (Or.inl ⟨a, b, c, d, q, hq, k⟩))
  · obtain ⟨a, b, c, d, f, g, i, q, hq, k⟩ := h
    rw [e q hq] at k
    exact Or.inr (Or.inr (Or.inr ⟨a, b, c, d, f, g, i, q, hq, k⟩))
theorem tl_Vs_c {A T : Nat} {tr tr' : Nat → Nat → Int32} {n : Nat} (e : ∀ s, s < n → tr s = tr' s) (h : tl_Vs A T tr n) : tl_Vs A T tr' n := fun t ht => by
  rw [← e t ht]
  exact tl_V_c (fun s hs => e s (by omega)) (h t ht)
theorem tl_Vs_ap {A T : Nat} {tr : Nat → Nat → Int32} {n : Nat} {w : Nat → Int32} (h : tl_Vs A T tr n) (hw : tl_V A T tr n w) : tl_Vs A T (tl_ap tr n w) (n + 1) := by
  intro t ht
  by_cases e : t = n
  · rw [e, tl_ap_s]
    exact tl_V_c (fun s hs => (tl_ap_n (by omega)).symm) hw
  · rw [tl_ap_n e]
    exact tl_V_c (fun s hs => (tl_ap_n (by omega)).symm) (h t (by omega))
theorem tl_NB_c {A : Nat} {bd : Nat → Int32} {F G : Nat → Nat → Int} (e : ∀ a w, F a w = G a w) (h : tl_NB A bd F) : tl_NB A bd G := fun a ha => by
  rw [← e, ← e, ← e, ← e]; exact h a ha
theorem tl_FI_is {A T : Nat} {tr : Nat → Nat → Int32} {n t : Nat} (h : tl_Vs A T tr n) (ht : t < n) : tl_LS (fun t => tr t 0) n (tr t 0) = nI t :=
  tl_LS_is ht rfl (fun s h1 h2 e => (h s h2).2.1 t h1 e.symm)
theorem tl_LS_ap {tr : Nat → Nat → Int32} {n j : Nat} {w : Nat → Int32} {x : Int32} : tl_LS (fun t => tl_ap tr n w t j) n x = tl_LS (fun t => tr t j) n x :=
  tl_LS_c n (fun t ht => by show tl_ap tr n w t j = tr t j; rw [tl_ap_n (by omega)])
theorem tl_SM_ap {tr : Nat → Nat → Int32} {st st' : Nat → Int32} {n a w : Nat} {r : Nat → Int32} (h : ∀ t, t < n → st' t = st t) : tl_SM (tl_ap tr n r) st' n a w = tl_SM tr st n a w :=
  tl_SM_c n (fun t ht => tl_ap_n (by omega)) h
theorem tl_Iv_rx {A : Nat} {bd : Nat → Int32} {T n : Nat} {tr : Nat → Nat → Int32} {st : Nat → Int32} {ch : Int32} {l : Nat} {lk : Nat → Nat → Int32} {u : SX} (h : tl_RX True A bd T n tr st ch l lk u) : tl_RX False A bd T n tr st ch l lk u := by
  obtain ⟨xA, xT, xN, xH, xC, xL, xbo, xsu, xid, xki, xon, xtw, xam, xli, xca, xst, xla, xpl, xfe, xle, xne, xpe, xhp, xlI, xlK, xlO, xlT, xlA, xlL⟩ := u
  obtain ⟨h1, h2, h3, h4, h5, h6, h7, _⟩ := h
  exact ⟨h1, h2, h3, h4, h5, h6, h7, fun z => z.elim⟩
end
section
/-! the small walks of the component -/
theorem tl_i4 (d w : Nat) : (4 : Int32) * nI d + nI w = nI (4 * d + w) := by
  rw [show (4 : Int32) = nI 4 from rfl, pk_mul, nI_add]
theorem tl_i42 (d w : Nat) : ((4 : Int32) * nI d + nI w) + 2 = nI (4 * d + w + 2) := by
  rw [tl_i4, show (2 : Int32) = nI 2 from rfl, nI_add]
theorem tl_i2 (d w : Nat) : (2 : Int32) * nI d + nI w = nI (2 * d + w) := by
  rw [show (2 : Int32) = nI 2 from rfl, pk_mul, nI_add]
section
variable {xA xT xN xH xC xL : Int32} {xbo xsu xid xki xon xtw xam xli xca xst xla xpl xfe xle xne xpe xhp xlI xlK xlO xlT xlA xlL : Nat → Int32}
theorem tl_xadd {post : SX → Prop} {d c w : Nat} {x : Int32} (hd : d < 10) (hc : c < 10) (hw : w < 2) (K : post (xA, xT, xN, xH, xC, xL, xbo, tl_ad xsu d c w x, xid, xki, xon, xtw, xam, xli, xca, xst, xla, xpl, xfe, xle, xne, xpe, xhp, xlI, xlK, xlO, xlT, xlA, xlL)) : wpX_addTo post (xA, xT, xN, xH, xC, xL, xbo, xsu, xid, xki, xon, xtw, xam, xli, xca, xst, xla, xpl, xfe, xle, xne, xpe, xhp, xlI, xlK, xlO, xlT, xlA, xlL) (nI d) (nI c) (nI w) x := by
  have v1 : vp_in (4 * nI d + nI w) 40 := pk_in (4 * d + w) 40 (by omega) (tl_i4 d w)
  have v2 : vp_in ((4 * nI c + nI w) + 2) 40 := pk_in (4 * c + w + 2) 40 (by omega) (tl_i42 c w)
  have c1 : ((4 : Int32) * nI d + nI w).toNatClampNeg = 4 * d + w := pk_cl (4 * d + w) (tl_i4 d w)
  have c2 : (((4 : Int32) * nI c + nI w) + 2).toNatClampNeg = 4 * c + w + 2 := pk_cl (4 * c + w + 2) (tl_i42 c w)
  unfold wpX_addTo
  dsimp only
  rw [c1, c2]
  refine ⟨v1, v1, ?_⟩
  rintro _ rfl
  refine ⟨v2, v2, ?_⟩
  rintro _ rfl
  exact K
theorem tl_xunhold {post : SX → Prop} {h a b : Nat} {s x : Int32} (hh : h < 60) (ha : a < 10) (hb : b < 10) (ho : xon h = nI a) (ht : xtw h = nI b) (hx : xam h = x) (K : post (xA, xT, xN, xH, xC, xL, xbo, tl_ad xsu a b 0 (-x), xid, xki, xon, xtw, xam, xli, xca, upd xst h s, xla, xpl, xfe, xle, xne, xpe, xhp, xlI, xlK, xlO, xlT, xlA, xlL)) : wpX_unhold post (xA, xT, xN, xH, xC, xL, xbo, xsu, xid, xki, xon, xtw, xam, xli, xca, xst, xla, xpl, xfe, xle, xne, xpe, xhp, xlI, xlK, xlO, xlT, xlA, xlL) (nI h) s := by
  have v : vp_in (nI h) 60 := vp_in_nI hh (by decide)
  have c : (nI h).toNatClampNeg = h := nI_clamp (by omega)
  unfold wpX_unhold
  dsimp only
  rw [c, ho, ht, hx]
  refine ⟨v, ?_⟩
  rintro _ rfl
  refine ⟨v, v, v, ?_⟩
  exact tl_xadd (w := 0) ha hb (by decide) K
theorem tl_xrehold {post : SX → Prop} {h a b : Nat} {x : Int32} (hh : h < 60) (ha : a < 10) (hb : b < 10) (ho : xon h = nI a) (ht : xtw h = nI b) (hx : xam h = x) (K : post (xA, xT, xN, xH, xC, xL, xbo, tl_ad xsu a b 0 x, xid, xki, xon, xtw, xam, xli, xca, upd xst h 0, xla, xpl, xfe, xle, xne, xpe, xhp, xlI, xlK, xlO, xlT, xlA, xlL)) : wpX_rehold post (xA, xT, xN, xH, xC, xL, xbo, xsu, xid, xki, xon, xtw, xam, xli, xca, xst, xla, xpl, xfe, xle, xne, xpe, xhp, xlI, xlK, xlO, xlT, xlA, xlL) (nI h) := by
  have v : vp_in (nI h) 60 := vp_in_nI hh (by decide)
  have c : (nI h).toNatClampNeg = h := nI_clamp (by omega)
  unfold wpX_rehold
  dsimp only
  rw [c, ho, ht, hx]
  refine ⟨v, ?_⟩
  rintro _ rfl
  refine ⟨v, v, v, ?_⟩
  exact tl_xadd (w := 0) ha hb (by decide) K
theorem tl_xenter {post : SX → Prop} {s a n : Nat} {E : Nat → Int32} (hs : s < 2) (ha : a < 10) (hn : n < 60) (I : tl_EN s E n xfe xle xne xpe) (e : E n = nI a)
    (K : ∀ fe le ne pe : Nat → Int32, tl_EN s E (n + 1) fe le ne pe → (∀ j, fe (2 * j + (1 - s)) = xfe (2 * j + (1 - s))) → (∀ j, le (2 * j + (1 - s)) = xle (2 * j + (1 - s))) → (∀ j, ne (2 * j + (1 - s)) = xne (2 * j + (1 - s))) → (∀ j, pe (2 * j + (1 - s)) = xpe (2 * j + (1 - s))) → post (xA, xT, xN, xH, xC, xL, xbo, xsu, xid, xki, xon, xtw, xam, xli, xca, xst, xla, xpl, fe, le, ne, pe, xhp, xlI, xlK, xlO, xlT, xlA, xlL)) :
    wpX_enter post (xA, xT, xN, xH, xC, xL, xbo, xsu, xid, xki, xon, xtw, xam, xli, xca, xst, xla, xpl, xfe, xle, xne, xpe, xhp, xlI, xlK, xlO, xlT, xlA, xlL) (nI n) (nI a) (nI s) := by
  have vc : vp_in (nI (2 * a + s)) 20 := vp_in_nI (by omega) (by decide)
  have cc : (nI (2 * a + s)).toNatClampNeg = 2 * a + s := nI_clamp (by omega)
  have vn : vp_in (nI (2 * n + s)) 120 := vp_in_nI (by omega) (by decide)
  have cn : (nI (2 * n + s)).toNatClampNeg = 2 * n + s := nI_clamp (by omega)
  have hl : xle (2 * a + s) = tl_LS E n (nI a) := I.2.1 a ha
  unfold wpX_enter
  dsimp only
  rw [tl_i2, tl_i2]
  rintro _ rfl
  rw [cc, cn]
  refine ⟨vc, ?_⟩
  rw [hl]
  rcases tl_LS_sp E (nI a) n with ⟨h1, _⟩ | ⟨q, hq, h1, _, _⟩
  · rw [h1]
    rintro _ rfl
    refine ⟨vn, ?_⟩
    rintro _ rfl
    refine ⟨vn, ?_⟩
    rintro _ rfl
    refine br_f (by decide) ⟨vc, ?_⟩
    rintro _ rfl
    refine ⟨vc, ?_⟩
    rintro _ rfl
    exact K _ _ _ _ (tl_EN_e0 (by omega) ha I e h1) (fun j => pk_un (by omega)) (fun j => pk_un (by omega)) (fun j => pk_un (by omega)) (fun j => pk_un (by omega))
  · rw [h1]
    rintro _ rfl
    refine ⟨vn, ?_⟩
    rintro _ rfl
    refine ⟨vn, ?_⟩
    rintro _ rfl
    have cq : (nI (2 * q + s)).toNatClampNeg = 2 * q + s := nI_clamp (by omega)
    rw [tl_i2, cq]
    refine br_t (nI_pos' (by omega)) ⟨vp_in_nI (by omega) (by decide), ?_⟩
    rintro _ rfl
    refine ⟨vc, ?_⟩
    rintro _ rfl
    exact K _ _ _ _ (tl_EN_e1 (by omega) ha I e hq h1) (fun j => rfl) (fun j => pk_un (by omega)) (fun j => by rw [pk_un (by omega), pk_un (by omega)]) (fun j => pk_un (by omega))
theorem tl_xleave {post : SX → Prop} {s a n : Nat} {E : Nat → Int32} (hs : s < 2) (ha : a < 10) (hn : n < 60) (I : tl_EN s E (n + 1) xfe xle xne xpe) (e : E n = nI a)
    (K : ∀ fe le ne : Nat → Int32, tl_EN s E n fe le ne xpe → (∀ j, fe (2 * j + (1 - s)) = xfe (2 * j + (1 - s))) → (∀ j, le (2 * j + (1 - s)) = xle (2 * j + (1 - s))) → (∀ j, ne (2 * j + (1 - s)) = xne (2 * j + (1 - s))) → post (xA, xT, xN, xH, xC, xL, xbo, xsu, xid, xki, xon, xtw, xam, xli, xca, xst, xla, xpl, fe, le, ne, xpe, xhp, xlI, xlK, xlO, xlT, xlA, xlL)) :
    wpX_leave post (xA, xT, xN, xH, xC, xL, xbo, xsu, xid, xki, xon, xtw, xam, xli, xca, xst, xla, xpl, xfe, xle, xne, xpe, xhp, xlI, xlK, xlO, xlT, xlA, xlL) (nI a) (nI s) := by
  have vc : vp_in (nI (2 * a + s)) 20 := vp_in_nI (by omega) (by decide)
  have cc : (nI (2 * a + s)).toNatClampNeg = 2 * a + s := nI_clamp (by omega)
  have vn : vp_in (nI (2 * n + s)) 120 := vp_in_nI (by omega) (by decide)
  have cn : (nI (2 * n + s)).toNatClampNeg = 2 * n + s := nI_clamp (by omega)
  obtain ⟨ht, hp⟩ := tl_EN_top ha I e
  unfold wpX_leave
  dsimp only
  rw [tl_i2]
  rintro _ rfl
  rw [cc]
  refine ⟨vc, ?_⟩
  rw [ht]
  rintro _ rfl
  rw [tl_i2, cn]
  refine ⟨vn, ?_⟩
  rw [hp]
  rcases tl_LS_sp E (nI a) n with ⟨h1, _⟩ | ⟨q, hq, h1, _, _⟩
  · rw [h1]
    rintro _ rfl
    refine ⟨vc, ?_⟩
    rintro _ rfl
    refine br_f (by decide) ⟨vc, ?_⟩
    rintro _ rfl
    exact K _ _ _ (tl_EN_l0 (by omega) ha I e h1) (fun j => pk_un (by omega)) (fun j => pk_un (by omega)) (fun j => rfl)
  · rw [h1]
    rintro _ rfl
    refine ⟨vc, ?_⟩
    rintro _ rfl
    have cq : (nI (2 * q + s)).toNatClampNeg = 2 * q + s := nI_clamp (by omega)
    rw [tl_i2, cq]
    refine br_t (nI_pos' (by omega)) ⟨vp_in_nI (by omega) (by decide), ?_⟩
    rintro _ rfl
    exact K _ _ _ (tl_EN_l1 (by omega) ha I e hq h1) (fun j => rfl) (fun j => pk_un (by omega)) (fun j => pk_un (by omega))
theorem tl_xcome {post : SX → Prop} {a b n : Nat} {x : Int32} {E0 E1 : Nat → Int32} (ha : a < 10) (hb : b < 10) (hn : n < 60) (I0 : tl_EN 0 E0 n xfe xle xne xpe) (I1 : tl_EN 1 E1 n xfe xle xne xpe) (e0 : E0 n = nI a) (e1 : E1 n = nI b)
    (K : ∀ fe le ne pe : Nat → Int32, tl_EN 0 E0 (n + 1) fe le ne pe → tl_EN 1 E1 (n + 1) fe le ne pe → post (xA, xT, xN, xH, xC, xL, xbo, tl_ad xsu a b 1 x, xid, xki, xon, xtw, xam, xli, upd xca n x, xst, xla, xpl, fe, le, ne, pe, xhp, xlI, xlK, xlO, xlT, xlA, xlL)) :
    wpX_come post (xA, xT, xN, xH, xC, xL, xbo, xsu, xid, xki, xon, xtw, xam, xli, xca, xst, xla, xpl, xfe, xle, xne, xpe, xhp, xlI, xlK, xlO, xlT, xlA, xlL) (nI n) (nI a) (nI b) x := by
  have v : vp_in (nI n) 60 := vp_in_nI hn (by decide)
  have c : (nI n).toNatClampNeg = n := nI_clamp (by omega)
  unfold wpX_come
  dsimp only
  rw [c]
  refine ⟨v, ?_⟩
  rintro _ rfl
  refine tl_xadd (w := 1) ha hb (by decide) ?_
  refine tl_xenter (s := 0) (by decide) ha hn I0 e0 (fun fe le ne pe J0 f1 f2 f3 f4 => ?_)
  have J1 : tl_EN 1 E1 n fe le ne pe := tl_EN_o I1 f1 f2 f3 f4
  refine tl_xenter (s := 1) (by decide) hb hn J1 e1 (fun fe' le' ne' pe' J g1 g2 g3 g4 => ?_)
  exact K fe' le' ne' pe' (tl_EN_o J0 g1 g2 g3 g4) J
theorem tl_xuncome {post : SX → Prop} {a b n : Nat} {x : Int32} {E0 E1 : Nat → Int32} (ha : a < 10) (hb : b < 10) (hn : n < 60) (I0 : tl_EN 0 E0 (n + 1) xfe xle xne xpe) (I1 : tl_EN 1 E1 (n + 1) xfe xle xne xpe) (e0 : E0 n = nI a) (e1 : E1 n = nI b) (hx : xca n = x)
    (K : ∀ fe le ne : Nat → Int32, tl_EN 0 E0 n fe le ne xpe → tl_EN 1 E1 n fe le ne xpe → post (xA, xT, xN, xH, xC, xL, xbo, tl_ad xsu a b 1 (-x), xid, xki, xon, xtw, xam, xli, xca, xst, xla, xpl, fe, le, ne, xpe, xhp, xlI, xlK, xlO, xlT, xlA, xlL)) :
    wpX_uncome post (xA, xT, xN, xH, xC, xL, xbo, xsu, xid, xki, xon, xtw, xam, xli, xca, xst, xla, xpl, xfe, xle, xne, xpe, xhp, xlI, xlK, xlO, xlT, xlA, xlL) (nI n) (nI a) (nI b) := by
  have v : vp_in (nI n) 60 := vp_in_nI hn (by decide)
  have c : (nI n).toNatClampNeg = n := nI_clamp (by omega)
  unfold wpX_uncome
  dsimp only
  rw [c, hx]
  refine ⟨v, ?_⟩
  refine tl_xadd (w := 1) ha hb (by decide) ?_
  refine tl_xleave (s := 0) (by decide) ha hn I0 e0 (fun fe le ne J0 f1 f2 f3 => ?_)
  have J1 : tl_EN 1 E1 (n + 1) fe le ne xpe := tl_EN_o I1 f1 f2 f3 (fun _ => rfl)
  refine tl_xleave (s := 1) (by decide) hb hn J1 e1 (fun fe' le' ne' J g1 g2 g3 => ?_)
  exact K fe' le' ne' (tl_EN_o J0 g1 g2 g3 (fun _ => rfl)) J
end
end
section
/-! the heap's walks of the component -/
theorem tl_par {i : Nat} (h0 : 0 < i) (hi : i < 1000) : (nI i - 1) / 2 = nI ((i - 1) / 2) := by
  obtain ⟨k, rfl⟩ : ∃ k, i = k + 1 := ⟨i - 1, by omega⟩
  rw [nI_pred, show (2 : Int32) = nI 2 from rfl, pk_div (by omega) (by decide) (by decide), Nat.add_sub_cancel]
theorem tl_ch (i : Nat) : (2 : Int32) * nI i + 1 = nI (2 * i + 1) := by
  rw [show (2 : Int32) = nI 2 from rfl, pk_mul, nI_1]
theorem tl_G_in {n : Nat} {tr : Nat → Nat → Int32} {y : Int32} (hn : n ≤ 60) (h : tl_G n tr y) : vp_in y 60 := by
  obtain ⟨t, ht, e, _⟩ := h
  rw [e]; exact vp_in_nI (by omega) (by decide)
theorem tl_le_r (la id : Nat → Int32) (x : Int32) : tl_le la id x x := (tl_le_tot la id x x).elim (fun z => z) (fun z => z)
section
variable {xA xT xN xH xC xL : Int32} {xbo xsu xid xki xon xtw xam xli xca xst xla xpl xfe xle xne xpe xhp xlI xlK xlO xlT xlA xlL : Nat → Int32}
theorem tl_xbefore {post : Int32 → Prop} {p q : Int32} (hp : vp_in p 60) (hq : vp_in q 60) (K1 : tl_bf xla xid p q → post 1) (K0 : ¬ tl_bf xla xid p q → post 0) : wpX_before post (xA, xT, xN, xH, xC, xL, xbo, xsu, xid, xki, xon, xtw, xam, xli, xca, xst, xla, xpl, xfe, xle, xne, xpe, xhp, xlI, xlK, xlO, xlT, xlA, xlL) p q := by
  unfold wpX_before
  dsimp only
  refine ⟨hp, hq, fun h => K1 (Or.inl h), fun h => ⟨hp, hq, fun h2 => ⟨hp, hq, fun h3 => K0 ?_, fun h3 => K1 (Or.inr ⟨h2, Int32.not_le.mp h3⟩)⟩, fun h2 => K0 ?_⟩⟩
  · rintro (z | ⟨_, z⟩)
    · exact h z
    · exact Int32.not_lt.mpr h3 z
  · rintro (z | ⟨z, _⟩)
    · exact h z
    · exact h2 z
theorem tl_xraise {post : SX → Prop} {x : Int32} {m n : Nat} {tr : Nat → Nat → Int32} (hm : m ≤ 60) (hn : n ≤ 60) (gx : tl_G n tr x) : ∀ (i N : Nat) (h : Nat → Int32), i < N → i < m → (∀ j, j < m → j ≠ i → tl_G n tr (h j)) → tl_UP (tl_le xla xid) m h i x →
    (∀ h' : Nat → Int32, tl_HO (tl_le xla xid) m h' → (∀ y, (∃ j, j < m ∧ h' j = y) ↔ tl_MB m h i x y) → post (xA, xT, xN, xH, xC, xL, xbo, xsu, xid, xki, xon, xtw, xam, xli, xca, xst, xla, xpl, xfe, xle, xne, xpe, h', xlI, xlK, xlO, xlT, xlA, xlL)) → wX_raise_9 post x xA xT xN xH xC xL N (nI i) xbo xsu xid xki xon xtw xam xli xca xst xla xpl xfe xle xne xpe h xlI xlK xlO xlT xlA xlL := by
  intro i
  induction i using Nat.strongRecOn with
  | ind i ih =>
    intro N h hN him gh I K
    obtain ⟨N, rfl⟩ : ∃ N', N = N' + 1 := ⟨N - 1, by omega⟩
    have vi : vp_in (nI i) 60 := vp_in_nI (by omega) (by decide)
    have ci : (nI i).toNatClampNeg = i := nI_clamp (by omega)
    rw [wX_raise_9]
    dsimp only
    rw [ci]
    by_cases h0 : i = 0
    · refine br_t (by rw [h0]; decide) ⟨vi, ?_⟩
      rintro _ rfl
      exact K _ (tl_UP_end I (Or.inl h0)) (fun y => tl_MB_end him)
    · have cp : (nI ((i - 1) / 2)).toNatClampNeg = (i - 1) / 2 := nI_clamp (by omega)
      have vp : vp_in (nI ((i - 1) / 2)) 60 := vp_in_nI (by omega) (by decide)
      rw [tl_par (by omega) (by omega), cp]
      refine br_f (nI_nle (by omega) (by omega)) ⟨by decide, vp, ?_⟩
      refine tl_xbefore (tl_G_in hn gx) (tl_G_in hn (gh ((i - 1) / 2) (by omega) (by omega))) (fun hb => ?_) (fun hb => ?_)
      · refine br_f (by decide) ⟨by decide, vp, vi, ?_⟩
        rintro _ rfl
        refine ⟨by decide, ?_⟩
        rintro _ rfl
        refine ih ((i - 1) / 2) (by omega) N _ (by omega) (by omega) (fun j hj hji => ?_) (tl_UP_step (tl_le_tot xla xid) (tl_le_trn xla xid) I (by omega) him (tl_le_of hb)) (fun h' H M => K h' H (fun y => (M y).trans (tl_MB_step him (by omega) (by omega))))
        by_cases e : j = i
        · rw [e, pk_us]; exact gh ((i - 1) / 2) (by omega) (by omega)
        · rw [pk_un e]; exact gh j hj e
      · refine br_t rfl ⟨vi, ?_⟩
        rintro _ rfl
        exact K _ (tl_UP_end I (Or.inr hb)) (fun y => tl_MB_end him)
theorem tl_xpush {post : SX → Prop} {p : Int32} {m n : Nat} {tr : Nat → Nat → Int32} {h : Nat → Int32} (hm : m < 60) (hn : n ≤ 60) (gp : tl_G n tr p) (gh : ∀ j, j < m → tl_G n tr (h j)) (I : tl_HO (tl_le xla xid) m h)
    (K : ∀ h' : Nat → Int32, tl_HO (tl_le xla xid) (m + 1) h' → (∀ j, j < m + 1 → tl_G n tr (h' j)) → (∀ y, (∃ j, j < m + 1 ∧ h' j = y) ↔ (y = p ∨ ∃ j, j < m ∧ h j = y)) → post (xA, xT, xN, nI (m + 1), xC, xL, xbo, xsu, xid, xki, xon, xtw, xam, xli, xca, xst, xla, xpl, xfe, xle, xne, xpe, h', xlI, xlK, xlO, xlT, xlA, xlL)) :
    wpX_push post (xA, xT, xN, nI m, xC, xL, xbo, xsu, xid, xki, xon, xtw, xam, xli, xca, xst, xla, xpl, xfe, xle, xne, xpe, h, xlI, xlK, xlO, xlT, xlA, xlL) p := by
  have v : vp_in (nI m) 60 := vp_in_nI hm (by decide)
  have c : (nI m).toNatClampNeg = m := nI_clamp (by omega)
  have M0 : ∀ y, tl_MB (m + 1) (upd h m p) m p y ↔ (y = p ∨ ∃ j, j < m ∧ h j = y) := by
    intro y
    constructor
    · rintro (e | ⟨j, hj, hjm, e⟩)
      · exact Or.inl e
      · rw [pk_un hjm] at e; exact Or.inr ⟨j, by omega, e⟩
    · rintro (e | ⟨j, hj, e⟩)
      · exact Or.inl e
      · exact Or.inr ⟨j, by omega, by omega, by rw [pk_un (by omega)]; exact e⟩
  unfold wpX_push
  dsimp only
  rw [c]
  refine ⟨v, ?_⟩
  rintro _ rfl _ rfl
  rw [nI_1 m, nI_pred]
  unfold wpX_raise
  dsimp only
  rw [c, pk_us]
  refine ⟨v, ?_⟩
  rintro _ rfl
  refine ⟨m + 1, ?_⟩
  refine tl_xraise (n := n) (tr := tr) (m := m + 1) (by omega) hn gp m (m + 1) _ (by omega) (by omega) (fun j hj hjm => ?_) ⟨fun j h0 hj e1 e2 => ?_, fun j h0 hj e => ?_⟩ (fun h' H M => ?_)
  · rw [pk_un hjm]; exact gh j (by omega)
  · rw [pk_un e1, pk_un e2]; exact I j h0 (by omega)
  · omega
  · refine K h' H (fun j hj => ?_) (fun y => (M y).trans (M0 y))
    rcases (M0 (h' j)).mp ((M (h' j)).mp ⟨j, hj, rfl⟩) with e | ⟨q, hq, e⟩
    · rw [e]; exact gp
    · rw [← e]; exact gh q hq
theorem tl_xpop83 {post : SX → Prop} {J : Int32 → Int32 → (Nat → Int32) → (Nat → Int32) → (Nat → Int32) → (Nat → Int32) → (Nat → Int32) → (Nat → Int32) → (Nat → Int32) → (Nat → Int32) → (Nat → Int32) → (Nat → Int32) → (Nat → Int32) → (Nat → Int32) → (Nat → Int32) → (Nat → Int32) → (Nat → Int32) → (Nat → Int32) → (Nat → Int32) → (Nat → Int32) → (Nat → Int32) → (Nat → Int32) → (Nat → Int32) → (Nat → Int32) → (Nat → Int32) → Prop} {x : Int32} {m i c : Nat} {h : Nat → Int32} (hm : m ≤ 60) (hi : i < m) (hc : c < 1000) (vc : c < m → vp_in (h c) 60) (vx : vp_in x 60)
    (K0 : (c < m → ¬ tl_bf xla xid (h c) x) → J (nI i) 0 xbo xsu xid xki xon xtw xam xli xca xst xla xpl xfe xle xne xpe h xlI xlK xlO xlT xlA xlL) (K1 : c < m → tl_bf xla xid (h c) x → J (nI c) 1 xbo xsu xid xki xon xtw xam xli xca xst xla xpl xfe xle xne xpe (upd h i (h c)) xlI xlK xlO xlT xlA xlL) :
    wX_pop_83 post J x (nI i) (nI c) xA xT xN (nI m) xC xL xbo xsu xid xki xon xtw xam xli xca xst xla xpl xfe xle xne xpe h xlI xlK xlO xlT xlA xlL := by
  have cc : (nI c).toNatClampNeg = c := nI_clamp (by omega)
  have ci : (nI i).toNatClampNeg = i := nI_clamp (by omega)
  unfold wX_pop_83 wX_pop_111 wX_pop_112
  rw [cc, ci]
  refine pk_le m c (fun hle => br_t rfl (K0 (fun z => by omega))) (fun hlt => ⟨vp_in_nI (by omega) (by decide), ?_⟩)
  refine tl_xbefore (vc hlt) vx (fun hb => ?_) (fun hb => ?_)
  · refine br_f (by decide) (br_f (by decide) ⟨vp_in_nI (by omega) (by decide), vp_in_nI (by omega) (by decide), ?_⟩)
    rintro _ rfl
    exact K1 hlt hb
  · exact br_t rfl (br_t rfl (K0 (fun _ => hb)))
theorem tl_xpop35 {post : SX → Prop} {x : Int32} {m n : Nat} {tr : Nat → Nat → Int32} (hm : m ≤ 60) (hn : n ≤ 60) (gx : tl_G n tr x) : ∀ (d i N : Nat) (h : Nat → Int32), m ≤ i + d → i < m → d + 1 < N → (∀ j, j < m → j ≠ i → tl_G n tr (h j)) → tl_DN (tl_le xla xid) m h i x →
    (∀ h' : Nat → Int32, tl_HO (tl_le xla xid) m h' → (∀ y, (∃ j, j < m ∧ h' j = y) ↔ tl_MB m h i x y) → post (xA, xT, xN, nI m, xC, xL, xbo, xsu, xid, xki, xon, xtw, xam, xli, xca, xst, xla, xpl, xfe, xle, xne, xpe, h', xlI, xlK, xlO, xlT, xlA, xlL)) → wX_pop_35 post x xA xT xN (nI m) xC xL N (nI i) 1 xbo xsu xid xki xon xtw xam xli xca xst xla xpl xfe xle xne xpe h xlI xlK xlO xlT xlA xlL := by
  intro d
  induction d with
  | zero => intro i N h hd hi; omega
  | succ d ih =>
    intro i N h hd hi hN gh I K
    obtain ⟨N, rfl⟩ : ∃ N', N = N' + 1 + 1 := ⟨N - 2, by omega⟩
    have st : ∀ c : Nat, 0 < c → (c - 1) / 2 = i → (∀ j, 0 < j → j < m → (j - 1) / 2 = i → c < m ∧ tl_le xla xid (h c) (h j)) → wX_pop_83 post (wX_pop_35 post x xA xT xN (nI m) xC xL (N + 1)) x (nI i) (nI c) xA xT xN (nI m) xC xL xbo xsu xid xki xon xtw xam xli xca xst xla xpl xfe xle xne xpe h xlI xlK xlO xlT xlA xlL := by
      intro c hc0 hci hmin
      refine tl_xpop83 hm hi (by omega) (fun hcm => tl_G_in hn (gh c hcm (by omega))) (tl_G_in hn gx) (fun hs => ?_) (fun hcm hb => ?_)
      · have vi : vp_in (nI i) 60 := vp_in_nI (by omega) (by decide)
        have ci : (nI i).toNatClampNeg = i := nI_clamp (by omega)
        rw [wX_pop_35]
        dsimp only
        rw [ci]
        refine br_t rfl ⟨vi, ?_⟩
        rintro _ rfl
        refine K _ (tl_DN_end I (fun j h0 hj e => ?_)) (fun y => tl_MB_end hi)
        obtain ⟨k1, k2⟩ := hmin j h0 hj e
        exact tl_le_trn xla xid _ _ _ (hs k1) k2
      · refine ih c (N + 1) _ (by omega) hcm (by omega) (fun j hj hjc => ?_) (tl_DN_step I hc0 hcm hci (fun j h0 hj e => (hmin j h0 hj e).2) (tl_le_of hb)) (fun h' H M => K h' H (fun y => (M y).trans (tl_MB_step hi hcm (by omega))))
        by_cases e : j = i
        · rw [e, pk_us]; exact gh c hcm (by omega)
        · rw [pk_un e]; exact gh j hj e
    rw [wX_pop_35]
    dsimp only
    refine br_f (by decide) ?_
    rintro _ rfl
    have c1 : (nI (2 * i + 1)).toNatClampNeg = 2 * i + 1 := nI_clamp (by omega)
    have c2 : (nI (2 * i + 1 + 1)).toNatClampNeg = 2 * i + 1 + 1 := nI_clamp (by omega)
    rw [tl_ch, nI_1 (2 * i + 1), c1, c2]
    refine pk_le m (2 * i + 1 + 1) (fun hle => ?_) (fun hlt => ⟨vp_in_nI (by omega) (by decide), vp_in_nI (by omega) (by decide), ?_⟩)
    · refine st (2 * i + 1) (by omega) (by omega) (fun j h0 hj e => ?_)
      have ej : j = 2 * i + 1 := by omega
      rw [ej]
      exact ⟨by omega, tl_le_r xla xid _⟩
    · refine tl_xbefore (tl_G_in hn (gh _ hlt (by omega))) (tl_G_in hn (gh _ (by omega) (by omega))) (fun hb => ?_) (fun hb => ?_)
      · refine br_f (by decide) ?_
        rintro _ rfl
        refine st (2 * i + 1 + 1) (by omega) (by omega) (fun j h0 hj e => ⟨hlt, ?_⟩)
        have ej : j = 2 * i + 1 ∨ j = 2 * i + 1 + 1 := by omega
        rcases ej with ej | ej
        · rw [ej]; exact tl_le_of hb
        · rw [ej]; exact tl_le_r xla xid _
      · refine br_t rfl ?_
        refine st (2 * i + 1) (by omega) (by omega) (fun j h0 hj e => ⟨by omega, ?_⟩)
        have ej : j = 2 * i + 1 ∨ j = 2 * i + 1 + 1 := by omega
        rcases ej with ej | ej
        · rw [ej]; exact tl_le_r xla xid _
        · rw [ej]; exact hb
theorem tl_xpop {post : SX → Prop} {m n : Nat} {tr : Nat → Nat → Int32} {h : Nat → Int32} (hm : m < 60) (hn : n ≤ 60) (gh : ∀ j, j < m + 1 → tl_G n tr (h j)) (I : tl_HO (tl_le xla xid) (m + 1) h)
    (K : ∀ h' : Nat → Int32, tl_HO (tl_le xla xid) m h' → (∀ j, j < m → tl_G n tr (h' j)) → (∀ j, j < m + 1 → h j = h 0 ∨ ∃ i, i < m ∧ h' i = h j) → post (xA, xT, xN, nI m, xC, xL, xbo, xsu, xid, xki, xon, xtw, xam, xli, xca, xst, xla, xpl, xfe, xle, xne, xpe, h', xlI, xlK, xlO, xlT, xlA, xlL)) :
    wpX_pop post (xA, xT, xN, nI (m + 1), xC, xL, xbo, xsu, xid, xki, xon, xtw, xam, xli, xca, xst, xla, xpl, xfe, xle, xne, xpe, h, xlI, xlK, xlO, xlT, xlA, xlL) := by
  have v : vp_in (nI m) 60 := vp_in_nI hm (by decide)
  have c : (nI m).toNatClampNeg = m := nI_clamp (by omega)
  unfold wpX_pop
  dsimp only
  rintro _ rfl
  rw [nI_pred, c]
  refine ⟨v, ?_⟩
  rintro _ rfl
  by_cases h0 : m = 0
  · refine br_t (by rw [h0]; decide) ⟨1, ?_⟩
    rw [wX_pop_35]
    dsimp only
    refine br_t rfl ⟨vp_in_iff.mpr (by decide), ?_⟩
    rintro _ rfl
    exact K _ (fun j _ hj => by omega) (fun j hj => by omega) (fun j hj => Or.inl (by rw [show j = 0 by omega]))
  · refine br_f (nI_nle (by omega) (by omega)) ⟨m + 2, ?_⟩
    refine tl_xpop35 (n := n) (tr := tr) (by omega) hn (gh m (by omega)) m 0 (m + 2) h (by omega) (by omega) (by omega) (fun j hj _ => gh j (by omega)) ⟨fun j k0 hj _ _ => I j k0 (by omega), fun z => by omega⟩ (fun h' H M => ?_)
    refine K h' H (fun j hj => ?_) (fun j hj => ?_)
    · rcases (M (h' j)).mp ⟨j, hj, rfl⟩ with e | ⟨q, hq, _, e⟩
      · rw [e]; exact gh m (by omega)
      · rw [← e]; exact gh q (by omega)
    · by_cases j0 : j = 0
      · exact Or.inl (by rw [j0])
      · refine Or.inr ((M (h j)).mpr ?_)
        by_cases jm : j = m
        · exact Or.inl (by rw [jm])
        · exact Or.inr ⟨j, by omega, j0, rfl⟩
/-- the top of a cleaned heap is a hold that still waits -/
def tl_TP (n : Nat) (tr : Nat → Nat → Int32) (st : Nat → Int32) (m : Nat) (h : Nat → Int32) : Prop := m = 0 ∨ (0 < m ∧ ∃ t : Nat, t < n ∧ h 0 = nI t ∧ tr t 1 = 1 ∧ (¬ tr t 5 ≤ 0) ∧ st t = 0)
theorem tl_xclean0 {post : SX → Prop} {n : Nat} {tr : Nat → Nat → Int32} {st : Nat → Int32} (hn : n ≤ 60) (hs : ∀ t, t < n → xst t = st t) : ∀ (m N : Nat) (h : Nat → Int32), m < N → tl_HP n tr st xla xid m h →
    (∀ (m' : Nat) (h' : Nat → Int32), tl_HP n tr st xla xid m' h' → tl_TP n tr st m' h' → post (xA, xT, xN, nI m', xC, xL, xbo, xsu, xid, xki, xon, xtw, xam, xli, xca, xst, xla, xpl, xfe, xle, xne, xpe, h', xlI, xlK, xlO, xlT, xlA, xlL)) → wX_clean_0 post N xA xT xN (nI m) xC xL xbo xsu xid xki xon xtw xam xli xca xst xla xpl xfe xle xne xpe h xlI xlK xlO xlT xlA xlL := by
  intro m
  induction m with
  | zero =>
    intro N h hN I K
    obtain ⟨N, rfl⟩ : ∃ N', N = N' + 1 := ⟨N - 1, by omega⟩
    rw [wX_clean_0]
    dsimp only
    exact br_t (by decide) (K 0 h I (Or.inl rfl))
  | succ m ih =>
    intro N h hN I K
    obtain ⟨N, rfl⟩ : ∃ N', N = N' + 1 := ⟨N - 1, by omega⟩
    obtain ⟨i1, i2, i3, i4⟩ := I
    obtain ⟨t, ht, e, k1, k5⟩ := i2 0 (by omega)
    have ct : (h 0).toNatClampNeg = t := by rw [e]; exact nI_clamp (by omega)
    rw [wX_clean_0]
    dsimp only
    rw [ct, hs t ht]
    refine br_f (nI_nle (by omega) (by omega)) ⟨tl_G_in hn (i2 0 (by omega)), ?_⟩
    by_cases s0 : st t = 0
    · exact br_t s0 (K (m + 1) h ⟨i1, i2, i3, i4⟩ (Or.inr ⟨by omega, t, ht, e, k1, k5, s0⟩))
    · refine br_f s0 ?_
      refine tl_xpop (n := n) (tr := tr) (by omega) hn i2 i3 (fun h' H G C => ?_)
      refine ih N h' (by omega) ⟨by omega, G, H, fun q hq q1 q2 q3 => ?_⟩ K
      obtain ⟨j, hj, ej⟩ := i4 q hq q1 q2 q3
      rcases C j hj with z | ⟨i, hi, z⟩
      · rw [ej, e] at z
        rw [(nI_eq (by omega) (by omega)).mp z] at q2
        exact absurd q2 s0
      · exact ⟨i, hi, by rw [z]; exact ej⟩
theorem tl_xclean {post : SX → Prop} {n : Nat} {tr : Nat → Nat → Int32} {st : Nat → Int32} {m : Nat} {h : Nat → Int32} (hn : n ≤ 60) (hs : ∀ t, t < n → xst t = st t) (I : tl_HP n tr st xla xid m h)
    (K : ∀ (m' : Nat) (h' : Nat → Int32), tl_HP n tr st xla xid m' h' → tl_TP n tr st m' h' → post (xA, xT, xN, nI m', xC, xL, xbo, xsu, xid, xki, xon, xtw, xam, xli, xca, xst, xla, xpl, xfe, xle, xne, xpe, h', xlI, xlK, xlO, xlT, xlA, xlL)) : wpX_clean post (xA, xT, xN, nI m, xC, xL, xbo, xsu, xid, xki, xon, xtw, xam, xli, xca, xst, xla, xpl, xfe, xle, xne, xpe, h, xlI, xlK, xlO, xlT, xlA, xlL) := by
  unfold wpX_clean
  dsimp only
  exact ⟨m + 1, tl_xclean0 hn hs m (m + 1) h (by omega) I K⟩
theorem tl_G_up {n n' : Nat} {tr : Nat → Nat → Int32} {y : Int32} (h : n ≤ n') (g : tl_G n tr y) : tl_G n' tr y := by
  obtain ⟨t, ht, g⟩ := g
  exact ⟨t, by omega, g⟩
theorem tl_HP_skip {n : Nat} {tr : Nat → Nat → Int32} {st la id : Nat → Int32} {m : Nat} {h : Nat → Int32} (I : tl_HP n tr st la id m h) (hs : ¬ (tr n 1 = 1 ∧ st n = 0 ∧ ¬ tr n 5 ≤ 0)) : tl_HP (n + 1) tr st la id m h := by
  obtain ⟨i1, i2, i3, i4⟩ := I
  refine ⟨by omega, fun j hj => tl_G_up (by omega) (i2 j hj), i3, fun q hq q1 q2 q3 => ?_⟩
  by_cases e : q = n
  · rw [e] at q1 q2 q3; exact absurd ⟨q1, q2, q3⟩ hs
  · exact i4 q (by omega) q1 q2 q3
theorem tl_HP_put {n : Nat} {tr : Nat → Nat → Int32} {st la id : Nat → Int32} {m : Nat} {h h' : Nat → Int32} (I : tl_HP n tr st la id m h) (H : tl_HO (tl_le la id) (m + 1) h') (G : ∀ j, j < m + 1 → tl_G (n + 1) tr (h' j)) (C : ∀ y, (∃ j, j < m + 1 ∧ h' j = y) ↔ (y = nI n ∨ ∃ j, j < m ∧ h j = y)) : tl_HP (n + 1) tr st la id (m + 1) h' := by
  obtain ⟨i1, i2, i3, i4⟩ := I
  refine ⟨by omega, G, H, fun q hq q1 q2 q3 => ?_⟩
  by_cases e : q = n
  · exact (C _).mpr (Or.inl (by rw [e]))
  · exact (C _).mpr (Or.inr (i4 q (by omega) q1 q2 q3))
theorem tl_xheapAll7 {post : SX → Prop} {n : Nat} {tr : Nat → Nat → Int32} {st : Nat → Int32} (hn : n ≤ 60) (hs : ∀ t, t < n → xki t = tr t 1 ∧ xst t = st t ∧ xli t = tr t 5) : ∀ (d i N m : Nat) (h : Nat → Int32), i + d = n → d < N → tl_HP i tr st xla xid m h →
    (∀ (m' : Nat) (h' : Nat → Int32), tl_HP n tr st xla xid m' h' → post (xA, xT, nI n, nI m', xC, xL, xbo, xsu, xid, xki, xon, xtw, xam, xli, xca, xst, xla, xpl, xfe, xle, xne, xpe, h', xlI, xlK, xlO, xlT, xlA, xlL)) → wX_heapAll_7 post N (nI i) xA xT (nI n) (nI m) xC xL xbo xsu xid xki xon xtw xam xli xca xst xla xpl xfe xle xne xpe h xlI xlK xlO xlT xlA xlL := by
  intro d
  induction d with
  | zero =>
    intro i N m h hd hN I K
    obtain ⟨N, rfl⟩ : ∃ N', N = N' + 1 := ⟨N - 1, by omega⟩
    have e : i = n := by omega
    rw [e] at I ⊢
    rw [wX_heapAll_7]
    dsimp only
    exact br_t (nI_le (Nat.le_refl n) (by omega)) (K m h I)
  | succ d ih =>
    intro i N m h hd hN I K
    obtain ⟨N, rfl⟩ : ∃ N', N = N' + 1 := ⟨N - 1, by omega⟩
    have vi : vp_in (nI i) 60 := vp_in_nI (by omega) (by decide)
    have ci : (nI i).toNatClampNeg = i := nI_clamp (by omega)
    obtain ⟨e1, e2, e3⟩ := hs i (by omega)
    rw [wX_heapAll_7]
    dsimp only
    rw [ci, e1, e2, e3, nI_1 i]
    refine br_f (nI_ge (by omega) (by omega)) ⟨vi, ?_⟩
    by_cases k1 : tr i 1 = 1
    · refine br_t k1 ⟨vi, ?_⟩
      by_cases k2 : st i = 0
      · refine br_t k2 ⟨vi, ?_⟩
        by_cases k3 : tr i 5 ≤ 0
        · refine br_t k3 ?_
          rintro _ rfl
          exact ih (i + 1) N m h (by omega) (by omega) (tl_HP_skip I (fun z => z.2.2 k3)) K
        · refine br_f k3 ?_
          refine tl_xpush (n := i + 1) (tr := tr) (by have := I.1; omega) (by omega) ⟨i, by omega, rfl, k1, k3⟩ (fun j hj => tl_G_up (by omega) (I.2.1 j hj)) I.2.2.1 (fun h' H G C => ?_)
          intro z hz
          rw [hz]
          exact ih (i + 1) N (m + 1) h' (by omega) (by omega) (tl_HP_put I H G C) K
      · refine br_f k2 ?_
        rintro _ rfl
        exact ih (i + 1) N m h (by omega) (by omega) (tl_HP_skip I (fun z => k2 z.2.1)) K
    · refine br_f k1 ?_
      rintro _ rfl
      exact ih (i + 1) N m h (by omega) (by omega) (tl_HP_skip I (fun z => k1 z.1)) K
theorem tl_xheapAll {post : SX → Prop} {n : Nat} {tr : Nat → Nat → Int32} {st : Nat → Int32} (hn : n ≤ 60) (hs : ∀ t, t < n → xki t = tr t 1 ∧ xst t = st t ∧ xli t = tr t 5)
    (K : ∀ (m' : Nat) (h' : Nat → Int32), tl_HP n tr st xla xid m' h' → post (xA, xT, nI n, nI m', xC, xL, xbo, xsu, xid, xki, xon, xtw, xam, xli, xca, xst, xla, xpl, xfe, xle, xne, xpe, h', xlI, xlK, xlO, xlT, xlA, xlL)) : wpX_heapAll post (xA, xT, nI n, xH, xC, xL, xbo, xsu, xid, xki, xon, xtw, xam, xli, xca, xst, xla, xpl, xfe, xle, xne, xpe, xhp, xlI, xlK, xlO, xlT, xlA, xlL) := by
  unfold wpX_heapAll
  dsimp only
  refine ⟨n + 1, ?_⟩
  exact tl_xheapAll7 hn hs n 0 (n + 1) 0 xhp (by omega) (by omega) ⟨by omega, fun j hj => by omega, fun j _ hj => by omega, fun q hq => by omega⟩ K
end
end
section
/-! what a transfer done changes, in plain terms -/
def tl_mk (w : Nat → Int32) (la ca ho e0 e1 : Int32) : Nat → Int32
  | 6 => la
  | 7 => ca
  | 8 => ho
  | 9 => e0
  | 10 => e1
  | j => w j
theorem tl_NB_un {A : Nat} {bd : Nat → Int32} {F : Nat → Nat → Int} {d c : Int32} {x : Int} (h : tl_NB A bd F) (hx : 0 ≤ x) : tl_NB A bd (fun a w => F a w - tl_dl 0 d c x a w) := by
  intro a ha
  obtain ⟨h1, h2⟩ := h a ha
  show (bd a = 1 → F a 0 - tl_dl 0 d c x a 0 + (F a 1 - tl_dl 0 d c x a 1) ≤ F a 3 - tl_dl 0 d c x a 3) ∧ (bd a = 2 → F a 2 - tl_dl 0 d c x a 2 + (F a 3 - tl_dl 0 d c x a 3) ≤ F a 1 - tl_dl 0 d c x a 1)
  rw [tl_d00, tl_d01, tl_d02, tl_d03]
  refine ⟨fun e => ?_, fun e => ?_⟩
  · have := h1 e
    split <;> omega
  · have := h2 e
    split <;> omega
theorem tl_NB_tk {A : Nat} {bd : Nat → Int32} {F : Nat → Nat → Int} {d c : Int32} {x y : Int} (h : tl_NB A bd F) (hy : 0 ≤ y) (hx : y ≤ x) : tl_NB A bd (fun a w => F a w - tl_dl 0 d c x a w + tl_dl 1 d c y a w) := by
  intro a ha
  obtain ⟨h1, h2⟩ := h a ha
  show (bd a = 1 → F a 0 - tl_dl 0 d c x a 0 + tl_dl 1 d c y a 0 + (F a 1 - tl_dl 0 d c x a 1 + tl_dl 1 d c y a 1) ≤ F a 3 - tl_dl 0 d c x a 3 + tl_dl 1 d c y a 3) ∧ (bd a = 2 → F a 2 - tl_dl 0 d c x a 2 + tl_dl 1 d c y a 2 + (F a 3 - tl_dl 0 d c x a 3 + tl_dl 1 d c y a 3) ≤ F a 1 - tl_dl 0 d c x a 1 + tl_dl 1 d c y a 1)
  rw [tl_d00, tl_d01, tl_d02, tl_d03, tl_d10, tl_d11, tl_d12, tl_d13]
  refine ⟨fun e => ?_, fun e => ?_⟩
  · have := h1 e
    by_cases z1 : d = nI a
    · by_cases z2 : c = nI a
      · simp only [z1, z2, if_true]; omega
      · simp only [z1, z2, if_true, if_false]; omega
    · by_cases z2 : c = nI a
      · simp only [z1, z2, if_true, if_false]; omega
      · simp only [z1, z2, if_false]; omega
  · have := h2 e
    by_cases z1 : d = nI a
    · by_cases z2 : c = nI a
      · simp only [z1, z2, if_true]; omega
      · simp only [z1, z2, if_true, if_false]; omega
    · by_cases z2 : c = nI a
      · simp only [z1, z2, if_true, if_false]; omega
      · simp only [z1, z2, if_false]; omega
/-- room of an account as debit, as credit -/
def tl_sD (bd : Nat → Int32) (F : Nat → Nat → Int) (a : Nat) : Int := if bd a = 1 then F a 3 - F a 0 - F a 1 else 1000000
def tl_sC (bd : Nat → Int32) (F : Nat → Nat → Int) (b : Nat) : Int := if bd b = 2 then F b 1 - F b 2 - F b 3 else 1000000
def tl_BR (bd : Nat → Int32) (F : Nat → Nat → Int) (a : Nat) : Prop := (bd a = 1 ∧ F a 3 < F a 0 + F a 1) ∨ (bd a = 2 ∧ F a 1 < F a 2 + F a 3)
theorem tl_12 {x : Int32} (h : x = 1) : ¬ x = 2 := by rw [h]; decide
theorem tl_NB_mv {A : Nat} {bd : Nat → Int32} {F : Nat → Nat → Int} {a b w0 : Nat} {m : Int} (hA : A ≤ 10) (h : tl_NB A bd F) (ha : a < A) (hb : b < A) (hab : a ≠ b) (hw : w0 = 0 ∨ w0 = 1) (hm : 0 ≤ m) (h1 : m ≤ tl_sD bd F a) (h2 : m ≤ tl_sC bd F b) : tl_NB A bd (fun x w => F x w + tl_dl w0 (nI a) (nI b) m x w) := by
  intro x hx
  obtain ⟨k1, k2⟩ := h x hx
  have ea : (nI a : Int32) = nI x ↔ a = x := nI_eq (by omega) (by omega)
  have eb : (nI b : Int32) = nI x ↔ b = x := nI_eq (by omega) (by omega)
  show (bd x = 1 → F x 0 + tl_dl w0 (nI a) (nI b) m x 0 + (F x 1 + tl_dl w0 (nI a) (nI b) m x 1) ≤ F x 3 + tl_dl w0 (nI a) (nI b) m x 3) ∧ (bd x = 2 → F x 2 + tl_dl w0 (nI a) (nI b) m x 2 + (F x 3 + tl_dl w0 (nI a) (nI b) m x 3) ≤ F x 1 + tl_dl w0 (nI a) (nI b) m x 1)
  rcases hw with rfl | rfl
  · rw [tl_d00, tl_d01, tl_d02, tl_d03]
    simp only [ea, eb]
    refine ⟨fun e => ?_, fun e => ?_⟩
    · have := k1 e
      by_cases z : a = x
      · rw [if_pos z]
        rw [tl_sD, z, if_pos e] at h1
        omega
      · rw [if_neg z]; omega
    · have := k2 e
      by_cases z : b = x
      · rw [if_pos z]
        rw [tl_sC, z, if_pos e] at h2
        omega
      · rw [if_neg z]; omega
  · rw [tl_d10, tl_d11, tl_d12, tl_d13]
    simp only [ea, eb]
    refine ⟨fun e => ?_, fun e => ?_⟩
    · have := k1 e
      by_cases z : a = x
      · rw [if_pos z, if_neg (by omega)]
        rw [tl_sD, z, if_pos e] at h1
        omega
      · rw [if_neg z]
        split <;> omega
    · have := k2 e
      by_cases z : b = x
      · rw [if_pos z, if_neg (by omega)]
        rw [tl_sC, z, if_pos e] at h2
        omega
      · rw [if_neg z]
        split <;> omega
theorem tl_br {A : Nat} {bd : Nat → Int32} {F : Nat → Nat → Int} {a b w0 : Nat} {m : Int} (hA : A ≤ 10) (h : tl_NB A bd F) (ha : a < A) (hb : b < A) (hab : a ≠ b) (hw : w0 = 0 ∨ w0 = 1) (hm : 0 ≤ m) (hm2 : m ≤ 1000000) :
    ((¬ tl_BR bd (fun x w => F x w + tl_dl w0 (nI a) (nI b) m x w) a) ∧ ¬ tl_BR bd (fun x w => F x w + tl_dl w0 (nI a) (nI b) m x w) b) ↔ (m ≤ tl_sD bd F a ∧ m ≤ tl_sC bd F b) := by
  constructor
  · rintro ⟨z1, z2⟩
    have eab : ¬ (nI b : Int32) = nI a := tl_ne (by omega) (by omega) (fun z => hab z.symm)
    have eba : ¬ (nI a : Int32) = nI b := tl_ne (by omega) (by omega) hab
    constructor
    · unfold tl_sD
      by_cases e : bd a = 1
      · rw [if_pos e]
        have q : ¬ F a 3 + tl_dl w0 (nI a) (nI b) m a 3 < F a 0 + tl_dl w0 (nI a) (nI b) m a 0 + (F a 1 + tl_dl w0 (nI a) (nI b) m a 1) := fun z => z1 (Or.inl ⟨e, z⟩)
        rcases hw with rfl | rfl
        · rw [tl_d00, tl_d01, tl_d03, if_pos rfl] at q; omega
        · rw [tl_d10, tl_d11, tl_d13, if_pos rfl, if_neg eab] at q; omega
      · rw [if_neg e]; exact hm2
    · unfold tl_sC
      by_cases e : bd b = 2
      · rw [if_pos e]
        have q : ¬ F b 1 + tl_dl w0 (nI a) (nI b) m b 1 < F b 2 + tl_dl w0 (nI a) (nI b) m b 2 + (F b 3 + tl_dl w0 (nI a) (nI b) m b 3) := fun z => z2 (Or.inr ⟨e, z⟩)
        rcases hw with rfl | rfl
        · rw [tl_d01, tl_d02, tl_d03, if_pos rfl] at q; omega
        · rw [tl_d11, tl_d12, tl_d13, if_pos rfl, if_neg eba] at q; omega
      · rw [if_neg e]; exact hm2
  · rintro ⟨h1, h2⟩
    have N := tl_NB_mv hA h ha hb hab hw hm h1 h2
    have t : ∀ x, x < A → ¬ tl_BR bd (fun x w => F x w + tl_dl w0 (nI a) (nI b) m x w) x := by
      rintro x hx (⟨e, z⟩ | ⟨e, z⟩)
      · have := (N x hx).1 e; omega
      · have := (N x hx).2 e; omega
    exact ⟨t a ha, t b hb⟩
/-- transfer n done: from states s0 (of the first n) to s1 -/
def tl_ST (tr : Nat → Nat → Int32) (n : Nat) (s0 s1 : Nat → Int32) : Prop :=
  ((tr n 1 = 0 ∨ tr n 1 = 1) ∧ (∀ t, t < n → s1 t = s0 t) ∧ s1 n = 0) ∨
  ((tr n 1 = 2 ∨ tr n 1 = 3) ∧ ∃ h : Nat, h < n ∧ tr n 8 = nI h ∧ tr h 1 = 1 ∧ s0 h = 0 ∧ (¬ s1 h = 0) ∧ ∀ t, t < n → t ≠ h → s1 t = s0 t)
theorem tl_ST_c {tr tr' : Nat → Nat → Int32} {n : Nat} {s0 s1 : Nat → Int32} (e : ∀ t, t < n + 1 → tr t = tr' t) (h : tl_ST tr n s0 s1) : tl_ST tr' n s0 s1 := by
  unfold tl_ST at h ⊢
  rw [← e n (by omega)]
  rcases h with h | ⟨h1, h, hh, k⟩
  · exact Or.inl h
  · rw [e h (by omega)] at k
    exact Or.inr ⟨h1, h, hh, k⟩
/-- the sums of n + 1 transfers out of those of n -/
theorem tl_SM_mv {tr : Nat → Nat → Int32} {n a w : Nat} {s0 s1 : Nat → Int32} (k : tr n 1 = 0) (e : ∀ t, t < n → s1 t = s0 t) : tl_SM tr s1 (n + 1) a w = tl_SM tr s0 n a w + tl_dl 1 (tr n 9) (tr n 10) (tr n 7).toInt a w := by
  rw [tl_SM_s, tl_ct_m (by rw [k]; decide), tl_SM_c (a := a) (w := w) n (fun _ _ => rfl) e]
theorem tl_SM_hd {tr : Nat → Nat → Int32} {n a w : Nat} {s0 s1 : Nat → Int32} (k : tr n 1 = 1) (e : ∀ t, t < n → s1 t = s0 t) (e2 : s1 n = 0) : tl_SM tr s1 (n + 1) a w = tl_SM tr s0 n a w + tl_dl 0 (tr n 2) (tr n 3) (tr n 4).toInt a w := by
  rw [tl_SM_s, tl_ct_h k e2, tl_SM_c (a := a) (w := w) n (fun _ _ => rfl) e]
theorem tl_SM_h2 {tr : Nat → Nat → Int32} {n h a w : Nat} {s0 s1 : Nat → Int32} (hh : h < n) (k : tr h 1 = 1) (e0 : s0 h = 0) (e1 : ¬ s1 h = 0) (e : ∀ t, t < n → t ≠ h → s1 t = s0 t) : tl_SM tr s1 n a w = tl_SM tr s0 n a w - tl_dl 0 (tr h 2) (tr h 3) (tr h 4).toInt a w := by
  rw [← tl_SM_un (s := s1 h) k e0 e1 n hh]
  refine tl_SM_c n (fun _ _ => rfl) (fun t ht => ?_)
  by_cases z : t = h
  · rw [z, pk_us]
  · rw [pk_un z]; exact e t ht z
theorem tl_SM_tk {tr : Nat → Nat → Int32} {n h a w : Nat} {s0 s1 : Nat → Int32} (kn : tr n 1 = 2) (hh : h < n) (k : tr h 1 = 1) (e0 : s0 h = 0) (e1 : ¬ s1 h = 0) (e : ∀ t, t < n → t ≠ h → s1 t = s0 t) : tl_SM tr s1 (n + 1) a w = tl_SM tr s0 n a w - tl_dl 0 (tr h 2) (tr h 3) (tr h 4).toInt a w + tl_dl 1 (tr n 9) (tr n 10) (tr n 7).toInt a w := by
  rw [tl_SM_s, tl_ct_m (by rw [kn]; decide), tl_SM_h2 hh k e0 e1 e]
theorem tl_dl_m1 {w0 a w : Nat} {x : Int} (ha : a < 2 ^ 31) : tl_dl w0 (-1) (-1) x a w = 0 := tl_dl_z (tl_m1 ha) (tl_m1 ha)
theorem tl_SM_rl {tr : Nat → Nat → Int32} {n h a w : Nat} {s0 s1 : Nat → Int32} (kn : tr n 1 = 3) (k7 : tr n 7 = 0) (hh : h < n) (k : tr h 1 = 1) (e0 : s0 h = 0) (e1 : ¬ s1 h = 0) (e : ∀ t, t < n → t ≠ h → s1 t = s0 t) : tl_SM tr s1 (n + 1) a w = tl_SM tr s0 n a w - tl_dl 0 (tr h 2) (tr h 3) (tr h 4).toInt a w := by
  rw [tl_SM_s, tl_ct_m (by rw [kn]; decide), tl_SM_h2 hh k e0 e1 e, k7]
  have : tl_dl 1 (tr n 9) (tr n 10) (0 : Int32).toInt a w = 0 := by
    have := tl_dl_b (w0 := 1) (d := tr n 9) (c := tr n 10) (x := (0 : Int32).toInt) (M := 0) a w (by decide) (by decide)
    omega
  rw [this]; omega
/-! what keeps the pictures when a record is put behind -/
theorem tl_XB_ap {n : Nat} {tr : Nat → Nat → Int32} {st id ki on tw am li ca s la ca' la' : Nat → Int32} {w : Nat → Int32} (h : tl_XB n tr st id ki on tw am li ca s la) (h1 : ca' n = w 7) (h2 : ∀ t, t < n → ca' t = ca t) (h3 : w 1 = 1 → la' n = w 6) (h4 : ∀ t, t < n → la' t = la t) :
    tl_XB (n + 1) (tl_ap tr n w) (upd st n 0) (upd id n (w 0)) (upd ki n (w 1)) (upd on n (w 2)) (upd tw n (w 3)) (upd am n (w 4)) (upd li n (w 5)) ca' (upd s n 0) la' := by
  intro t ht
  by_cases e : t = n
  · rw [e, tl_ap_s, pk_us, pk_us, pk_us, pk_us, pk_us, pk_us, pk_us, pk_us]
    exact ⟨⟨rfl, rfl, rfl, rfl, rfl, rfl, h1, rfl⟩, h3⟩
  · rw [tl_ap_n e, pk_un e, pk_un e, pk_un e, pk_un e, pk_un e, pk_un e, pk_un e, pk_un e, h2 t (by omega), h4 t (by omega)]
    exact h t (by omega)
theorem tl_XB_st {n h : Nat} {tr : Nat → Nat → Int32} {st id ki on tw am li ca s la : Nat → Int32} {x : Int32} (I : tl_XB n tr st id ki on tw am li ca s la) : tl_XB n tr (upd st h x) id ki on tw am li ca (upd s h x) la := by
  intro t ht
  obtain ⟨⟨a, b, c, d, e, f, g, i⟩, j⟩ := I t ht
  refine ⟨⟨a, b, c, d, e, f, g, ?_⟩, j⟩
  by_cases z : t = h
  · rw [z, pk_us, pk_us]
  · rw [pk_un z, pk_un z]; exact i
theorem tl_PL_ap {n i : Nat} {tr : Nat → Nat → Int32} {pl : Nat → Int32} {w : Nat → Int32} (hi : i < 100) (e : w 0 = nI i) (I : tl_PL n tr pl) : tl_PL (n + 1) (tl_ap tr n w) (upd pl i (nI n)) := by
  intro j hj
  by_cases z : j = i
  · rw [z, pk_us, tl_LS_t (by show tl_ap tr n w n 0 = nI i; rw [tl_ap_s]; exact e)]
  · rw [pk_un z, tl_LS_f (by show ¬ tl_ap tr n w n 0 = nI j; rw [tl_ap_s, e]; exact tl_ne (by omega) (by omega) (fun q => z q.symm)), tl_LS_ap]
    exact I j hj
theorem tl_EN_ap {n s j : Nat} {tr : Nat → Nat → Int32} {fe le ne pe : Nat → Int32} {w : Nat → Int32} (I : tl_EN s (fun t => tr t j) n fe le ne pe) : tl_EN s (fun t => tl_ap tr n w t j) n fe le ne pe :=
  tl_EN_c (fun t ht => by show tr t j = tl_ap tr n w t j; rw [tl_ap_n (by omega)]) I
theorem tl_HP_c {n m : Nat} {tr tr' : Nat → Nat → Int32} {st st' la la' id id' hp : Nat → Int32} (I : tl_HP n tr st la id m hp) (hn : n < 1000) (e : ∀ t, t < n → tr t = tr' t) (e1 : ∀ t, t < n → la' t = la t) (e2 : ∀ t, t < n → id' t = id t) (e3 : ∀ t, t < n → st' t = 0 → st t = 0) : tl_HP n tr' st' la' id' m hp := by
  obtain ⟨i1, i2, i3, i4⟩ := I
  have cl : ∀ j, j < m → (hp j).toNatClampNeg < n := fun j hj => by
    obtain ⟨t, ht, z, _⟩ := i2 j hj
    rw [z, nI_clamp (by omega)]; exact ht
  refine ⟨i1, fun j hj => ?_, fun j h0 hj => ?_, fun q hq q1 q2 q3 => ?_⟩
  · obtain ⟨t, ht, z, z2⟩ := i2 j hj
    rw [e t ht] at z2
    exact ⟨t, ht, z, z2⟩
  · have := i3 j h0 hj
    unfold tl_le tl_bf at this ⊢
    rw [e1 _ (cl j hj), e1 _ (cl ((j - 1) / 2) (by omega)), e2 _ (cl j hj), e2 _ (cl ((j - 1) / 2) (by omega))]
    exact this
  · rw [← e q hq] at q1 q3
    exact i4 q hq q1 (e3 q hq q2) q3
theorem tl_YB_ap {n : Nat} {tr : Nat → Nat → Int32} {st ki id nu s en ho ca ho' ca' : Nat → Int32} {w : Nat → Int32} (h : tl_YB n tr st ki id nu s en ho ca) (h1 : w 1 = 2 → ho' n = w 8 ∧ ca' n = w 7) (h2 : ∀ t, t < n → ho' t = ho t ∧ ca' t = ca t) :
    tl_YB (n + 1) (tl_ap tr n w) (upd st n 0) (upd ki n (w 1)) (upd id n (w 0)) (upd (upd (upd (upd nu (4 * n) (w 2)) (4 * n + 1) (tl_n1 w)) (4 * n + 2) (tl_n2 w)) (4 * n + 3) (w 5)) (upd s n 0) (upd en n (tl_wt w)) ho' ca' := by
  intro t ht
  by_cases e : t = n
  · rw [e, tl_ap_s, pk_us, pk_us, pk_us, pk_us, pk_us, pk_us]
    refine ⟨⟨rfl, rfl, ?_, ?_, ?_, rfl, rfl⟩, rfl, h1⟩
    · rw [pk_un (by omega), pk_un (by omega), pk_un (by omega), pk_us]
    · rw [pk_un (by omega), pk_un (by omega), pk_us]
    · rw [pk_un (by omega), pk_us]
  · obtain ⟨⟨a, b, c, d, f, g, i⟩, j, k⟩ := h t (by omega)
    obtain ⟨q1, q2⟩ := h2 t (by omega)
    rw [tl_ap_n e, pk_un e, pk_un e, pk_un e, pk_un e, pk_un e, q1, q2]
    refine ⟨⟨a, b, ?_, ?_, ?_, ?_, i⟩, j, k⟩
    · rw [pk_un (by omega), pk_un (by omega), pk_un (by omega), pk_un (by omega)]; exact c
    · rw [pk_un (by omega), pk_un (by omega), pk_un (by omega), pk_un (by omega)]; exact d
    · rw [pk_un (by omega), pk_un (by omega), pk_un (by omega), pk_un (by omega)]; exact f
    · rw [pk_un (by omega), pk_un (by omega), pk_un (by omega), pk_un (by omega)]; exact g
theorem tl_YB_c {n : Nat} {tr tr' : Nat → Nat → Int32} {st st' ki id nu s s' en ho ca : Nat → Int32} (h : tl_YB n tr st ki id nu s en ho ca) (e : ∀ t, t < n → tr t = tr' t) (e2 : ∀ t, t < n → s' t = st' t) : tl_YB n tr' st' ki id nu s' en ho ca := by
  intro t ht
  obtain ⟨⟨a, b, c, d, f, g, i⟩, j, k⟩ := h t ht
  rw [e t ht] at a b c d f g j k
  exact ⟨⟨a, b, c, d, f, g, e2 t ht⟩, j, k⟩
theorem tl_XB_c {n : Nat} {tr tr' : Nat → Nat → Int32} {st st' id ki on tw am li ca s s' la : Nat → Int32} (h : tl_XB n tr st id ki on tw am li ca s la) (e : ∀ t, t < n → tr t = tr' t) (e2 : ∀ t, t < n → s' t = st' t) : tl_XB n tr' st' id ki on tw am li ca s' la := by
  intro t ht
  obtain ⟨⟨a, b, c, d, f, g, i, j⟩, k⟩ := h t ht
  rw [e t ht] at a b c d f g i k
  exact ⟨⟨a, b, c, d, f, g, i, e2 t ht⟩, k⟩
end
section
/-! sums after one more transfer, a kind at a time -/
def tl_w0 (w : Nat → Int32) : Nat → Int32 := tl_mk w 0 (w 4) 0 (w 2) (w 3)
def tl_w1 (w : Nat → Int32) (T : Nat) : Nat → Int32 := tl_mk w (nI T + w 5) 0 0 (-1) (-1)
def tl_w2 (w : Nat → Int32) (tr : Nat → Nat → Int32) (h : Nat) : Nat → Int32 := tl_mk w 0 (if w 4 = 0 then tr h 4 else w 4) (nI h) (tr h 2) (tr h 3)
def tl_w3 (w : Nat → Int32) (h : Nat) : Nat → Int32 := tl_mk w 0 0 (nI h) (-1) (-1)
section
variable {tr : Nat → Nat → Int32} {st : Nat → Int32} {n : Nat} {w : Nat → Int32}
theorem tl_S0 (k : w 1 = 0) (x y : Nat) : tl_SM tr st n x y + tl_dl 1 (w 2) (w 3) (w 4).toInt x y = tl_SM (tl_ap tr n (tl_w0 w)) (upd st n 0) (n + 1) x y := by
  rw [tl_SM_mv (s0 := st) (by rw [tl_ap_s]; exact k) (fun t ht => pk_un (by omega)), tl_ap_s, tl_SM_ap (st := st) (fun _ _ => rfl)]
  rfl
theorem tl_S1 {T : Nat} (k : w 1 = 1) (x y : Nat) : tl_SM tr st n x y + tl_dl 0 (w 2) (w 3) (w 4).toInt x y = tl_SM (tl_ap tr n (tl_w1 w T)) (upd st n 0) (n + 1) x y := by
  rw [tl_SM_hd (s0 := st) (by rw [tl_ap_s]; exact k) (fun t ht => pk_un (by omega)) pk_us, tl_ap_s, tl_SM_ap (st := st) (fun _ _ => rfl)]
  rfl
theorem tl_S2 {h : Nat} {s : Int32} (k : w 1 = 2) (hh : h < n) (k1 : tr h 1 = 1) (e0 : st h = 0) (es : ¬ s = 0) (x y : Nat) : tl_SM tr st n x y - tl_dl 0 (tr h 2) (tr h 3) (tr h 4).toInt x y + tl_dl 1 (tr h 2) (tr h 3) (if w 4 = 0 then tr h 4 else w 4).toInt x y = tl_SM (tl_ap tr n (tl_w2 w tr h)) (upd (upd st n 0) h s) (n + 1) x y := by
  have eh : tl_ap tr n (tl_w2 w tr h) h = tr h := tl_ap_n (by omega)
  rw [tl_SM_tk (s0 := st) (h := h) (by rw [tl_ap_s]; exact k) hh (by rw [eh]; exact k1) e0 (by rw [pk_us]; exact es) (fun t ht z => by rw [pk_un z, pk_un (by omega)]), tl_ap_s, eh, tl_SM_ap (st := st) (fun _ _ => rfl)]
  rfl
theorem tl_S3 {h : Nat} {s : Int32} (k : w 1 = 3) (hh : h < n) (k1 : tr h 1 = 1) (e0 : st h = 0) (es : ¬ s = 0) (x y : Nat) : tl_SM tr st n x y - tl_dl 0 (tr h 2) (tr h 3) (tr h 4).toInt x y = tl_SM (tl_ap tr n (tl_w3 w h)) (upd (upd st n 0) h s) (n + 1) x y := by
  have eh : tl_ap tr n (tl_w3 w h) h = tr h := tl_ap_n (by omega)
  rw [tl_SM_rl (s0 := st) (h := h) (by rw [tl_ap_s]; exact k) (by rw [tl_ap_s]; rfl) hh (by rw [eh]; exact k1) e0 (by rw [pk_us]; exact es) (fun t ht z => by rw [pk_un z, pk_un (by omega)]), eh, tl_SM_ap (st := st) (fun _ _ => rfl)]
end
section
variable {xA xT xN xH xC xL : Int32} {xbo xsu xid xki xon xtw xam xli xca xst xla xpl xfe xle xne xpe xhp xlI xlK xlO xlT xlA xlL : Nat → Int32}
theorem tl_xaddE {post : SX → Prop} {d c w : Nat} {p0 p1 x : Int32} (q0 : p0 = nI d) (q1 : p1 = nI c) (hd : d < 10) (hc : c < 10) (hw : w < 2) (K : post (xA, xT, xN, xH, xC, xL, xbo, tl_ad xsu d c w x, xid, xki, xon, xtw, xam, xli, xca, xst, xla, xpl, xfe, xle, xne, xpe, xhp, xlI, xlK, xlO, xlT, xlA, xlL)) : wpX_addTo post (xA, xT, xN, xH, xC, xL, xbo, xsu, xid, xki, xon, xtw, xam, xli, xca, xst, xla, xpl, xfe, xle, xne, xpe, xhp, xlI, xlK, xlO, xlT, xlA, xlL) p0 p1 (nI w) x := by
  subst q0 q1
  exact tl_xadd hd hc hw K
theorem tl_xcomeE {post : SX → Prop} {a b n : Nat} {p1 p2 x : Int32} {E0 E1 : Nat → Int32} (q1 : p1 = nI a) (q2 : p2 = nI b) (ha : a < 10) (hb : b < 10) (hn : n < 60) (I0 : tl_EN 0 E0 n xfe xle xne xpe) (I1 : tl_EN 1 E1 n xfe xle xne xpe) (e0 : E0 n = nI a) (e1 : E1 n = nI b)
    (K : ∀ fe le ne pe : Nat → Int32, tl_EN 0 E0 (n + 1) fe le ne pe → tl_EN 1 E1 (n + 1) fe le ne pe → post (xA, xT, xN, xH, xC, xL, xbo, tl_ad xsu a b 1 x, xid, xki, xon, xtw, xam, xli, upd xca n x, xst, xla, xpl, fe, le, ne, pe, xhp, xlI, xlK, xlO, xlT, xlA, xlL)) :
    wpX_come post (xA, xT, xN, xH, xC, xL, xbo, xsu, xid, xki, xon, xtw, xam, xli, xca, xst, xla, xpl, xfe, xle, xne, xpe, xhp, xlI, xlK, xlO, xlT, xlA, xlL) (nI n) p1 p2 x := by
  subst q1 q2
  exact tl_xcome ha hb hn I0 I1 e0 e1 K
variable {A : Nat} {bd : Nat → Int32} {T n : Nat} {tr : Nat → Nat → Int32} {st : Nat → Int32} {ch : Int32} {l : Nat} {lk : Nat → Nat → Int32} {w : Nat → Int32} {post : Int32 → SX → Prop} {i a b : Nat}
theorem tl_xperf0 (hX : tl_RX True A bd T n tr st ch l lk (xA, xT, xN, xH, xC, xL, xbo, xsu, xid, xki, xon, xtw, xam, xli, xca, xst, xla, xpl, xfe, xle, xne, xpe, xhp, xlI, xlK, xlO, xlT, xlA, xlL)) (hn : n < 60) (k : w 1 = 0) (hi : i < 100) (e0 : w 0 = nI i) (ea : w 2 = nI a) (eb : w 3 = nI b) (ha : a < 10) (hb : b < 10)
    (hr : ∀ p : Int32 → Prop, p 0 → wpX_refusal p (xA, xT, xN, xH, xC, xL, xbo, xsu, xid, xki, xon, xtw, xam, xli, xca, xst, xla, xpl, xfe, xle, xne, xpe, xhp, xlI, xlK, xlO, xlT, xlA, xlL) (w 0) (w 1) (w 2) (w 3) (w 4) (w 5))
    (K : ∀ u' : SX, tl_RX True A bd T (n + 1) (tl_ap tr n (tl_w0 w)) (upd st n 0) ch l lk u' → post 1 u') : wpX_perform post (xA, xT, xN, xH, xC, xL, xbo, xsu, xid, xki, xon, xtw, xam, xli, xca, xst, xla, xpl, xfe, xle, xne, xpe, xhp, xlI, xlK, xlO, xlT, xlA, xlL) (w 0) (w 1) (w 2) (w 3) (w 4) (w 5) := by
  obtain ⟨⟨rfl, rfl, rfl, rfl, rfl, rfl⟩, hB, hP, hS, hE0, hE1, hL, hH0⟩ := hX
  obtain ⟨m, rfl, hH⟩ := hH0 trivial
  have vn : vp_in (nI n) 60 := vp_in_nI hn (by decide)
  have cn : (nI n).toNatClampNeg = n := nI_clamp (by omega)
  have v0 : vp_in (w 0) 100 := by rw [e0]; exact vp_in_nI hi (by decide)
  have c0 : (w 0).toNatClampNeg = i := by rw [e0]; exact nI_clamp (by omega)
  unfold wpX_perform
  dsimp only
  refine hr _ (br_t rfl ?_)
  rw [cn, c0, nI_1 n]
  rintro _ rfl
  refine ⟨v0, ?_⟩
  rintro _ rfl
  refine ⟨vn, ?_⟩
  rintro _ rfl
  refine ⟨vn, ?_⟩
  rintro _ rfl
  refine ⟨vn, ?_⟩
  rintro _ rfl
  refine ⟨vn, ?_⟩
  rintro _ rfl
  refine ⟨vn, ?_⟩
  rintro _ rfl
  refine ⟨vn, ?_⟩
  rintro _ rfl
  refine ⟨vn, ?_⟩
  rintro _ rfl
  refine ⟨vn, ?_⟩
  rintro _ rfl
  refine br_t k ?_
  refine tl_xcomeE ea eb ha hb hn (E0 := fun t => tl_ap tr n (tl_w0 w) t 9) (E1 := fun t => tl_ap tr n (tl_w0 w) t 10) (tl_EN_ap hE0) (tl_EN_ap hE1) (by show tl_ap tr n (tl_w0 w) n 9 = nI a; rw [tl_ap_s]; exact ea) (by show tl_ap tr n (tl_w0 w) n 10 = nI b; rw [tl_ap_s]; exact eb) (fun fe le ne pe J0 J1 => ?_)
  refine K _ ⟨⟨rfl, rfl, rfl, rfl, rfl, rfl⟩, tl_XB_ap (w := tl_w0 w) hB pk_us (fun t ht => (pk_un (by omega)).trans (pk_un (by omega))) (fun z => absurd (k.symm.trans z) (by decide)) (fun _ _ => rfl), tl_PL_ap hi e0 hP, ?_, J0, J1, hL, fun _ => ⟨m, rfl, ?_⟩⟩
  · refine tl_SF_c (tl_SF_ad hS ha hb (by decide) (tl_oi (w 4))) (fun x y _ _ => ?_)
    show tl_SM tr st n x y + tl_dl 1 (nI a) (nI b) (w 4).toInt x y = _
    rw [← ea, ← eb]
    exact tl_S0 k x y
  · refine tl_HP_skip (tl_HP_c hH (by omega) (fun t ht => (tl_ap_n (by omega)).symm) (fun _ _ => rfl) (fun t ht => pk_un (by omega)) (fun t ht z => by rw [pk_un (by omega)] at z; exact z)) (fun z => ?_)
    rw [tl_ap_s] at z
    exact absurd (k.symm.trans z.1) (by decide)
theorem tl_xperf1 (hX : tl_RX True A bd T n tr st ch l lk (xA, xT, xN, xH, xC, xL, xbo, xsu, xid, xki, xon, xtw, xam, xli, xca, xst, xla, xpl, xfe, xle, xne, xpe, xhp, xlI, xlK, xlO, xlT, xlA, xlL)) (hn : n < 60) (k : w 1 = 1) (hi : i < 100) (e0 : w 0 = nI i) (ea : w 2 = nI a) (eb : w 3 = nI b) (ha : a < 10) (hb : b < 10)
    (hr : ∀ p : Int32 → Prop, p 0 → wpX_refusal p (xA, xT, xN, xH, xC, xL, xbo, xsu, xid, xki, xon, xtw, xam, xli, xca, xst, xla, xpl, xfe, xle, xne, xpe, xhp, xlI, xlK, xlO, xlT, xlA, xlL) (w 0) (w 1) (w 2) (w 3) (w 4) (w 5))
    (K : ∀ u' : SX, tl_RX True A bd T (n + 1) (tl_ap tr n (tl_w1 w T)) (upd st n 0) ch l lk u' → post 1 u') : wpX_perform post (xA, xT, xN, xH, xC, xL, xbo, xsu, xid, xki, xon, xtw, xam, xli, xca, xst, xla, xpl, xfe, xle, xne, xpe, xhp, xlI, xlK, xlO, xlT, xlA, xlL) (w 0) (w 1) (w 2) (w 3) (w 4) (w 5) := by
  obtain ⟨⟨rfl, rfl, rfl, rfl, rfl, rfl⟩, hB, hP, hS, hE0, hE1, hL, hH0⟩ := hX
  obtain ⟨m, rfl, hH⟩ := hH0 trivial
  have vn : vp_in (nI n) 60 := vp_in_nI hn (by decide)
  have cn : (nI n).toNatClampNeg = n := nI_clamp (by omega)
  have v0 : vp_in (w 0) 100 := by rw [e0]; exact vp_in_nI hi (by decide)
  have c0 : (w 0).toNatClampNeg = i := by rw [e0]; exact nI_clamp (by omega)
  have hB' : ∀ ca' la' : Nat → Int32, ca' = upd xca n 0 → la' = upd xla n (nI T + w 5) → tl_XB (n + 1) (tl_ap tr n (tl_w1 w T)) (upd st n 0) (upd xid n (w 0)) (upd xki n (w 1)) (upd xon n (w 2)) (upd xtw n (w 3)) (upd xam n (w 4)) (upd xli n (w 5)) ca' (upd xst n 0) la' := by
    rintro _ _ rfl rfl
    exact tl_XB_ap (w := tl_w1 w T) hB pk_us (fun t ht => pk_un (by omega)) (fun _ => pk_us) (fun t ht => pk_un (by omega))
  have hS' : tl_SF (tl_SM (tl_ap tr n (tl_w1 w T)) (upd st n 0) (n + 1)) (tl_ad xsu a b 0 (w 4)) := by
    refine tl_SF_c (tl_SF_ad hS ha hb (by decide) (tl_oi (w 4))) (fun x y _ _ => ?_)
    show tl_SM tr st n x y + tl_dl 0 (nI a) (nI b) (w 4).toInt x y = _
    rw [← ea, ← eb]
    exact tl_S1 k x y
  have J0 : tl_EN 0 (fun t => tl_ap tr n (tl_w1 w T) t 9) (n + 1) xfe xle xne xpe := tl_EN_skip (tl_EN_ap hE0) (fun q hq => by show ¬ tl_ap tr n (tl_w1 w T) n 9 = nI q; rw [tl_ap_s]; exact tl_m1 (by omega))
  have J1 : tl_EN 1 (fun t => tl_ap tr n (tl_w1 w T) t 10) (n + 1) xfe xle xne xpe := tl_EN_skip (tl_EN_ap hE1) (fun q hq => by show ¬ tl_ap tr n (tl_w1 w T) n 10 = nI q; rw [tl_ap_s]; exact tl_m1 (by omega))
  have hH' : tl_HP n (tl_ap tr n (tl_w1 w T)) (upd st n 0) (upd xla n (nI T + w 5)) (upd xid n (w 0)) m xhp := tl_HP_c hH (by omega) (fun t ht => (tl_ap_n (by omega)).symm) (fun t ht => pk_un (by omega)) (fun t ht => pk_un (by omega)) (fun t ht z => by rw [pk_un (by omega)] at z; exact z)
  unfold wpX_perform
  dsimp only
  refine hr _ (br_t rfl ?_)
  rw [cn, c0, nI_1 n]
  rintro _ rfl
  refine ⟨v0, ?_⟩
  rintro _ rfl
  refine ⟨vn, ?_⟩
  rintro _ rfl
  refine ⟨vn, ?_⟩
  rintro _ rfl
  refine ⟨vn, ?_⟩
  rintro _ rfl
  refine ⟨vn, ?_⟩
  rintro _ rfl
  refine ⟨vn, ?_⟩
  rintro _ rfl
  refine ⟨vn, ?_⟩
  rintro _ rfl
  refine ⟨vn, ?_⟩
  rintro _ rfl
  refine ⟨vn, ?_⟩
  rintro _ rfl
  refine br_f (by rw [k]; decide) (br_t k ?_)
  refine tl_xaddE (w := 0) ea eb ha hb (by decide) ⟨vn, ?_⟩
  rintro _ rfl
  refine br_c (fun h5 => ?_) (fun h5 => ?_)
  · refine K _ ⟨⟨rfl, rfl, rfl, rfl, rfl, rfl⟩, hB' _ _ rfl rfl, tl_PL_ap hi e0 hP, hS', J0, J1, hL, fun _ => ⟨m, rfl, tl_HP_skip hH' (fun z => ?_)⟩⟩
    rw [tl_ap_s] at z
    exact z.2.2 h5
  · refine tl_xpush (n := n + 1) (tr := tl_ap tr n (tl_w1 w T)) (by have := hH'.1; omega) (by omega) ⟨n, by omega, rfl, by rw [tl_ap_s]; exact k, by rw [tl_ap_s]; exact h5⟩ (fun j hj => tl_G_up (by omega) (hH'.2.1 j hj)) hH'.2.2.1 (fun h' H G C => ?_)
    exact K _ ⟨⟨rfl, rfl, rfl, rfl, rfl, rfl⟩, hB' _ _ rfl rfl, tl_PL_ap hi e0 hP, hS', J0, J1, hL, fun _ => ⟨m + 1, rfl, tl_HP_put hH' H G C⟩⟩
theorem tl_xperf2 {h j : Nat} (hX : tl_RX True A bd T n tr st ch l lk (xA, xT, xN, xH, xC, xL, xbo, xsu, xid, xki, xon, xtw, xam, xli, xca, xst, xla, xpl, xfe, xle, xne, xpe, xhp, xlI, xlK, xlO, xlT, xlA, xlL)) (hn : n < 60) (k : w 1 = 2) (hi : i < 100) (e0 : w 0 = nI i) (hh : h < n) (hj : j < 100) (e2 : w 2 = nI j) (hij : j ≠ i) (hpl : xpl j = nI h) (k1 : tr h 1 = 1) (ks : st h = 0) (ea : tr h 2 = nI a) (eb : tr h 3 = nI b) (ha : a < 10) (hb : b < 10)
    (hr : ∀ p : Int32 → Prop, p 0 → wpX_refusal p (xA, xT, xN, xH, xC, xL, xbo, xsu, xid, xki, xon, xtw, xam, xli, xca, xst, xla, xpl, xfe, xle, xne, xpe, xhp, xlI, xlK, xlO, xlT, xlA, xlL) (w 0) (w 1) (w 2) (w 3) (w 4) (w 5))
    (K : ∀ u' : SX, tl_RX True A bd T (n + 1) (tl_ap tr n (tl_w2 w tr h)) (upd (upd st n 0) h 1) ch l lk u' → post 1 u') : wpX_perform post (xA, xT, xN, xH, xC, xL, xbo, xsu, xid, xki, xon, xtw, xam, xli, xca, xst, xla, xpl, xfe, xle, xne, xpe, xhp, xlI, xlK, xlO, xlT, xlA, xlL) (w 0) (w 1) (w 2) (w 3) (w 4) (w 5) := by
  obtain ⟨⟨rfl, rfl, rfl, rfl, rfl, rfl⟩, hB, hP, hS, hE0, hE1, hL, hH0⟩ := hX
  obtain ⟨m, rfl, hH⟩ := hH0 trivial
  have vn : vp_in (nI n) 60 := vp_in_nI hn (by decide)
  have cn : (nI n).toNatClampNeg = n := nI_clamp (by omega)
  have v0 : vp_in (w 0) 100 := by rw [e0]; exact vp_in_nI hi (by decide)
  have c0 : (w 0).toNatClampNeg = i := by rw [e0]; exact nI_clamp (by omega)
  have v2 : vp_in (w 2) 100 := by rw [e2]; exact vp_in_nI hj (by decide)
  have c2 : (w 2).toNatClampNeg = j := by rw [e2]; exact nI_clamp (by omega)
  have vh : vp_in (nI h) 60 := vp_in_nI (by omega) (by decide)
  have chh : (nI h).toNatClampNeg = h := nI_clamp (by omega)
  obtain ⟨⟨_, _, b2, b3, b4, _⟩, _⟩ := hB h hh
  have u2 : upd xon n (w 2) h = nI a := by rw [pk_un (by omega), b2]; exact ea
  have u3 : upd xtw n (w 3) h = nI b := by rw [pk_un (by omega), b3]; exact eb
  have u4 : upd xam n (w 4) h = tr h 4 := by rw [pk_un (by omega), b4]
  have hH' : tl_HP (n + 1) (tl_ap tr n (tl_w2 w tr h)) (upd (upd st n 0) h 1) xla (upd xid n (w 0)) m xhp := by
    refine tl_HP_skip (tl_HP_c hH (by omega) (fun t ht => (tl_ap_n (by omega)).symm) (fun _ _ => rfl) (fun t ht => pk_un (by omega)) (fun t ht z => ?_)) (fun z => ?_)
    · by_cases q : t = h
      · rw [q]; exact ks
      · rw [pk_un q, pk_un (by omega)] at z; exact z
    · rw [tl_ap_s] at z
      exact absurd (k.symm.trans z.1) (by decide)
  have fin : ∀ c : Int32, c = (if w 4 = 0 then tr h 4 else w 4) → ∀ fe le ne pe : Nat → Int32, tl_EN 0 (fun t => tl_ap tr n (tl_w2 w tr h) t 9) (n + 1) fe le ne pe → tl_EN 1 (fun t => tl_ap tr n (tl_w2 w tr h) t 10) (n + 1) fe le ne pe →
      post 1 (nI A, nI T, nI (n + 1), nI m, xC, nI l, xbo, tl_ad (tl_ad xsu a b 0 (-(tr h 4))) a b 1 c, upd xid n (w 0), upd xki n (w 1), upd xon n (w 2), upd xtw n (w 3), upd xam n (w 4), upd xli n (w 5), upd (upd xca n 0) n c, upd (upd xst n 0) h 1, xla, upd xpl i (nI n), fe, le, ne, pe, xhp, xlI, xlK, xlO, xlT, xlA, xlL) := by
    intro c hc fe le ne pe J0 J1
    refine K _ ⟨⟨rfl, rfl, rfl, rfl, rfl, rfl⟩, tl_XB_st (tl_XB_ap (w := tl_w2 w tr h) hB (pk_us.trans hc) (fun t ht => (pk_un (by omega)).trans (pk_un (by omega))) (fun z => absurd (k.symm.trans z) (by decide)) (fun _ _ => rfl)), tl_PL_ap hi e0 hP, ?_, J0, J1, hL, fun _ => ⟨m, rfl, hH'⟩⟩
    refine tl_SF_c (tl_SF_ad (tl_SF_ad hS ha hb (by decide) (tl_on (tr h 4))) ha hb (by decide) (tl_oi c)) (fun x y _ _ => ?_)
    show tl_SM tr st n x y + tl_dl 0 (nI a) (nI b) (-(tr h 4).toInt) x y + tl_dl 1 (nI a) (nI b) c.toInt x y = _
    rw [← ea, ← eb, tl_dl_neg, ← tl_S2 k hh k1 ks (by decide) x y, hc]
    omega
  unfold wpX_perform
  dsimp only
  refine hr _ (br_t rfl ?_)
  rw [cn, c0, c2, nI_1 n]
  rintro _ rfl
  refine ⟨v0, ?_⟩
  rintro _ rfl
  refine ⟨vn, ?_⟩
  rintro _ rfl
  refine ⟨vn, ?_⟩
  rintro _ rfl
  refine ⟨vn, ?_⟩
  rintro _ rfl
  refine ⟨vn, ?_⟩
  rintro _ rfl
  refine ⟨vn, ?_⟩
  rintro _ rfl
  refine ⟨vn, ?_⟩
  rintro _ rfl
  refine ⟨vn, ?_⟩
  rintro _ rfl
  refine ⟨vn, ?_⟩
  rintro _ rfl
  refine br_f (by rw [k]; decide) (br_f (by rw [k]; decide) ⟨v2, ?_⟩)
  rw [pk_un hij, hpl]
  unfold wpX_performOnHold
  dsimp only
  refine br_t k ?_
  unfold wX_performOnHold_12 wX_performOnHold_50
  refine tl_xunhold (by omega) ha hb u2 u3 u4 ?_
  dsimp only
  rw [chh]
  refine br_t k ⟨vh, vh, ?_⟩
  have x0 : tl_EN 0 (fun t => tl_ap tr n (tl_w2 w tr h) t 9) n xfe xle xne xpe := tl_EN_ap hE0
  have x1 : tl_EN 1 (fun t => tl_ap tr n (tl_w2 w tr h) t 10) n xfe xle xne xpe := tl_EN_ap hE1
  have y0 : (fun t => tl_ap tr n (tl_w2 w tr h) t 9) n = nI a := by show tl_ap tr n (tl_w2 w tr h) n 9 = nI a; rw [tl_ap_s]; exact ea
  have y1 : (fun t => tl_ap tr n (tl_w2 w tr h) t 10) n = nI b := by show tl_ap tr n (tl_w2 w tr h) n 10 = nI b; rw [tl_ap_s]; exact eb
  refine br_c (fun z => ⟨vh, ?_⟩) (fun z => ?_)
  · refine tl_xcomeE u2 u3 ha hb hn x0 x1 y0 y1 ?_
    exact fin _ (by rw [u4, if_pos z])
  · refine tl_xcomeE u2 u3 ha hb hn x0 x1 y0 y1 ?_
    exact fin _ (by rw [if_neg z])
theorem tl_xperf3 {h j : Nat} (hX : tl_RX True A bd T n tr st ch l lk (xA, xT, xN, xH, xC, xL, xbo, xsu, xid, xki, xon, xtw, xam, xli, xca, xst, xla, xpl, xfe, xle, xne, xpe, xhp, xlI, xlK, xlO, xlT, xlA, xlL)) (hn : n < 60) (k : w 1 = 3) (hi : i < 100) (e0 : w 0 = nI i) (hh : h < n) (hj : j < 100) (e2 : w 2 = nI j) (hij : j ≠ i) (hpl : xpl j = nI h) (k1 : tr h 1 = 1) (ks : st h = 0) (ea : tr h 2 = nI a) (eb : tr h 3 = nI b) (ha : a < 10) (hb : b < 10)
    (hr : ∀ p : Int32 → Prop, p 0 → wpX_refusal p (xA, xT, xN, xH, xC, xL, xbo, xsu, xid, xki, xon, xtw, xam, xli, xca, xst, xla, xpl, xfe, xle, xne, xpe, xhp, xlI, xlK, xlO, xlT, xlA, xlL) (w 0) (w 1) (w 2) (w 3) (w 4) (w 5))
    (K : ∀ u' : SX, tl_RX True A bd T (n + 1) (tl_ap tr n (tl_w3 w h)) (upd (upd st n 0) h 2) ch l lk u' → post 1 u') : wpX_perform post (xA, xT, xN, xH, xC, xL, xbo, xsu, xid, xki, xon, xtw, xam, xli, xca, xst, xla, xpl, xfe, xle, xne, xpe, xhp, xlI, xlK, xlO, xlT, xlA, xlL) (w 0) (w 1) (w 2) (w 3) (w 4) (w 5) := by
  obtain ⟨⟨rfl, rfl, rfl, rfl, rfl, rfl⟩, hB, hP, hS, hE0, hE1, hL, hH0⟩ := hX
  obtain ⟨m, rfl, hH⟩ := hH0 trivial
  have vn : vp_in (nI n) 60 := vp_in_nI hn (by decide)
  have cn : (nI n).toNatClampNeg = n := nI_clamp (by omega)
  have v0 : vp_in (w 0) 100 := by rw [e0]; exact vp_in_nI hi (by decide)
  have c0 : (w 0).toNatClampNeg = i := by rw [e0]; exact nI_clamp (by omega)
  have v2 : vp_in (w 2) 100 := by rw [e2]; exact vp_in_nI hj (by decide)
  have c2 : (w 2).toNatClampNeg = j := by rw [e2]; exact nI_clamp (by omega)
  obtain ⟨⟨_, _, b2, b3, b4, _⟩, _⟩ := hB h hh
  have u2 : upd xon n (w 2) h = nI a := by rw [pk_un (by omega), b2]; exact ea
  have u3 : upd xtw n (w 3) h = nI b := by rw [pk_un (by omega), b3]; exact eb
  have u4 : upd xam n (w 4) h = tr h 4 := by rw [pk_un (by omega), b4]
  have hH' : tl_HP (n + 1) (tl_ap tr n (tl_w3 w h)) (upd (upd st n 0) h 2) xla (upd xid n (w 0)) m xhp := by
    refine tl_HP_skip (tl_HP_c hH (by omega) (fun t ht => (tl_ap_n (by omega)).symm) (fun _ _ => rfl) (fun t ht => pk_un (by omega)) (fun t ht z => ?_)) (fun z => ?_)
    · by_cases q : t = h
      · rw [q]; exact ks
      · rw [pk_un q, pk_un (by omega)] at z; exact z
    · rw [tl_ap_s] at z
      exact absurd (k.symm.trans z.1) (by decide)
  have J0 : tl_EN 0 (fun t => tl_ap tr n (tl_w3 w h) t 9) (n + 1) xfe xle xne xpe := tl_EN_skip (tl_EN_ap hE0) (fun q hq => by show ¬ tl_ap tr n (tl_w3 w h) n 9 = nI q; rw [tl_ap_s]; exact tl_m1 (by omega))
  have J1 : tl_EN 1 (fun t => tl_ap tr n (tl_w3 w h) t 10) (n + 1) xfe xle xne xpe := tl_EN_skip (tl_EN_ap hE1) (fun q hq => by show ¬ tl_ap tr n (tl_w3 w h) n 10 = nI q; rw [tl_ap_s]; exact tl_m1 (by omega))
  unfold wpX_perform
  dsimp only
  refine hr _ (br_t rfl ?_)
  rw [cn, c0, c2, nI_1 n]
  rintro _ rfl
  refine ⟨v0, ?_⟩
  rintro _ rfl
  refine ⟨vn, ?_⟩
  rintro _ rfl
  refine ⟨vn, ?_⟩
  rintro _ rfl
  refine ⟨vn, ?_⟩
  rintro _ rfl
  refine ⟨vn, ?_⟩
  rintro _ rfl
  refine ⟨vn, ?_⟩
  rintro _ rfl
  refine ⟨vn, ?_⟩
  rintro _ rfl
  refine ⟨vn, ?_⟩
  rintro _ rfl
  refine ⟨vn, ?_⟩
  rintro _ rfl
  refine br_f (by rw [k]; decide) (br_f (by rw [k]; decide) ⟨v2, ?_⟩)
  rw [pk_un hij, hpl]
  unfold wpX_performOnHold
  dsimp only
  refine br_f (by rw [k]; decide) ?_
  unfold wX_performOnHold_12
  refine tl_xunhold (by omega) ha hb u2 u3 u4 ?_
  dsimp only
  refine br_f (by rw [k]; decide) ?_
  refine K _ ⟨⟨rfl, rfl, rfl, rfl, rfl, rfl⟩, tl_XB_st (tl_XB_ap (w := tl_w3 w h) hB pk_us (fun t ht => pk_un (by omega)) (fun z => absurd (k.symm.trans z) (by decide)) (fun _ _ => rfl)), tl_PL_ap hi e0 hP, ?_, J0, J1, hL, fun _ => ⟨m, rfl, hH'⟩⟩
  refine tl_SF_c (tl_SF_ad hS ha hb (by decide) (tl_on (tr h 4))) (fun x y _ _ => ?_)
  show tl_SM tr st n x y + tl_dl 0 (nI a) (nI b) (-(tr h 4).toInt) x y = _
  rw [← ea, ← eb, tl_dl_neg, ← tl_S3 k hh k1 ks (by decide) x y]
  omega
end
end
section
/-! small walks of the reference, and refusals of both -/
theorem tl_i24 (c w : Nat) : ((4 : Int32) * nI c + 2) + nI w = nI (4 * c + w + 2) := by
  rw [show (2 : Int32) = nI 2 from rfl, tl_i4, nI_add]
  exact congrArg nI (by omega)
theorem tl_j0 (a : Nat) : (4 : Int32) * nI a = nI (4 * a) := by rw [show (4 : Int32) = nI 4 from rfl, pk_mul]
theorem tl_j1 (a : Nat) : (4 : Int32) * nI a + 1 = nI (4 * a + 1) := tl_i4 a 1
theorem tl_j2 (a : Nat) : (4 : Int32) * nI a + 2 = nI (4 * a + 2) := tl_i4 a 2
theorem tl_j3 (a : Nat) : (4 : Int32) * nI a + 3 = nI (4 * a + 3) := tl_i4 a 3
theorem tl_acd (p : Int32) {A : Nat} (hA : A ≤ 10) : (p < 0 ∨ nI A ≤ p) ∨ ∃ a, a < A ∧ p = nI a := by
  rcases pk_ix p (n := A) (by omega) with h | h | h
  · exact Or.inl (Or.inl h)
  · exact Or.inl (Or.inr h)
  · exact Or.inr h
theorem tl_rng {x : Int32} (h1 : ¬ x < 1) (h2 : x ≤ 1000000) : ∃ m : Nat, 1 ≤ m ∧ m ≤ 1000000 ∧ x = nI m := by
  have k1 : (1 : Int32).toInt = 1 := by decide
  have k2 : (1000000 : Int32).toInt = 1000000 := by decide
  have k0 : (0 : Int32).toInt = 0 := by decide
  rw [Int32.lt_iff_toInt_lt, k1] at h1
  have h0 : ¬ x < 0 := by rw [Int32.lt_iff_toInt_lt, k0]; omega
  obtain ⟨j, hj, e⟩ := nI_of2 (n := 1000000) k2 h0 h2
  refine ⟨j, ?_, hj, e⟩
  rw [e, nI_toInt (by omega)] at h1
  omega
theorem tl_rng0 {x : Int32} (h1 : ¬ x < 0) (h2 : x ≤ 1000) : ∃ m : Nat, m ≤ 1000 ∧ x = nI m := nI_of2 (n := 1000) (by decide) h1 h2
section
variable {yA yT yN yC yL : Int32} {ybo ysu yki yid ynu yst yen yho yca ylK ylI ylN ykS ykT : Nat → Int32}
theorem tl_yadd {post : SY → Prop} {d c w : Nat} {p0 p1 x : Int32} (q0 : p0 = nI d) (q1 : p1 = nI c) (hd : d < 10) (hc : c < 10) (hw : w < 2) (K : post (yA, yT, yN, yC, yL, ybo, tl_ad ysu d c w x, yki, yid, ynu, yst, yen, yho, yca, ylK, ylI, ylN, ykS, ykT)) : wpY_addTo post (yA, yT, yN, yC, yL, ybo, ysu, yki, yid, ynu, yst, yen, yho, yca, ylK, ylI, ylN, ykS, ykT) p0 p1 (nI w) x := by
  subst q0 q1
  have v1 : vp_in (4 * nI d + nI w) 40 := pk_in (4 * d + w) 40 (by omega) (tl_i4 d w)
  have v2 : vp_in ((4 * nI c + 2) + nI w) 40 := pk_in (4 * c + w + 2) 40 (by omega) (tl_i24 c w)
  have c1 : ((4 : Int32) * nI d + nI w).toNatClampNeg = 4 * d + w := pk_cl (4 * d + w) (tl_i4 d w)
  have c2 : (((4 : Int32) * nI c + 2) + nI w).toNatClampNeg = 4 * c + w + 2 := pk_cl (4 * c + w + 2) (tl_i24 c w)
  unfold wpY_addTo
  dsimp only
  rw [c1, c2]
  refine ⟨v1, v1, ?_⟩
  rintro _ rfl
  refine ⟨v2, v2, ?_⟩
  rintro _ rfl
  exact K
theorem tl_yfind2 {post : Int32 → Prop} {x : Int32} {A T n : Nat} {tr : Nat → Nat → Int32} (hn : n ≤ 60) (hV : tl_Vs A T tr n) (hid : ∀ t, t < n → yid t = tr t 0) (K : post (tl_LS (fun t => tr t 0) n x)) : ∀ (d i N : Nat), i + d = n → d < N → (∀ t, t < i → ¬ tr t 0 = x) → wY_find_2 post x yA yT (nI n) yC yL ybo ysu yki yid ynu yst yen yho yca ylK ylI ylN ykS ykT N (nI i) := by
  intro d
  induction d with
  | zero =>
    intro i N hd hN h
    obtain ⟨N, rfl⟩ : ∃ N', N = N' + 1 := ⟨N - 1, by omega⟩
    have e : i = n := by omega
    rw [e] at h ⊢
    rw [wY_find_2]
    dsimp only
    refine br_t (nI_le (Nat.le_refl n) (by omega)) ?_
    rw [← tl_LS_no (E := fun t => tr t 0) (n := n) (a := x) h]
    exact K
  | succ d ih =>
    intro i N hd hN h
    obtain ⟨N, rfl⟩ : ∃ N', N = N' + 1 := ⟨N - 1, by omega⟩
    have ci : (nI i).toNatClampNeg = i := nI_clamp (by omega)
    rw [wY_find_2]
    dsimp only
    rw [ci, hid i (by omega), nI_1 i]
    refine br_f (nI_ge (by omega) (by omega)) ⟨vp_in_nI (by omega) (by decide), ?_⟩
    by_cases e : tr i 0 = x
    · refine br_t e ?_
      rw [← tl_FI_is hV (show i < n by omega), e]
      exact K
    · refine br_f e ?_
      rintro _ rfl
      refine ih (i + 1) N (by omega) (by omega) (fun t ht => ?_)
      by_cases z : t = i
      · rw [z]; exact e
      · exact h t (by omega)
theorem tl_yfind {post : Int32 → Prop} {x : Int32} {A T n : Nat} {tr : Nat → Nat → Int32} (hn : n ≤ 60) (hV : tl_Vs A T tr n) (hid : ∀ t, t < n → yid t = tr t 0) (K : post (tl_LS (fun t => tr t 0) n x)) : wpY_find post (yA, yT, nI n, yC, yL, ybo, ysu, yki, yid, ynu, yst, yen, yho, yca, ylK, ylI, ylN, ykS, ykT) x := by
  unfold wpY_find
  dsimp only
  exact ⟨n + 1, tl_yfind2 hn hV hid K n 0 (n + 1) (by omega) (by omega) (fun t ht => by omega)⟩
theorem tl_ybrk {post : Int32 → Prop} {F : Nat → Nat → Int} {a : Nat} (hS : tl_SF F ysu) (ha : a < 10) (hF : ∀ w, 0 ≤ F a w ∧ F a w ≤ 100000000) (K1 : tl_BR ybo F a → post 1) (K0 : ¬ tl_BR ybo F a → post 0) : wpY_isBroken post (yA, yT, yN, yC, yL, ybo, ysu, yki, yid, ynu, yst, yen, yho, yca, ylK, ylI, ylN, ykS, ykT) (nI a) := by
  have ca : (nI a).toNatClampNeg = a := nI_clamp (by omega)
  have c0 : (nI (4 * a)).toNatClampNeg = 4 * a := nI_clamp (by omega)
  have c1 : (nI (4 * a + 1)).toNatClampNeg = 4 * a + 1 := nI_clamp (by omega)
  have c2 : (nI (4 * a + 2)).toNatClampNeg = 4 * a + 2 := nI_clamp (by omega)
  have c3 : (nI (4 * a + 3)).toNatClampNeg = 4 * a + 3 := nI_clamp (by omega)
  have v0 : vp_in (nI (4 * a)) 40 := vp_in_nI (by omega) (by decide)
  have v1 : vp_in (nI (4 * a + 1)) 40 := vp_in_nI (by omega) (by decide)
  have v2 : vp_in (nI (4 * a + 2)) 40 := vp_in_nI (by omega) (by decide)
  have v3 : vp_in (nI (4 * a + 3)) 40 := vp_in_nI (by omega) (by decide)
  have va : vp_in (nI a) 10 := vp_in_nI (by omega) (by decide)
  have s0 : ysu (4 * a) = Int32.ofInt (F a 0) := hS a ha 0 (by decide)
  have s1 : ysu (4 * a + 1) = Int32.ofInt (F a 1) := hS a ha 1 (by decide)
  have s2 : ysu (4 * a + 2) = Int32.ofInt (F a 2) := hS a ha 2 (by decide)
  have s3 : ysu (4 * a + 3) = Int32.ofInt (F a 3) := hS a ha 3 (by decide)
  have f0 := hF 0
  have f1 := hF 1
  have f2 := hF 2
  have f3 := hF 3
  unfold wpY_isBroken wY_isBroken_66
  dsimp only
  rw [tl_j1, tl_j2, tl_j3, tl_j0, ca, c0, c1, c2, c3, s0, s1, s2, s3, ← Int32.ofInt_add, ← Int32.ofInt_add]
  refine ⟨v0, v1, ?_⟩
  rintro _ rfl
  refine ⟨v2, v3, ?_⟩
  rintro _ rfl
  rw [tl_oLt (by omega) (by omega) (by omega) (by omega), tl_oLe (by omega) (by omega) (by omega) (by omega)]
  refine ⟨va, fun e => ⟨v3, fun z => K1 (Or.inl ⟨e, z⟩), fun z => ⟨va, fun e2 => absurd e2 (tl_12 e), fun _ => K0 ?_⟩⟩, fun e => ⟨va, fun e2 => ⟨v1, fun z => K0 ?_, fun z => K1 (Or.inr ⟨e2, by omega⟩)⟩, fun e2 => K0 ?_⟩⟩
  · rintro (⟨_, q⟩ | ⟨q, _⟩)
    · exact z q
    · exact tl_12 e q
  · rintro (⟨q, _⟩ | ⟨_, q⟩)
    · exact e q
    · omega
  · rintro (⟨q, _⟩ | ⟨q, _⟩)
    · exact e q
    · exact e2 q
theorem tl_yacT {post : Int32 → Prop} {A a : Nat} (hA : A ≤ 10) (h : a < A) (K : post 1) : wpY_isAccount post (nI A, yT, yN, yC, yL, ybo, ysu, yki, yid, ynu, yst, yen, yho, yca, ylK, ylI, ylN, ykS, ykT) (nI a) :=
  br_f (nI_pos (by omega)) (br_f (nI_ge h (by omega)) K)
theorem tl_yacF {post : Int32 → Prop} {A : Nat} {p : Int32} (h : p < 0 ∨ nI A ≤ p) (K : post 0) : wpY_isAccount post (nI A, yT, yN, yC, yL, ybo, ysu, yki, yid, ynu, yst, yen, yho, yca, ylK, ylI, ylN, ykS, ykT) p :=
  br_c (fun _ => K) (fun z => br_t (h.resolve_left z) K)
end
section
variable {xA xT xN xH xC xL : Int32} {xbo xsu xid xki xon xtw xam xli xca xst xla xpl xfe xle xne xpe xhp xlI xlK xlO xlT xlA xlL : Nat → Int32}
theorem tl_xacT {post : Int32 → Prop} {A a : Nat} (hA : A ≤ 10) (h : a < A) (K : post 1) : wpX_isAccount post (nI A, xT, xN, xH, xC, xL, xbo, xsu, xid, xki, xon, xtw, xam, xli, xca, xst, xla, xpl, xfe, xle, xne, xpe, xhp, xlI, xlK, xlO, xlT, xlA, xlL) (nI a) :=
  br_f (nI_pos (by omega)) (br_f (nI_ge h (by omega)) K)
theorem tl_xacF {post : Int32 → Prop} {A : Nat} {p : Int32} (h : p < 0 ∨ nI A ≤ p) (K : post 0) : wpX_isAccount post (nI A, xT, xN, xH, xC, xL, xbo, xsu, xid, xki, xon, xtw, xam, xli, xca, xst, xla, xpl, xfe, xle, xne, xpe, xhp, xlI, xlK, xlO, xlT, xlA, xlL) p :=
  br_c (fun _ => K) (fun z => br_t (h.resolve_left z) K)
theorem tl_xslD {post : Int32 → Prop} {F : Nat → Nat → Int} {a : Nat} (hS : tl_SF F xsu) (ha : a < 10) (K : post (Int32.ofInt (tl_sD xbo F a))) : wpX_slack post (xA, xT, xN, xH, xC, xL, xbo, xsu, xid, xki, xon, xtw, xam, xli, xca, xst, xla, xpl, xfe, xle, xne, xpe, xhp, xlI, xlK, xlO, xlT, xlA, xlL) (nI a) 1 := by
  have ca : (nI a).toNatClampNeg = a := nI_clamp (by omega)
  have j0 : (4 : Int32) * nI a + 0 = nI (4 * a) := tl_i4 a 0
  have c0 : (nI (4 * a)).toNatClampNeg = 4 * a := nI_clamp (by omega)
  have c1 : (nI (4 * a + 1)).toNatClampNeg = 4 * a + 1 := nI_clamp (by omega)
  have c3 : (nI (4 * a + 3)).toNatClampNeg = 4 * a + 3 := nI_clamp (by omega)
  have v0 : vp_in (nI (4 * a)) 40 := vp_in_nI (by omega) (by decide)
  have v1 : vp_in (nI (4 * a + 1)) 40 := vp_in_nI (by omega) (by decide)
  have v3 : vp_in (nI (4 * a + 3)) 40 := vp_in_nI (by omega) (by decide)
  have va : vp_in (nI a) 10 := vp_in_nI (by omega) (by decide)
  have s0 : xsu (4 * a) = Int32.ofInt (F a 0) := hS a ha 0 (by decide)
  have s1 : xsu (4 * a + 1) = Int32.ofInt (F a 1) := hS a ha 1 (by decide)
  have s3 : xsu (4 * a + 3) = Int32.ofInt (F a 3) := hS a ha 3 (by decide)
  unfold wpX_slack wX_slack_45
  dsimp only
  rintro _ rfl
  rw [j0, tl_j1, tl_j3, ca, c0, c1, c3, s0, s1, s3, ← Int32.ofInt_sub, ← Int32.ofInt_sub]
  refine br_f (by decide) ⟨va, fun e => ⟨v3, v0, v1, ?_⟩, fun e => br_f (by decide) ?_⟩
  · rw [tl_sD, if_pos e] at K; exact K
  · rw [tl_sD, if_neg e] at K; exact K
theorem tl_xslC {post : Int32 → Prop} {F : Nat → Nat → Int} {a : Nat} (hS : tl_SF F xsu) (ha : a < 10) (K : post (Int32.ofInt (tl_sC xbo F a))) : wpX_slack post (xA, xT, xN, xH, xC, xL, xbo, xsu, xid, xki, xon, xtw, xam, xli, xca, xst, xla, xpl, xfe, xle, xne, xpe, xhp, xlI, xlK, xlO, xlT, xlA, xlL) (nI a) 0 := by
  have ca : (nI a).toNatClampNeg = a := nI_clamp (by omega)
  have c1 : (nI (4 * a + 1)).toNatClampNeg = 4 * a + 1 := nI_clamp (by omega)
  have c2 : (nI (4 * a + 2)).toNatClampNeg = 4 * a + 2 := nI_clamp (by omega)
  have c3 : (nI (4 * a + 3)).toNatClampNeg = 4 * a + 3 := nI_clamp (by omega)
  have v1 : vp_in (nI (4 * a + 1)) 40 := vp_in_nI (by omega) (by decide)
  have v2 : vp_in (nI (4 * a + 2)) 40 := vp_in_nI (by omega) (by decide)
  have v3 : vp_in (nI (4 * a + 3)) 40 := vp_in_nI (by omega) (by decide)
  have va : vp_in (nI a) 10 := vp_in_nI (by omega) (by decide)
  have s1 : xsu (4 * a + 1) = Int32.ofInt (F a 1) := hS a ha 1 (by decide)
  have s2 : xsu (4 * a + 2) = Int32.ofInt (F a 2) := hS a ha 2 (by decide)
  have s3 : xsu (4 * a + 3) = Int32.ofInt (F a 3) := hS a ha 3 (by decide)
  unfold wpX_slack
  dsimp only
  rintro _ rfl
  refine br_t rfl ?_
  unfold wX_slack_45
  rw [tl_j1, tl_j2, tl_j3, ca, c1, c2, c3, s1, s2, s3, ← Int32.ofInt_sub, ← Int32.ofInt_sub]
  refine br_t rfl ⟨va, fun e => ⟨v1, v2, v3, ?_⟩, fun e => ?_⟩
  · rw [tl_sC, if_pos e] at K; exact K
  · rw [tl_sC, if_neg e] at K; exact K
theorem tl_sD_b {bd : Nat → Int32} {F : Nat → Nat → Int} {a : Nat} (hF : ∀ a w, 0 ≤ F a w ∧ F a w ≤ 60000000) : -200000000 ≤ tl_sD bd F a ∧ tl_sD bd F a ≤ 200000000 := by
  unfold tl_sD
  have f0 := hF a 0
  have f1 := hF a 1
  have f3 := hF a 3
  split <;> omega
theorem tl_sC_b {bd : Nat → Int32} {F : Nat → Nat → Int} {a : Nat} (hF : ∀ a w, 0 ≤ F a w ∧ F a w ≤ 60000000) : -200000000 ≤ tl_sC bd F a ∧ tl_sC bd F a ≤ 200000000 := by
  unfold tl_sC
  have f0 := hF a 1
  have f1 := hF a 2
  have f3 := hF a 3
  split <;> omega
variable {yA yT yN yC yL : Int32} {ybo ysu yki yid ynu yst yen yho yca ylK ylI ylN ykS ykT : Nat → Int32}
/-- a move or a hold that passes -/
def tl_OM (A : Nat) (bd : Nat → Int32) (F : Nat → Nat → Int) (p0 p1 p2 p3 p4 : Int32) (a b m : Nat) : Prop :=
  a < A ∧ b < A ∧ a ≠ b ∧ p1 = nI a ∧ p2 = nI b ∧ 1 ≤ m ∧ m ≤ 1000000 ∧ p3 = nI m ∧ (p0 = 1 → ∃ q : Nat, q ≤ 1000 ∧ p4 = nI q) ∧ (m : Int) ≤ tl_sD bd F a ∧ (m : Int) ≤ tl_sC bd F b
theorem tl_omv {A : Nat} {bd : Nat → Int32} {F : Nat → Nat → Int} {p0 p1 p2 p3 p4 : Int32} (hA : A ≤ 10) (hF : ∀ a w, 0 ≤ F a w ∧ F a w ≤ 60000000) (hN : tl_NB A bd F) (hp : p0 = 0 ∨ p0 = 1) :
    (∃ r : Int32, r < 0 ∧ (∀ {xT xN xH xC xL : Int32} {xsu xid xki xon xtw xam xli xca xst xla xpl xfe xle xne xpe xhp xlI xlK xlO xlT xlA xlL : Nat → Int32}, tl_SF F xsu → ∀ post : Int32 → Prop, post r → wpX_moveRefusal post (nI A, xT, xN, xH, xC, xL, bd, xsu, xid, xki, xon, xtw, xam, xli, xca, xst, xla, xpl, xfe, xle, xne, xpe, xhp, xlI, xlK, xlO, xlT, xlA, xlL) p0 p1 p2 p3 p4) ∧ (∀ {yT yN yC yL : Int32} {ysu yki yid ynu yst yen yho yca ylK ylI ylN ykS ykT : Nat → Int32}, tl_SF F ysu → ∀ post : Int32 → SY → Prop, (∀ su, tl_SF F su → post r (nI A, yT, yN, yC, yL, bd, su, yki, yid, ynu, yst, yen, yho, yca, ylK, ylI, ylN, ykS, ykT)) → wpY_doAmount post (nI A, yT, yN, yC, yL, bd, ysu, yki, yid, ynu, yst, yen, yho, yca, ylK, ylI, ylN, ykS, ykT) p0 p1 p2 p3 p4)) ∨
    (∃ a b m : Nat, tl_OM A bd F p0 p1 p2 p3 p4 a b m ∧ (∀ {xT xN xH xC xL : Int32} {xsu xid xki xon xtw xam xli xca xst xla xpl xfe xle xne xpe xhp xlI xlK xlO xlT xlA xlL : Nat → Int32}, tl_SF F xsu → ∀ post : Int32 → Prop, post 0 → wpX_moveRefusal post (nI A, xT, xN, xH, xC, xL, bd, xsu, xid, xki, xon, xtw, xam, xli, xca, xst, xla, xpl, xfe, xle, xne, xpe, xhp, xlI, xlK, xlO, xlT, xlA, xlL) p0 p1 p2 p3 p4) ∧
      (∀ {yT yN yC yL : Int32} {ysu yki yid ynu yst yen yho yca ylK ylI ylN ykS ykT : Nat → Int32}, tl_SF F ysu → ∀ post : Int32 → SY → Prop, (∀ su, tl_SF (fun x w => F x w + tl_dl (if p0 = 0 then 1 else 0) (nI a) (nI b) m x w) su → post 1 (nI A, yT, yN, yC, yL, bd, su, yki, yid, ynu, yst, yen, yho, yca, ylK, ylI, ylN, ykS, ykT)) → wpY_doAmount post (nI A, yT, yN, yC, yL, bd, ysu, yki, yid, ynu, yst, yen, yho, yca, ylK, ylI, ylN, ykS, ykT) p0 p1 p2 p3 p4)) := by
  rcases tl_acd p1 hA with n1 | ⟨a, ha, e1⟩
  · refine Or.inl ⟨-5, by decide, fun hSX post K => ?_, fun hSY post K => ?_⟩
    · unfold wpX_moveRefusal; exact tl_xacF n1 (br_t rfl K)
    · unfold wpY_doAmount; exact tl_yacF n1 (br_t rfl (K _ hSY))
  rcases tl_acd p2 hA with n2 | ⟨b, hb, e2⟩
  · refine Or.inl ⟨-5, by decide, fun hSX post K => ?_, fun hSY post K => ?_⟩
    · rw [e1]; unfold wpX_moveRefusal; exact tl_xacT hA ha (br_f (by decide) (tl_xacF n2 (br_t rfl K)))
    · rw [e1]; unfold wpY_doAmount; exact tl_yacT hA ha (br_f (by decide) (tl_yacF n2 (br_t rfl (K _ hSY))))
  subst e1 e2
  by_cases hab : a = b
  · refine Or.inl ⟨-6, by decide, fun hSX post K => ?_, fun hSY post K => ?_⟩
    · unfold wpX_moveRefusal; exact tl_xacT hA ha (br_f (by decide) (tl_xacT hA hb (br_f (by decide) (br_t (by rw [hab]) K))))
    · unfold wpY_doAmount; exact tl_yacT hA ha (br_f (by decide) (tl_yacT hA hb (br_f (by decide) (br_t (by rw [hab]) (K _ hSY)))))
  have hne : ¬ (nI a : Int32) = nI b := tl_ne (by omega) (by omega) hab
  by_cases g1 : p3 < 1
  · refine Or.inl ⟨-7, by decide, fun hSX post K => ?_, fun hSY post K => ?_⟩
    · unfold wpX_moveRefusal; exact tl_xacT hA ha (br_f (by decide) (tl_xacT hA hb (br_f (by decide) (br_f hne (br_t g1 K)))))
    · unfold wpY_doAmount; exact tl_yacT hA ha (br_f (by decide) (tl_yacT hA hb (br_f (by decide) (br_f hne (br_t g1 (K _ hSY))))))
  by_cases g2 : p3 ≤ 1000000
  rotate_left
  · refine Or.inl ⟨-7, by decide, fun hSX post K => ?_, fun hSY post K => ?_⟩
    · unfold wpX_moveRefusal; exact tl_xacT hA ha (br_f (by decide) (tl_xacT hA hb (br_f (by decide) (br_f hne (br_f g1 (br_f g2 K))))))
    · unfold wpY_doAmount; exact tl_yacT hA ha (br_f (by decide) (tl_yacT hA hb (br_f (by decide) (br_f hne (br_f g1 (br_f g2 (K _ hSY)))))))
  obtain ⟨m, hm1, hm2, em⟩ := tl_rng g1 g2
  have life : (p0 = 1 ∧ (p4 < 0 ∨ (¬ p4 < 0 ∧ ¬ p4 ≤ 1000))) ∨ (p0 = 1 → ¬ p4 < 0 ∧ p4 ≤ 1000) := by
    by_cases z : p0 = 1
    · by_cases z1 : p4 < 0
      · exact Or.inl ⟨z, Or.inl z1⟩
      · by_cases z2 : p4 ≤ 1000
        · exact Or.inr (fun _ => ⟨z1, z2⟩)
        · exact Or.inl ⟨z, Or.inr ⟨z1, z2⟩⟩
    · exact Or.inr (fun q => absurd q z)
  rcases life with ⟨z, zl⟩ | zl
  · refine Or.inl ⟨-9, by decide, fun hSX post K => ?_, fun hSY post K => ?_⟩
    · unfold wpX_moveRefusal; exact tl_xacT hA ha (br_f (by decide) (tl_xacT hA hb (br_f (by decide) (br_f hne (br_f g1 (br_t g2 (br_t z (br_c (fun _ => K) (fun q => br_f (zl.resolve_left q).2 K)))))))))
    · unfold wpY_doAmount; exact tl_yacT hA ha (br_f (by decide) (tl_yacT hA hb (br_f (by decide) (br_f hne (br_f g1 (br_t g2 (br_t z (br_c (fun _ => K _ hSY) (fun q => br_f (zl.resolve_left q).2 (K _ hSY))))))))))
  have toX : ∀ {xT xN xH xC xL : Int32} {xsu xid xki xon xtw xam xli xca xst xla xpl xfe xle xne xpe xhp xlI xlK xlO xlT xlA xlL : Nat → Int32} (post : Int32 → Prop), wX_moveRefusal_64 post (nI a) (nI b) p3 (nI A) xT xN xH xC xL bd xsu xid xki xon xtw xam xli xca xst xla xpl xfe xle xne xpe xhp xlI xlK xlO xlT xlA xlL → wpX_moveRefusal post (nI A, xT, xN, xH, xC, xL, bd, xsu, xid, xki, xon, xtw, xam, xli, xca, xst, xla, xpl, xfe, xle, xne, xpe, xhp, xlI, xlK, xlO, xlT, xlA, xlL) p0 (nI a) (nI b) p3 p4 := fun post K => by
    unfold wpX_moveRefusal
    exact tl_xacT hA ha (br_f (by decide) (tl_xacT hA hb (br_f (by decide) (br_f hne (br_f g1 (br_t g2 (br_c (fun z => br_f (zl z).1 (br_t (zl z).2 K)) (fun _ => K))))))))
  have toY : ∀ {yT yN yC yL : Int32} {ysu yki yid ynu yst yen yho yca ylK ylI ylN ykS ykT : Nat → Int32} (post : Int32 → SY → Prop), wY_doAmount_64 post p0 (nI a) (nI b) p3 (nI A) yT yN yC yL bd ysu yki yid ynu yst yen yho yca ylK ylI ylN ykS ykT → wpY_doAmount post (nI A, yT, yN, yC, yL, bd, ysu, yki, yid, ynu, yst, yen, yho, yca, ylK, ylI, ylN, ykS, ykT) p0 (nI a) (nI b) p3 p4 := fun post K => by
    unfold wpY_doAmount
    exact tl_yacT hA ha (br_f (by decide) (tl_yacT hA hb (br_f (by decide) (br_f hne (br_f g1 (br_t g2 (br_c (fun z => br_f (zl z).1 (br_t (zl z).2 K)) (fun _ => K))))))))
  have toX2 : ∀ {xT xN xH xC xL : Int32} {xsu xid xki xon xtw xam xli xca xst xla xpl xfe xle xne xpe xhp xlI xlK xlO xlT xlA xlL : Nat → Int32}, tl_SF F xsu → ∀ post : Int32 → Prop, (((m : Int) ≤ tl_sD bd F a ∧ (m : Int) ≤ tl_sC bd F b) → post 0) → (¬ ((m : Int) ≤ tl_sD bd F a ∧ (m : Int) ≤ tl_sC bd F b) → post (-8)) → wX_moveRefusal_64 post (nI a) (nI b) p3 (nI A) xT xN xH xC xL bd xsu xid xki xon xtw xam xli xca xst xla xpl xfe xle xne xpe xhp xlI xlK xlO xlT xlA xlL := fun hSX post K0 K8 => by
    have b1 := tl_sD_b (bd := bd) (a := a) hF
    have b2 := tl_sC_b (bd := bd) (a := b) hF
    unfold wX_moveRefusal_64
    refine tl_xslD hSX (by omega) (tl_xslC hSX (by omega) ?_)
    rw [em, tl_nO m, tl_oLt (by omega) (by omega) (by omega) (by omega), tl_oLe (by omega) (by omega) (by omega) (by omega)]
    exact br_c (fun z => K8 (fun q => by omega)) (fun z => br_c (fun z2 => K0 ⟨by omega, z2⟩) (fun z2 => K8 (fun q => z2 q.2)))
  have toY2 : ∀ {yT yN yC yL : Int32} {ysu yki yid ynu yst yen yho yca ylK ylI ylN ykS ykT : Nat → Int32}, tl_SF F ysu → ∀ (post : Int32 → SY → Prop) (w0 : Nat), (w0 = 0 ∨ w0 = 1) → (((m : Int) ≤ tl_sD bd F a ∧ (m : Int) ≤ tl_sC bd F b) → ∀ su, tl_SF (fun x w => F x w + tl_dl w0 (nI a) (nI b) m x w) su → post 1 (nI A, yT, yN, yC, yL, bd, su, yki, yid, ynu, yst, yen, yho, yca, ylK, ylI, ylN, ykS, ykT)) → (¬ ((m : Int) ≤ tl_sD bd F a ∧ (m : Int) ≤ tl_sC bd F b) → ∀ su, tl_SF F su → post (-8) (nI A, yT, yN, yC, yL, bd, su, yki, yid, ynu, yst, yen, yho, yca, ylK, ylI, ylN, ykS, ykT)) →
      wY_doAmount_73 post (nI a) (nI b) p3 (nI w0) (nI A) yT yN yC yL bd ysu yki yid ynu yst yen yho yca ylK ylI ylN ykS ykT := by
    intro yT yN yC yL ysu yki yid ynu yst yen yho yca ylK ylI ylN ykS ykT hSY post w0 hw K1 K8
    have hbr := tl_br hA hN ha hb hab hw (m := m) (by omega) (by omega)
    have hS1 : tl_SF (fun x w => F x w + tl_dl w0 (nI a) (nI b) m x w) (tl_ad ysu a b w0 p3) := tl_SF_ad hSY (by omega) (by omega) (by omega) (by rw [em]; exact tl_nO m)
    have hS2 : tl_SF F (tl_ad (tl_ad ysu a b w0 p3) a b w0 (-p3)) := by
      refine tl_SF_c (tl_SF_ad (xi := -(m : Int)) hS1 (by omega) (by omega) (by omega) (by rw [em, Int32.ofInt_neg, tl_nO m])) (fun x y _ _ => ?_)
      rw [tl_dl_neg]; omega
    have hF1 : ∀ x w, 0 ≤ F x w + tl_dl w0 (nI a) (nI b) m x w ∧ F x w + tl_dl w0 (nI a) (nI b) m x w ≤ 100000000 := fun x w => by
      have f := hF x w
      have g := tl_dl_b (w0 := w0) (d := nI a) (c := nI b) (x := (m : Int)) (M := 1000000) x w (by omega) (by omega)
      omega
    have bad : ¬ ((m : Int) ≤ tl_sD bd F a ∧ (m : Int) ≤ tl_sC bd F b) → wY_doAmount_101 post (nI a) (nI b) p3 (nI w0) (nI A) yT yN yC yL bd (tl_ad ysu a b w0 p3) yki yid ynu yst yen yho yca ylK ylI ylN ykS ykT := fun z => by
      unfold wY_doAmount_101
      exact tl_yadd rfl rfl (by omega) (by omega) (by omega) (K8 z _ hS2)
    unfold wY_doAmount_73
    refine tl_yadd rfl rfl (by omega) (by omega) (by omega) ?_
    refine tl_ybrk hS1 (by omega) (hF1 a) (fun z => ?_) (fun z => ?_)
    · exact br_f (by decide) (bad (fun q => (hbr.mpr q).1 z))
    · refine br_t rfl ?_
      refine tl_ybrk hS1 (by omega) (hF1 b) (fun z2 => ?_) (fun z2 => ?_)
      · exact br_f (by decide) (bad (fun q => (hbr.mpr q).2 z2))
      · exact br_t rfl (K1 (hbr.mp ⟨z, z2⟩) _ hS1)
  by_cases ok : (m : Int) ≤ tl_sD bd F a ∧ (m : Int) ≤ tl_sC bd F b
  · refine Or.inr ⟨a, b, m, ⟨ha, hb, hab, rfl, rfl, hm1, hm2, em, fun z => tl_rng0 (zl z).1 (zl z).2, ok.1, ok.2⟩, fun hSX post K => toX post (toX2 hSX post (fun _ => K) (fun z => absurd ok z)), fun hSY post K => toY post ?_⟩
    unfold wY_doAmount_64
    refine br_c (fun z => toY2 hSY post 1 (Or.inr rfl) (fun _ su hs => K su ?_) (fun z => absurd ok z)) (fun z => toY2 hSY post 0 (Or.inl rfl) (fun _ su hs => K su ?_) (fun z => absurd ok z))
    · rw [if_pos z]; exact hs
    · rw [if_neg z]; exact hs
  · refine Or.inl ⟨-8, by decide, fun hSX post K => toX post (toX2 hSX post (fun z => absurd z ok) (fun _ => K)), fun hSY post K => toY post ?_⟩
    unfold wY_doAmount_64
    exact br_c (fun z => toY2 hSY post 1 (Or.inr rfl) (fun z => absurd z ok) (fun _ => K)) (fun z => toY2 hSY post 0 (Or.inl rfl) (fun z => absurd z ok) (fun _ => K))
end
end
section
/-! takes and releases; the whole outcome of one transfer on both sides -/
theorem tl_WF_V {A T : Nat} {tr : Nat → Nat → Int32} {t : Nat} {w : Nat → Int32} (h : tl_V A T tr t w) : tl_WF w := by
  obtain ⟨_, _, h | h | h | h⟩ := h
  · exact Or.inl ⟨h.1, h.2.2.1⟩
  · exact Or.inr (Or.inl h.1)
  · exact Or.inr (Or.inr (Or.inl ⟨h.1, h.2.1, h.2.2.1⟩))
  · exact Or.inr (Or.inr (Or.inr ⟨h.1, h.2.1, h.2.2.1, h.2.2.2.1⟩))
theorem tl_n1_2 {w : Nat → Int32} (h : w 1 = 2) : tl_n1 w = w 4 := if_pos h
theorem tl_n1_n {w : Nat → Int32} (h : ¬ w 1 = 2) : tl_n1 w = w 3 := if_neg h
theorem tl_n2_2 {w : Nat → Int32} (h : w 1 = 2) : tl_n2 w = 0 := if_pos h
theorem tl_n2_n {w : Nat → Int32} (h : ¬ w 1 = 2) : tl_n2 w = w 4 := if_neg h
def tl_SA (q w : Nat → Int32) : Prop := q 1 = w 1 ∧ q 2 = w 2 ∧ q 3 = w 3 ∧ q 4 = w 4 ∧ q 5 = w 5
theorem tl_same {q w : Nat → Int32} (hq : tl_WF q) (hw : tl_WF w) : (q 1 = w 1 ∧ q 2 = w 2 ∧ tl_n1 q = tl_n1 w ∧ tl_n2 q = tl_n2 w ∧ q 5 = w 5) ↔ tl_SA q w := by
  have z3 : ∀ x : Nat → Int32, tl_WF x → x 1 = 2 → x 3 = 0 := by
    rintro x (h | h | h | h) e
    · rw [h.1] at e; exact absurd e (by decide)
    · rw [h] at e; exact absurd e (by decide)
    · exact h.2.1
    · rw [h.1] at e; exact absurd e (by decide)
  unfold tl_SA
  constructor
  · rintro ⟨a, b, c, d, e⟩
    by_cases k : w 1 = 2
    · have k' : q 1 = 2 := a.trans k
      rw [tl_n1_2 k, tl_n1_2 k'] at c
      exact ⟨a, b, by rw [z3 q hq k', z3 w hw k], c, e⟩
    · have k' : ¬ q 1 = 2 := fun z => k (a.symm.trans z)
      rw [tl_n1_n k, tl_n1_n k'] at c
      rw [tl_n2_n k, tl_n2_n k'] at d
      exact ⟨a, b, c, d, e⟩
  · rintro ⟨a, b, c, d, e⟩
    by_cases k : w 1 = 2
    · have k' : q 1 = 2 := a.trans k
      rw [tl_n1_2 k, tl_n1_2 k', tl_n2_2 k, tl_n2_2 k']
      exact ⟨a, b, d, rfl, e⟩
    · have k' : ¬ q 1 = 2 := fun z => k (a.symm.trans z)
      rw [tl_n1_n k, tl_n1_n k', tl_n2_n k, tl_n2_n k']
      exact ⟨a, b, c, d, e⟩
section
variable {xA xT xN xH xC xL : Int32} {xbo xsu xid xki xon xtw xam xli xca xst xla xpl xfe xle xne xpe xhp xlI xlK xlO xlT xlA xlL : Nat → Int32}
theorem tl_xsame {post : Int32 → Prop} {t : Nat} {q w : Nat → Int32} (ht : t < 60) (e1 : xki t = q 1) (e2 : xon t = q 2) (e3 : xtw t = q 3) (e4 : xam t = q 4) (e5 : xli t = q 5) (K1 : tl_SA q w → post 1) (K0 : ¬ tl_SA q w → post 0) : wpX_isSame post (xA, xT, xN, xH, xC, xL, xbo, xsu, xid, xki, xon, xtw, xam, xli, xca, xst, xla, xpl, xfe, xle, xne, xpe, xhp, xlI, xlK, xlO, xlT, xlA, xlL) (nI t) (w 1) (w 2) (w 3) (w 4) (w 5) := by
  have v : vp_in (nI t) 60 := vp_in_nI ht (by decide)
  have c : (nI t).toNatClampNeg = t := nI_clamp (by omega)
  unfold wpX_isSame
  dsimp only
  rw [c, e1, e2, e3, e4, e5]
  exact ⟨v, fun h1 => ⟨v, fun h2 => ⟨v, fun h3 => ⟨v, fun h4 => ⟨v, fun h5 => K1 ⟨h1, h2, h3, h4, h5⟩, fun h => K0 (fun z => h z.2.2.2.2)⟩, fun h => K0 (fun z => h z.2.2.2.1)⟩, fun h => K0 (fun z => h z.2.2.1)⟩, fun h => K0 (fun z => h z.2.1)⟩, fun h => K0 (fun z => h z.1)⟩
end
section
variable {yA yT yN yC yL : Int32} {ybo ysu yki yid ynu yst yen yho yca ylK ylI ylN ykS ykT : Nat → Int32}
theorem tl_ysame {post : Int32 → Prop} {t : Nat} {q w : Nat → Int32} (hq : tl_WF q) (hw : tl_WF w) (ht : t < 60) (e1 : yki t = q 1) (e2 : ynu (4 * t) = q 2) (e3 : ynu (4 * t + 1) = tl_n1 q) (e4 : ynu (4 * t + 2) = tl_n2 q) (e5 : ynu (4 * t + 3) = q 5) (K1 : tl_SA q w → post 1) (K0 : ¬ tl_SA q w → post 0) : wpY_isSame post (yA, yT, yN, yC, yL, ybo, ysu, yki, yid, ynu, yst, yen, yho, yca, ylK, ylI, ylN, ykS, ykT) (nI t) (w 1) (w 2) (tl_n1 w) (tl_n2 w) (w 5) := by
  have v : vp_in (nI t) 60 := vp_in_nI ht (by decide)
  have c : (nI t).toNatClampNeg = t := nI_clamp (by omega)
  have v0 : vp_in (nI (4 * t)) 240 := vp_in_nI (by omega) (by decide)
  have v1 : vp_in (nI (4 * t + 1)) 240 := vp_in_nI (by omega) (by decide)
  have v2 : vp_in (nI (4 * t + 2)) 240 := vp_in_nI (by omega) (by decide)
  have v3 : vp_in (nI (4 * t + 3)) 240 := vp_in_nI (by omega) (by decide)
  have c0 : (nI (4 * t)).toNatClampNeg = 4 * t := nI_clamp (by omega)
  have c1 : (nI (4 * t + 1)).toNatClampNeg = 4 * t + 1 := nI_clamp (by omega)
  have c2 : (nI (4 * t + 2)).toNatClampNeg = 4 * t + 2 := nI_clamp (by omega)
  have c3 : (nI (4 * t + 3)).toNatClampNeg = 4 * t + 3 := nI_clamp (by omega)
  rw [← tl_same hq hw] at K0 K1
  unfold wpY_isSame
  dsimp only
  rw [tl_j1, tl_j2, tl_j3, tl_j0, c, c0, c1, c2, c3, e1, e2, e3, e4, e5]
  exact ⟨v, fun h1 => ⟨v0, fun h2 => ⟨v1, fun h3 => ⟨v2, fun h4 => ⟨v3, fun h5 => K1 ⟨h1, h2, h3, h4, h5⟩, fun h => K0 (fun z => h z.2.2.2.2)⟩, fun h => K0 (fun z => h z.2.2.2.1)⟩, fun h => K0 (fun z => h z.2.2.1)⟩, fun h => K0 (fun z => h z.2.1)⟩, fun h => K0 (fun z => h z.1)⟩
theorem tl_ytail {post : Int32 → SY → Prop} {n T : Nat} {w w' : Nat → Int32} (hn : n < 60) (e1 : w' 1 = w 1) (e5 : w' 5 = w 5) (e6 : w 1 = 1 → w' 6 = nI T + w 5)
    (K : post 1 (yA, nI T, nI (n + 1), yC, yL, ybo, ysu, upd yki n (w 1), upd yid n (w 0), upd (upd (upd (upd ynu (4 * n) (w 2)) (4 * n + 1) (tl_n1 w)) (4 * n + 2) (tl_n2 w)) (4 * n + 3) (w 5), upd yst n 0, upd yen n (tl_wt w'), yho, yca, ylK, ylI, ylN, ykS, ykT)) :
    wY_doTransfer_89 post (w 1) (w 0) (w 2) (tl_n1 w) (tl_n2 w) (w 5) 1 yA (nI T) (nI n) yC yL ybo ysu yki yid ynu yst yen yho yca ylK ylI ylN ykS ykT := by
  have v : vp_in (nI n) 60 := vp_in_nI hn (by decide)
  have c : (nI n).toNatClampNeg = n := nI_clamp (by omega)
  have v0 : vp_in (nI (4 * n)) 240 := vp_in_nI (by omega) (by decide)
  have v1 : vp_in (nI (4 * n + 1)) 240 := vp_in_nI (by omega) (by decide)
  have v2 : vp_in (nI (4 * n + 2)) 240 := vp_in_nI (by omega) (by decide)
  have v3 : vp_in (nI (4 * n + 3)) 240 := vp_in_nI (by omega) (by decide)
  have c0 : (nI (4 * n)).toNatClampNeg = 4 * n := nI_clamp (by omega)
  have c1 : (nI (4 * n + 1)).toNatClampNeg = 4 * n + 1 := nI_clamp (by omega)
  have c2 : (nI (4 * n + 2)).toNatClampNeg = 4 * n + 2 := nI_clamp (by omega)
  have c3 : (nI (4 * n + 3)).toNatClampNeg = 4 * n + 3 := nI_clamp (by omega)
  unfold tl_wt at K
  rw [e1, e5] at K
  unfold wY_doTransfer_89 wY_doTransfer_214 wY_doTransfer_215
  rw [tl_j1, tl_j2, tl_j3, tl_j0, c, c0, c1, c2, c3, nI_1 n]
  refine br_t (by decide) ⟨v, ?_⟩
  rintro _ rfl
  refine ⟨v, ?_⟩
  rintro _ rfl
  refine ⟨v0, ?_⟩
  rintro _ rfl
  refine ⟨v1, ?_⟩
  rintro _ rfl
  refine ⟨v2, ?_⟩
  rintro _ rfl
  refine ⟨v3, ?_⟩
  rintro _ rfl
  refine ⟨v, ?_⟩
  rintro _ rfl
  refine br_c (fun k => br_c (fun k5 => ?_) (fun k5 => ?_)) (fun k => ?_)
  · rw [if_neg (fun z => z.2 k5)] at K
    refine ⟨v, ?_⟩
    rintro _ rfl _ rfl
    exact K
  · rw [if_pos ⟨k, k5⟩, e6 k] at K
    refine ⟨v, ?_⟩
    rintro _ rfl _ rfl
    exact K
  · rw [if_neg (fun z => k z.1)] at K
    refine ⟨v, ?_⟩
    rintro _ rfl _ rfl
    exact K
end
theorem tl_ohd {A T n : Nat} {tr : Nat → Nat → Int32} {st : Nat → Int32} {F : Nat → Nat → Int} {p0 p1 p2 q : Int32} (hA : A ≤ 10) (hn : n < 60) (hV : tl_Vs A T tr n) (hSS : tl_SS n st) (hp : (p0 = 2 ∧ q = p2) ∨ (p0 = 3 ∧ q = 0)) :
    (∃ r : Int32, r < 0 ∧ (∀ {xA xT xN xH xC xL : Int32} {xbo xsu xid xki xon xtw xam xli xca xst xla xpl xfe xle xne xpe xhp xlI xlK xlO xlT xlA xlL : Nat → Int32}, tl_XB n tr st xid xki xon xtw xam xli xca xst xla → tl_PL n tr xpl → ∀ post : Int32 → Prop, post r → wpX_holdRefusal post (xA, xT, xN, xH, xC, xL, xbo, xsu, xid, xki, xon, xtw, xam, xli, xca, xst, xla, xpl, xfe, xle, xne, xpe, xhp, xlI, xlK, xlO, xlT, xlA, xlL) p0 p1 p2) ∧
      (∀ {yA yT yC yL : Int32} {ybo ysu yki yid ynu yst yen yho yca ylK ylI ylN ykS ykT : Nat → Int32}, tl_YB n tr st yki yid ynu yst yen yho yca → tl_SF F ysu → ∀ post : Int32 → SY → Prop, post r (yA, yT, nI n, yC, yL, ybo, ysu, yki, yid, ynu, yst, yen, yho, yca, ylK, ylI, ylN, ykS, ykT) → wpY_doHeld post (yA, yT, nI n, yC, yL, ybo, ysu, yki, yid, ynu, yst, yen, yho, yca, ylK, ylI, ylN, ykS, ykT) p0 p1 q)) ∨
    (∃ h j a b : Nat, h < n ∧ j < 100 ∧ a < A ∧ b < A ∧ p1 = nI j ∧ tl_LS (fun t => tr t 0) n (nI j) = nI h ∧ tr h 0 = p1 ∧ tr h 1 = 1 ∧ st h = 0 ∧ tr h 2 = nI a ∧ tr h 3 = nI b ∧ (p0 = 2 → ∃ m : Nat, p2 = nI m ∧ (m : Int) ≤ (tr h 4).toInt) ∧
      (∀ {xA xT xN xH xC xL : Int32} {xbo xsu xid xki xon xtw xam xli xca xst xla xpl xfe xle xne xpe xhp xlI xlK xlO xlT xlA xlL : Nat → Int32}, tl_XB n tr st xid xki xon xtw xam xli xca xst xla → tl_PL n tr xpl → ∀ post : Int32 → Prop, post 0 → wpX_holdRefusal post (xA, xT, xN, xH, xC, xL, xbo, xsu, xid, xki, xon, xtw, xam, xli, xca, xst, xla, xpl, xfe, xle, xne, xpe, xhp, xlI, xlK, xlO, xlT, xlA, xlL) p0 p1 p2) ∧
      (p0 = 2 → ∀ {yA yT yC yL : Int32} {ybo ysu yki yid ynu yst yen yho yca ylK ylI ylN ykS ykT : Nat → Int32}, tl_YB n tr st yki yid ynu yst yen yho yca → tl_SF F ysu → ∀ post : Int32 → SY → Prop, (∀ su, tl_SF (fun x y => F x y - tl_dl 0 (tr h 2) (tr h 3) (tr h 4).toInt x y + tl_dl 1 (tr h 2) (tr h 3) (if q = 0 then tr h 4 else q).toInt x y) su → post 1 (yA, yT, nI n, yC, yL, ybo, su, yki, yid, ynu, upd yst h 1, yen, upd yho n (nI h), upd yca n (if q = 0 then tr h 4 else q), ylK, ylI, ylN, ykS, ykT)) → wpY_doHeld post (yA, yT, nI n, yC, yL, ybo, ysu, yki, yid, ynu, yst, yen, yho, yca, ylK, ylI, ylN, ykS, ykT) p0 p1 q) ∧
      (p0 = 3 → ∀ {yA yT yC yL : Int32} {ybo ysu yki yid ynu yst yen yho yca ylK ylI ylN ykS ykT : Nat → Int32}, tl_YB n tr st yki yid ynu yst yen yho yca → tl_SF F ysu → ∀ post : Int32 → SY → Prop, (∀ su, tl_SF (fun x y => F x y - tl_dl 0 (tr h 2) (tr h 3) (tr h 4).toInt x y) su → post 1 (yA, yT, nI n, yC, yL, ybo, su, yki, yid, ynu, upd yst h 2, yen, upd yho n (nI h), upd yca n (if q = 0 then tr h 4 else q), ylK, ylI, ylN, ykS, ykT)) → wpY_doHeld post (yA, yT, nI n, yC, yL, ybo, ysu, yki, yid, ynu, yst, yen, yho, yca, ylK, ylI, ylN, ykS, ykT) p0 p1 q)) := by
  have hid : ∀ {ki id nu s en ho ca : Nat → Int32}, tl_YB n tr st ki id nu s en ho ca → ∀ t, t < n → id t = tr t 0 := fun hY t ht => (hY t ht).1.2.1
  have xin : ∀ {xA xT xN xH xC xL : Int32} {xbo xsu xid xki xon xtw xam xli xca xst xla xpl xfe xle xne xpe xhp xlI xlK xlO xlT xlA xlL : Nat → Int32}, tl_PL n tr xpl → ∀ (z : Int32) (post : Int32 → Prop), tl_LS (fun t => tr t 0) n p1 = z → wX_holdRefusal_20 post p0 p2 z xA xT xN xH xC xL xbo xsu xid xki xon xtw xam xli xca xst xla xpl xfe xle xne xpe xhp xlI xlK xlO xlT xlA xlL → wpX_holdRefusal post (xA, xT, xN, xH, xC, xL, xbo, xsu, xid, xki, xon, xtw, xam, xli, xca, xst, xla, xpl, xfe, xle, xne, xpe, xhp, xlI, xlK, xlO, xlT, xlA, xlL) p0 p1 p2 := by
    intro xA xT xN xH xC xL xbo xsu xid xki xon xtw xam xli xca xst xla xpl xfe xle xne xpe xhp xlI xlK xlO xlT xlA xlL hP z post hz K
    unfold wpX_holdRefusal wX_holdRefusal_10
    dsimp only
    rcases pk_ix p1 (n := 100) (by decide) with h | h | ⟨j, hj, e⟩
    · have : z = -1 := by
        rw [← hz]
        refine tl_LS_no (fun t ht e => ?_)
        obtain ⟨⟨i, hi, ei⟩, _⟩ := hV t ht
        rw [← e] at h
        exact nI_pos (show i < 2 ^ 31 by omega) (by rw [← ei]; exact h)
      rw [this] at K
      exact br_t h K
    · have : z = -1 := by
        rw [← hz]
        refine tl_LS_no (fun t ht e => ?_)
        obtain ⟨⟨i, hi, ei⟩, _⟩ := hV t ht
        rw [← e] at h
        exact nI_ge (show i < 100 by omega) (by decide) (by rw [← ei]; exact h)
      rw [this] at K
      exact br_c (fun _ => K) (fun _ => br_f (Int32.not_lt.mpr h) K)
    · have cj : p1.toNatClampNeg = j := by rw [e]; exact nI_clamp (by omega)
      have vj : vp_in p1 100 := by rw [e]; exact vp_in_nI hj (by decide)
      have : xpl j = z := by rw [hP j hj, ← e]; exact hz
      rw [cj, this]
      exact br_f (by rw [e]; exact nI_pos (by omega)) (br_t (by rw [e]; exact nI_lt hj (by decide)) ⟨vj, K⟩)
  rcases tl_LS_sp (fun t => tr t 0) p1 n with ⟨hz, _⟩ | ⟨h, hh, hz, eh, _⟩
  · refine Or.inl ⟨-10, by decide, fun hX hP post K => xin hP _ post hz ?_, fun hY hSY post K => ?_⟩
    · unfold wX_holdRefusal_20; exact br_t (by decide) K
    · unfold wpY_doHeld
      refine tl_yfind (by omega) hV (hid hY) ?_
      rw [hz]
      exact br_t (by decide) K
  have vh : vp_in (nI h) 60 := vp_in_nI (by omega) (by decide)
  have ch : (nI h).toNatClampNeg = h := nI_clamp (by omega)
  have ph : ¬ nI h < 0 := nI_pos (by omega)
  by_cases k1 : tr h 1 = 1
  rotate_left
  · refine Or.inl ⟨-10, by decide, fun hX hP post K => xin hP _ post hz ?_, fun hY hSY post K => ?_⟩
    · obtain ⟨⟨_, x1, _, _, x4, _, _, xs⟩, _⟩ := hX h hh
      unfold wX_holdRefusal_20; rw [ch, x1]; exact br_f ph ⟨vh, br_f k1 K⟩
    · obtain ⟨⟨y1, _, y20, y21, y22, _, ys⟩, _⟩ := hY h hh
      unfold wpY_doHeld
      refine tl_yfind (by omega) hV (hid hY) ?_
      rw [hz, ch, y1]
      exact br_f ph ⟨vh, br_f k1 K⟩
  by_cases s0 : st h = 0
  rotate_left
  · have hr : (-10 : Int32) - st h < 0 := by
      rcases hSS h hh with z | z | z | z
      · exact absurd z s0
      · rw [z]; decide
      · rw [z]; decide
      · rw [z]; decide
    refine Or.inl ⟨-10 - st h, hr, fun hX hP post K => xin hP _ post hz ?_, fun hY hSY post K => ?_⟩
    · obtain ⟨⟨_, x1, _, _, x4, _, _, xs⟩, _⟩ := hX h hh
      unfold wX_holdRefusal_20; rw [ch, x1, xs]; exact br_f ph ⟨vh, br_t k1 ⟨vh, br_f s0 ⟨vh, K⟩⟩⟩
    · obtain ⟨⟨y1, _, y20, y21, y22, _, ys⟩, _⟩ := hY h hh
      unfold wpY_doHeld
      refine tl_yfind (by omega) hV (hid hY) ?_
      rw [hz, ch, y1, ys]
      exact br_f ph ⟨vh, br_t k1 ⟨vh, br_f s0 ⟨vh, K⟩⟩⟩
  have k12 : ¬ tr h 1 = 2 := by rw [k1]; decide
  obtain ⟨_, ⟨a, b, mh, ha, hb, _, ea, eb, _⟩, _⟩ := tl_V_mv (hV h hh) k1
  have v0 : vp_in (nI (4 * h)) 240 := vp_in_nI (by omega) (by decide)
  have v1 : vp_in (nI (4 * h + 1)) 240 := vp_in_nI (by omega) (by decide)
  have v2 : vp_in (nI (4 * h + 2)) 240 := vp_in_nI (by omega) (by decide)
  have c0 : (nI (4 * h)).toNatClampNeg = 4 * h := nI_clamp (by omega)
  have c1 : (nI (4 * h + 1)).toNatClampNeg = 4 * h + 1 := nI_clamp (by omega)
  have c2 : (nI (4 * h + 2)).toNatClampNeg = 4 * h + 2 := nI_clamp (by omega)
  have toY : ∀ {yA yT yC yL : Int32} {ybo ysu yki yid ynu yst yen yho yca ylK ylI ylN ykS ykT : Nat → Int32}, tl_YB n tr st yki yid ynu yst yen yho yca → ∀ post : Int32 → SY → Prop, ((p0 = 2 → ((q < 0 → post (-7) (yA, yT, nI n, yC, yL, ybo, ysu, yki, yid, ynu, yst, yen, yho, yca, ylK, ylI, ylN, ykS, ykT)) ∧ (¬ q < 0 → ((q ≤ tr h 4 → wY_doHeld_78 post p0 q (nI h) (tr h 4) yA yT (nI n) yC yL ybo ysu yki yid ynu yst yen yho yca ylK ylI ylN ykS ykT) ∧ (¬ q ≤ tr h 4 → post (-7) (yA, yT, nI n, yC, yL, ybo, ysu, yki, yid, ynu, yst, yen, yho, yca, ylK, ylI, ylN, ykS, ykT)))))) ∧ (¬ p0 = 2 → wY_doHeld_78 post p0 q (nI h) (tr h 4) yA yT (nI n) yC yL ybo ysu yki yid ynu yst yen yho yca ylK ylI ylN ykS ykT)) → wpY_doHeld post (yA, yT, nI n, yC, yL, ybo, ysu, yki, yid, ynu, yst, yen, yho, yca, ylK, ylI, ylN, ykS, ykT) p0 p1 q := fun hY post K => by
    obtain ⟨⟨y1, _, y20, y21, y22, _, ys⟩, _⟩ := hY h hh
    rw [tl_n2_n k12] at y22
    unfold wpY_doHeld
    refine tl_yfind (by omega) hV (hid hY) ?_
    rw [hz, tl_j2, c2, ch, y1, ys, y22]
    refine br_f ph ⟨vh, br_t k1 ⟨vh, br_t s0 ⟨v2, ?_⟩⟩⟩
    rintro _ rfl
    exact K
  by_cases bad : p0 = 2 ∧ (p2 < 0 ∨ ¬ p2 ≤ tr h 4)
  · obtain ⟨b1, b2⟩ := bad
    have eq : q = p2 := by
      rcases hp with z | z
      · exact z.2
      · rw [z.1] at b1; exact absurd b1 (by decide)
    refine Or.inl ⟨-7, by decide, fun hX hP post K => xin hP _ post hz ?_, fun hY hSY post K => toY hY post ?_⟩
    · obtain ⟨⟨_, x1, _, _, x4, _, _, xs⟩, _⟩ := hX h hh
      unfold wX_holdRefusal_20; rw [ch, x1, xs, x4]
      exact br_f ph ⟨vh, br_t k1 ⟨vh, br_t s0 (br_t b1 (br_c (fun _ => K) (fun z => ⟨vh, br_f (b2.resolve_left z) K⟩)))⟩⟩
    · rw [eq]
      exact br_t b1 (br_c (fun _ => K) (fun z => br_f (b2.resolve_left z) K))
  have hj : ∃ j : Nat, j < 100 ∧ p1 = nI j ∧ tl_LS (fun t => tr t 0) n (nI j) = nI h := by
    obtain ⟨⟨j, hj, ej⟩, _⟩ := hV h hh
    have e2 : p1 = nI j := by rw [← eh]; exact ej
    exact ⟨j, hj, e2, by rw [← e2]; exact hz⟩
  obtain ⟨j, hj, ej, hpl⟩ := hj
  have good : p0 = 2 → ¬ p2 < 0 ∧ p2 ≤ tr h 4 := fun z => by
    refine ⟨fun z2 => bad ⟨z, Or.inl z2⟩, ?_⟩
    by_cases z3 : p2 ≤ tr h 4
    · exact z3
    · exact absurd ⟨z, Or.inr z3⟩ bad
  have vn : vp_in (nI n) 60 := vp_in_nI hn (by decide)
  have cn : (nI n).toNatClampNeg = n := nI_clamp (by omega)
  have hS1 : ∀ ysu : Nat → Int32, tl_SF F ysu → tl_SF (fun x y => F x y - tl_dl 0 (tr h 2) (tr h 3) (tr h 4).toInt x y) (tl_ad ysu a b 0 (-(tr h 4))) := by
    intro ysu hSY
    refine tl_SF_c (tl_SF_ad hSY (by omega) (by omega) (by decide) (tl_on (tr h 4))) (fun x y _ _ => ?_)
    rw [tl_dl_neg, ← ea, ← eb]; omega
  have to78 : ∀ {yA yT yC yL : Int32} {ybo ysu yki yid ynu yst yen yho yca ylK ylI ylN ykS ykT : Nat → Int32}, tl_YB n tr st yki yid ynu yst yen yho yca → ∀ post : Int32 → SY → Prop, wY_doHeld_135 post p0 (nI h) (if q = 0 then tr h 4 else q) (nI n) yA yT (nI n) yC yL ybo (tl_ad ysu a b 0 (-(tr h 4))) yki yid ynu yst yen (upd yho n (nI h)) yca ylK ylI ylN ykS ykT → wY_doHeld_78 post p0 q (nI h) (tr h 4) yA yT (nI n) yC yL ybo ysu yki yid ynu yst yen yho yca ylK ylI ylN ykS ykT := fun hY post K => by
    obtain ⟨⟨y1, _, y20, y21, y22, _, ys⟩, _⟩ := hY h hh
    rw [tl_n1_n k12] at y21
    unfold wY_doHeld_78
    rw [tl_j1, tl_j0, c0, c1, y20, y21]
    refine ⟨v0, v1, ?_⟩
    refine tl_yadd (w := 0) ea eb (by omega) (by omega) (by decide) ?_
    dsimp only
    rw [cn]
    refine ⟨vn, ?_⟩
    rintro _ rfl
    refine br_c (fun z => ?_) (fun z => ?_)
    · rw [if_pos z] at K; exact K
    · rw [if_neg z] at K; exact K
  refine Or.inr ⟨h, j, a, b, hh, hj, ha, hb, ej, hpl, eh, k1, s0, ea, eb, fun z => ?_, fun hX hP post K => xin hP _ post hz ?_, fun z => ?_, fun z => ?_⟩
  · obtain ⟨g1, g2⟩ := good z
    obtain ⟨m, hm, em⟩ := nI_of g1
    refine ⟨m, em, ?_⟩
    rw [Int32.le_iff_toInt_le, em, nI_toInt hm] at g2
    exact g2
  · obtain ⟨⟨_, x1, _, _, x4, _, _, xs⟩, _⟩ := hX h hh
    unfold wX_holdRefusal_20; rw [ch, x1, xs, x4]
    exact br_f ph ⟨vh, br_t k1 ⟨vh, br_t s0 (br_c (fun z => br_f (good z).1 ⟨vh, br_t (good z).2 K⟩) (fun _ => K))⟩⟩
  · intro yA yT yC yL ybo ysu yki yid ynu yst yen yho yca ylK ylI ylN ykS ykT hY hSY post K
    refine toY hY post ?_
    obtain ⟨⟨y1, _, y20, y21, y22, _, ys⟩, _⟩ := hY h hh
    rw [tl_n1_n k12] at y21
    have eq : q = p2 := by
      rcases hp with y | y
      · exact y.2
      · rw [y.1] at z; exact absurd z (by decide)
    have g := good z
    rw [← eq] at g
    refine br_t z (br_f g.1 (br_t g.2 (to78 hY post ?_)))
    unfold wY_doHeld_135
    rw [cn, tl_j1, tl_j0, c0, c1, y20, y21]
    refine ⟨vn, ?_⟩
    rintro _ rfl
    rw [pk_us]
    refine br_t z ⟨v0, v1, vn, ?_⟩
    refine tl_yadd (w := 1) ea eb (by omega) (by omega) (by decide) ?_
    unfold wY_doHeld_175
    dsimp only
    rw [ch]
    refine br_t z ⟨vh, ?_⟩
    rintro _ rfl
    refine K _ ?_
    refine tl_SF_c (tl_SF_ad (hS1 _ hSY) (by omega) (by omega) (by decide) (tl_oi _)) (fun x y _ _ => ?_)
    rw [← ea, ← eb]
  · intro yA yT yC yL ybo ysu yki yid ynu yst yen yho yca ylK ylI ylN ykS ykT hY hSY post K
    refine toY hY post ?_
    have z2 : ¬ p0 = 2 := by rw [z]; decide
    refine br_f z2 (to78 hY post ?_)
    unfold wY_doHeld_135
    rw [cn]
    refine ⟨vn, ?_⟩
    rintro _ rfl
    refine br_f z2 ?_
    unfold wY_doHeld_175
    rw [ch]
    refine br_f z2 ⟨vh, ?_⟩
    rintro _ rfl
    exact K _ (hS1 _ hSY)
end
section
/-! one transfer, done or refused, on both sides at once -/
theorem tl_SS_0 {n : Nat} {st : Nat → Int32} (h : tl_SS n st) : tl_SS (n + 1) (upd st n 0) := by
  intro t ht
  by_cases e : t = n
  · rw [e, pk_us]; exact Or.inl rfl
  · rw [pk_un e]; exact h t (by omega)
theorem tl_SS_u {n h : Nat} {st : Nat → Int32} {x : Int32} (I : tl_SS n st) (hx : x = 0 ∨ x = 1 ∨ x = 2 ∨ x = 3) : tl_SS n (upd st h x) := by
  intro t ht
  by_cases e : t = h
  · rw [e, pk_us]; exact hx
  · rw [pk_un e]; exact I t ht
theorem tl_st2 {n h : Nat} {s st : Nat → Int32} {x : Int32} (hh : h < n) (I : ∀ t, t < n → s t = st t) : ∀ t, t < n + 1 → upd (upd s h x) n 0 t = upd (upd st n 0) h x t := by
  intro t ht
  by_cases e : t = n
  · rw [e, pk_us, pk_un (by omega), pk_us]
  · rw [pk_un e]
    by_cases e2 : t = h
    · rw [e2, pk_us, pk_us]
    · rw [pk_un e2, pk_un e2, pk_un e]; exact I t (by omega)
theorem tl_neg0 {r : Int32} (h : r < 0) : ¬ r = 0 := fun e => by rw [e] at h; exact absurd h (by decide)
theorem tl_perfN {u : SX} {r a0 a1 a2 a3 a4 a5 : Int32} (h : ¬ r = 0) (hr : ∀ p : Int32 → Prop, p r → wpX_refusal p u a0 a1 a2 a3 a4 a5) (post : Int32 → SX → Prop) (K : post r u) : wpX_perform post u a0 a1 a2 a3 a4 a5 := by
  obtain ⟨xA, xT, xN, xH, xC, xL, xbo, xsu, xid, xki, xon, xtw, xam, xli, xca, xst, xla, xpl, xfe, xle, xne, xpe, xhp, xlI, xlK, xlO, xlT, xlA, xlL⟩ := u
  unfold wpX_perform
  exact hr _ (br_f h K)
section
variable {A : Nat} {bd : Nat → Int32} {T n : Nat} {tr : Nat → Nat → Int32} {st : Nat → Int32} {ch : Int32} {l : Nat} {lk : Nat → Nat → Int32} {w : Nat → Int32}
/-- both refuse, with answer r -/
def tl_NO (A : Nat) (bd : Nat → Int32) (T n : Nat) (tr : Nat → Nat → Int32) (st : Nat → Int32) (ch : Int32) (l : Nat) (lk : Nat → Nat → Int32) (w : Nat → Int32) (r : Int32) : Prop :=
  (∀ u : SX, tl_RX True A bd T n tr st ch l lk u → ∀ post : Int32 → SX → Prop, post r u → wpX_perform post u (w 0) (w 1) (w 2) (w 3) (w 4) (w 5)) ∧
  (∀ (ks kt : Nat → Int32) (v : SY), tl_RY A bd T n tr st ch l lk ks kt v → ∀ post : Int32 → SY → Prop, (∀ v', tl_RY A bd T n tr st ch l lk ks kt v' → post r v') → wpY_doTransfer post v (w 1) (w 0) (w 2) (tl_n1 w) (tl_n2 w) (w 5))
/-- both do it, and come to record w' and states st' -/
def tl_YES (A : Nat) (bd : Nat → Int32) (T n : Nat) (tr : Nat → Nat → Int32) (st : Nat → Int32) (ch : Int32) (l : Nat) (lk : Nat → Nat → Int32) (w : Nat → Int32) (w' st' : Nat → Int32) : Prop :=
  (∀ u : SX, tl_RX True A bd T n tr st ch l lk u → ∀ post : Int32 → SX → Prop, (∀ u', tl_RX True A bd T (n + 1) (tl_ap tr n w') st' ch l lk u' → post 1 u') → wpX_perform post u (w 0) (w 1) (w 2) (w 3) (w 4) (w 5)) ∧
  (∀ (ks kt : Nat → Int32) (v : SY), tl_RY A bd T n tr st ch l lk ks kt v → ∀ post : Int32 → SY → Prop, (∀ v', tl_RY A bd T (n + 1) (tl_ap tr n w') st' ch l lk ks kt v' → post 1 v') → wpY_doTransfer post v (w 1) (w 0) (w 2) (tl_n1 w) (tl_n2 w) (w 5))
theorem tl_out (hI : tl_Iv A bd T n tr st l lk) (wf : tl_WF w) :
    (∃ r : Int32, r < 0 ∧ tl_NO A bd T n tr st ch l lk w r) ∨
    (∃ (w' st' : Nat → Int32), n < 60 ∧ tl_Iv A bd T (n + 1) (tl_ap tr n w') st' l lk ∧ tl_ST (tl_ap tr n w') n st st' ∧ tl_YES A bd T n tr st ch l lk w w' st') := by
  obtain ⟨hA, hT, hn, hl, hSS, hV, hN, hLW⟩ := hI
  have hid : ∀ {ki id nu s en ho ca : Nat → Int32}, tl_YB n tr st ki id nu s en ho ca → ∀ t, t < n → id t = tr t 0 := fun hY t ht => (hY t ht).1.2.1
  have hF : ∀ a w, 0 ≤ tl_SM tr st n a w ∧ tl_SM tr st n a w ≤ 60000000 := fun a w => tl_SM_bb hn hV a w
  rcases pk_ix (w 0) (n := 100) (by decide) with hid0 | hid0 | ⟨i, hi, ei⟩
  · refine Or.inl ⟨-1, by decide, fun u hX post K => tl_perfN (by decide) (fun p hp => ?_) post K, fun ks kt v hY post K => ?_⟩
    · obtain ⟨xA, xT, xN, xH, xC, xL, xbo, xsu, xid, xki, xon, xtw, xam, xli, xca, xst, xla, xpl, xfe, xle, xne, xpe, xhp, xlI, xlK, xlO, xlT, xlA, xlL⟩ := u
      unfold wpX_refusal
      exact br_t hid0 hp
    · have K' := K v hY
      obtain ⟨yA, yT, yN, yC, yL, ybo, ysu, yki, yid, ynu, yst, yen, yho, yca, ylK, ylI, ylN, ykS, ykT⟩ := v
      unfold wpY_doTransfer
      exact br_t hid0 K'
  · have h99 : ¬ w 0 ≤ 99 := fun z => by
      rw [Int32.le_iff_toInt_le, nI_toInt (by decide)] at hid0
      rw [Int32.le_iff_toInt_le, show (99 : Int32).toInt = 99 from by decide] at z
      omega
    refine Or.inl ⟨-1, by decide, fun u hX post K => tl_perfN (by decide) (fun p hp => ?_) post K, fun ks kt v hY post K => ?_⟩
    · obtain ⟨xA, xT, xN, xH, xC, xL, xbo, xsu, xid, xki, xon, xtw, xam, xli, xca, xst, xla, xpl, xfe, xle, xne, xpe, xhp, xlI, xlK, xlO, xlT, xlA, xlL⟩ := u
      unfold wpX_refusal
      exact br_c (fun _ => hp) (fun _ => br_f (Int32.not_lt.mpr hid0) hp)
    · have K' := K v hY
      obtain ⟨yA, yT, yN, yC, yL, ybo, ysu, yki, yid, ynu, yst, yen, yho, yca, ylK, ylI, ylN, ykS, ykT⟩ := v
      unfold wpY_doTransfer
      exact br_c (fun _ => K') (fun _ => br_f h99 K')
  have p0 : ¬ w 0 < 0 := by rw [ei]; exact nI_pos (by omega)
  have p100 : w 0 < 100 := by rw [ei]; exact nI_lt hi (by decide)
  have p99 : w 0 ≤ 99 := by rw [ei]; exact nI_le (show i ≤ 99 by omega) (by decide)
  have v0 : vp_in (w 0) 100 := by rw [ei]; exact vp_in_nI hi (by decide)
  have c0 : (w 0).toNatClampNeg = i := by rw [ei]; exact nI_clamp (by omega)
  have hpl : ∀ {xpl : Nat → Int32}, tl_PL n tr xpl → xpl i = tl_LS (fun t => tr t 0) n (w 0) := fun hP => by rw [ei]; exact hP i hi
  rcases tl_LS_sp (fun t => tr t 0) (w 0) n with ⟨hz, hno⟩ | ⟨t, ht, hz, et, _⟩
  rotate_left
  · have pt : ¬ nI t < 0 := nI_pos (by omega)
    have toX : ∀ u : SX, tl_RX True A bd T n tr st ch l lk u → ∀ p : Int32 → Prop, (tl_SA (tr t) w → p (-2)) → (¬ tl_SA (tr t) w → p (-3)) → wpX_refusal p u (w 0) (w 1) (w 2) (w 3) (w 4) (w 5) := fun u hX p K1 K0 => by
      obtain ⟨xA, xT, xN, xH, xC, xL, xbo, xsu, xid, xki, xon, xtw, xam, xli, xca, xst, xla, xpl, xfe, xle, xne, xpe, xhp, xlI, xlK, xlO, xlT, xlA, xlL⟩ := u
      obtain ⟨⟨rfl, rfl, rfl, rfl, rfl, rfl⟩, hB, hP, hS, hE0, hE1, hL, hH0⟩ := hX
      obtain ⟨⟨_, x1, x2, x3, x4, x5, _⟩, _⟩ := hB t ht
      unfold wpX_refusal
      dsimp only
      rw [c0, hpl hP, hz]
      refine br_f p0 (br_t p100 ⟨v0, ?_⟩)
      rintro _ rfl
      refine br_f pt ?_
      exact tl_xsame (by omega) x1 x2 x3 x4 x5 (fun z => br_f (by decide) (K1 z)) (fun z => br_t rfl (K0 z))
    have toY : ∀ (ks kt : Nat → Int32) (v : SY), tl_RY A bd T n tr st ch l lk ks kt v → ∀ post : Int32 → SY → Prop, (tl_SA (tr t) w → post (-2) v) → (¬ tl_SA (tr t) w → post (-3) v) → wpY_doTransfer post v (w 1) (w 0) (w 2) (tl_n1 w) (tl_n2 w) (w 5) := fun ks kt v hY post K1 K0 => by
      obtain ⟨yA, yT, yN, yC, yL, ybo, ysu, yki, yid, ynu, yst, yen, yho, yca, ylK, ylI, ylN, ykS, ykT⟩ := v
      obtain ⟨⟨rfl, rfl, rfl, rfl, rfl, rfl⟩, hBY, hSY, hLY, rfl, rfl⟩ := hY
      obtain ⟨⟨y1, _, y2, y3, y4, y5, _⟩, _⟩ := hBY t ht
      unfold wpY_doTransfer
      dsimp only
      refine br_f p0 (br_t p99 (tl_yfind hn hV (hid hBY) ?_))
      rw [hz]
      refine br_f pt ?_
      exact tl_ysame (tl_WF_V (hV t ht)) wf (by omega) y1 y2 y3 y4 y5 (fun z => br_f (by decide) (K1 z)) (fun z => br_t rfl (K0 z))
    by_cases sa : tl_SA (tr t) w
    · exact Or.inl ⟨-2, by decide, fun u hX post K => tl_perfN (by decide) (fun p hp => toX u hX p (fun _ => hp) (fun z => absurd sa z)) post K, fun ks kt v hY post K => toY ks kt v hY post (fun _ => K v hY) (fun z => absurd sa z)⟩
    · exact Or.inl ⟨-3, by decide, fun u hX post K => tl_perfN (by decide) (fun p hp => toX u hX p (fun z => absurd z sa) (fun _ => hp)) post K, fun ks kt v hY post K => toY ks kt v hY post (fun z => absurd z sa) (fun _ => K v hY)⟩
  by_cases h60 : n = 60
  · refine Or.inl ⟨-4, by decide, fun u hX post K => tl_perfN (by decide) (fun p hp => ?_) post K, fun ks kt v hY post K => ?_⟩
    · obtain ⟨xA, xT, xN, xH, xC, xL, xbo, xsu, xid, xki, xon, xtw, xam, xli, xca, xst, xla, xpl, xfe, xle, xne, xpe, xhp, xlI, xlK, xlO, xlT, xlA, xlL⟩ := u
      obtain ⟨⟨rfl, rfl, rfl, rfl, rfl, rfl⟩, hB, hP, hS, hE0, hE1, hL, hH0⟩ := hX
      unfold wpX_refusal
      dsimp only
      rw [c0, hpl hP, hz]
      refine br_f p0 (br_t p100 ⟨v0, ?_⟩)
      rintro _ rfl
      exact br_t (by decide) (br_f (by rw [h60]; decide) hp)
    · have K' := K v hY
      obtain ⟨yA, yT, yN, yC, yL, ybo, ysu, yki, yid, ynu, yst, yen, yho, yca, ylK, ylI, ylN, ykS, ykT⟩ := v
      obtain ⟨⟨rfl, rfl, rfl, rfl, rfl, rfl⟩, hBY, hSY, hLY, rfl, rfl⟩ := hY
      unfold wpY_doTransfer
      dsimp only
      refine br_f p0 (br_t p99 (tl_yfind hn hV (hid hBY) ?_))
      rw [hz]
      exact br_t (by decide) (br_t (by rw [h60]; rfl) K')
  have hn60 : n < 60 := by omega
  have k60 : (nI n : Int32) < 60 := nI_lt hn60 (by decide)
  have ne60 : ¬ (nI n : Int32) = 60 := tl_ne (b := 60) (by omega) (by decide) h60
  have hV0 : ∀ w' : Nat → Int32, w' 0 = w 0 → (tl_V0 A w' ∨ tl_V1 A T w' ∨ tl_V2 tr n w' ∨ tl_V3 tr n w') → tl_Vs A T (tl_ap tr n w') (n + 1) := fun w' e h => tl_Vs_ap hV ⟨⟨i, hi, by rw [e]; exact ei⟩, fun s hs => by rw [e]; exact hno s hs, h⟩
  by_cases kk : w 1 = 0 ∨ w 1 = 1
  · have k2 : ¬ w 1 = 2 := fun z => by rcases kk with k | k <;> rw [k] at z <;> exact absurd z (by decide)
    have kge : ¬ (2 : Int32) ≤ w 1 := by rcases kk with k | k <;> rw [k] <;> decide
    have toX : ∀ u : SX, tl_RX True A bd T n tr st ch l lk u → ∀ p : Int32 → Prop, wpX_moveRefusal p u (w 1) (w 2) (w 3) (w 4) (w 5) → wpX_refusal p u (w 0) (w 1) (w 2) (w 3) (w 4) (w 5) := fun u hX p K => by
      obtain ⟨xA, xT, xN, xH, xC, xL, xbo, xsu, xid, xki, xon, xtw, xam, xli, xca, xst, xla, xpl, xfe, xle, xne, xpe, xhp, xlI, xlK, xlO, xlT, xlA, xlL⟩ := u
      obtain ⟨⟨rfl, rfl, rfl, rfl, rfl, rfl⟩, hB, hP, hS, hE0, hE1, hL, hH0⟩ := hX
      unfold wpX_refusal wX_refusal_75
      dsimp only
      rw [c0, hpl hP, hz]
      refine br_f p0 (br_t p100 ⟨v0, ?_⟩)
      rintro _ rfl
      exact br_t (by decide) (br_t k60 (br_c (fun _ => K) (fun z => br_t (kk.resolve_left z) K)))
    rcases tl_omv (p0 := w 1) (p1 := w 2) (p2 := w 3) (p3 := w 4) (p4 := w 5) hA hF hN kk with ⟨r, hr, fX, fY⟩ | ⟨a, b, m, om, fX, fY⟩
    · refine Or.inl ⟨r, hr, fun u hX post K => tl_perfN (tl_neg0 hr) (fun p hp => toX u hX p ?_) post K, fun ks kt v hY post K => ?_⟩
      · obtain ⟨xA, xT, xN, xH, xC, xL, xbo, xsu, xid, xki, xon, xtw, xam, xli, xca, xst, xla, xpl, xfe, xle, xne, xpe, xhp, xlI, xlK, xlO, xlT, xlA, xlL⟩ := u
        obtain ⟨⟨rfl, rfl, rfl, rfl, rfl, rfl⟩, hB, hP, hS, hE0, hE1, hL, hH0⟩ := hX
        exact fX hS p hp
      · obtain ⟨yA, yT, yN, yC, yL, ybo, ysu, yki, yid, ynu, yst, yen, yho, yca, ylK, ylI, ylN, ykS, ykT⟩ := v
        obtain ⟨⟨rfl, rfl, rfl, rfl, rfl, rfl⟩, hBY, hSY, hLY, rfl, rfl⟩ := hY
        unfold wpY_doTransfer
        dsimp only
        refine br_f p0 (br_t p99 (tl_yfind hn hV (hid hBY) ?_))
        rw [hz]
        refine br_t (by decide) (br_f ne60 (br_f kge ?_))
        rw [tl_n1_n k2, tl_n2_n k2]
        refine fY hSY _ (fun su hs => ?_)
        unfold wY_doTransfer_89
        exact br_f (Int32.not_le.mpr hr) (K _ ⟨⟨rfl, rfl, rfl, rfl, rfl, rfl⟩, hBY, hs, hLY, rfl, rfl⟩)
    · obtain ⟨ha, hb, hab, ea, eb, hm1, hm2, em, hq, hsD, hsC⟩ := om
      have em2 : (w 4).toInt = (m : Int) := tl_nT em (by omega)
      have mv : ∀ w' : Nat → Int32, w' 2 = w 2 → w' 3 = w 3 → w' 4 = w 4 → tl_MV A w' := fun w' q2 q3 q4 => ⟨a, b, m, ha, hb, hab, by rw [q2]; exact ea, by rw [q3]; exact eb, hm1, hm2, by rw [q4]; exact em⟩
      have rX : ∀ u : SX, tl_RX True A bd T n tr st ch l lk u → ∀ p : Int32 → Prop, p 0 → wpX_refusal p u (w 0) (w 1) (w 2) (w 3) (w 4) (w 5) := fun u hX p hp => toX u hX p (by
        obtain ⟨xA, xT, xN, xH, xC, xL, xbo, xsu, xid, xki, xon, xtw, xam, xli, xca, xst, xla, xpl, xfe, xle, xne, xpe, xhp, xlI, xlK, xlO, xlT, xlA, xlL⟩ := u
        obtain ⟨⟨rfl, rfl, rfl, rfl, rfl, rfl⟩, hB, hP, hS, hE0, hE1, hL, hH0⟩ := hX
        exact fX hS p hp)
      rcases kk with k | k
      · have w5 : w 5 = 0 := by
          rcases wf with z | z | z | z
          · exact z.2
          · rw [k] at z; exact absurd z (by decide)
          · rw [k] at z; exact absurd z.1 (by decide)
          · rw [k] at z; exact absurd z.1 (by decide)
        have eS : ∀ x y, tl_SM tr st n x y + tl_dl 1 (nI a) (nI b) (m : Int) x y = tl_SM (tl_ap tr n (tl_w0 w)) (upd st n 0) (n + 1) x y := fun x y => by
          rw [← ea, ← eb, ← em2]; exact tl_S0 k x y
        refine Or.inr ⟨tl_w0 w, upd st n 0, hn60, ⟨hA, hT, by omega, hl, tl_SS_0 hSS, hV0 _ rfl (Or.inl ⟨k, mv _ rfl rfl rfl, w5, rfl, rfl, rfl⟩), tl_NB_c eS (tl_NB_mv hA hN ha hb hab (Or.inr rfl) (by omega) hsD hsC), hLW⟩, Or.inl ⟨Or.inl (by rw [tl_ap_s]; exact k), fun t ht => pk_un (by omega), pk_us⟩, fun u hX post K => ?_, fun ks kt v hY post K => ?_⟩
        · have r := rX u hX
          obtain ⟨xA, xT, xN, xH, xC, xL, xbo, xsu, xid, xki, xon, xtw, xam, xli, xca, xst, xla, xpl, xfe, xle, xne, xpe, xhp, xlI, xlK, xlO, xlT, xlA, xlL⟩ := u
          exact tl_xperf0 hX hn60 k hi ei ea eb (by omega) (by omega) r K
        · obtain ⟨yA, yT, yN, yC, yL, ybo, ysu, yki, yid, ynu, yst, yen, yho, yca, ylK, ylI, ylN, ykS, ykT⟩ := v
          obtain ⟨⟨rfl, rfl, rfl, rfl, rfl, rfl⟩, hBY, hSY, hLY, rfl, rfl⟩ := hY
          unfold wpY_doTransfer
          dsimp only
          refine br_f p0 (br_t p99 (tl_yfind hn hV (hid hBY) ?_))
          rw [hz]
          refine br_t (by decide) (br_f ne60 (br_f kge ?_))
          have fY' := @fY
          rw [← tl_n1_n k2, ← tl_n2_n k2] at fY'
          refine fY' hSY _ (fun su hs => ?_)
          refine tl_ytail (w' := tl_w0 w) hn60 rfl rfl (fun z => absurd (k.symm.trans z) (by decide)) ?_
          refine K _ ⟨⟨rfl, rfl, rfl, rfl, rfl, rfl⟩, tl_YB_ap (w := tl_w0 w) hBY (fun z => absurd (k.symm.trans z) (by decide)) (fun t _ => ⟨rfl, rfl⟩), tl_SF_c hs (fun x y _ _ => ?_), hLY, rfl, rfl⟩
          rw [if_pos k]; exact eS x y
      · obtain ⟨q, hq1, hq2⟩ := hq k
        have eS : ∀ x y, tl_SM tr st n x y + tl_dl 0 (nI a) (nI b) (m : Int) x y = tl_SM (tl_ap tr n (tl_w1 w T)) (upd st n 0) (n + 1) x y := fun x y => by
          rw [← ea, ← eb, ← em2]; exact tl_S1 k x y
        have k0 : ¬ w 1 = 0 := by rw [k]; decide
        refine Or.inr ⟨tl_w1 w T, upd st n 0, hn60, ⟨hA, hT, by omega, hl, tl_SS_0 hSS, hV0 _ rfl (Or.inr (Or.inl ⟨k, mv _ rfl rfl rfl, ⟨q, hq1, hq2⟩, ⟨T + q, by omega, ?_, fun z => ?_⟩, rfl, rfl⟩)), tl_NB_c eS (tl_NB_mv hA hN ha hb hab (Or.inl rfl) (by omega) hsD hsC), hLW⟩, Or.inl ⟨Or.inr (by rw [tl_ap_s]; exact k), fun t ht => pk_un (by omega), pk_us⟩, fun u hX post K => ?_, fun ks kt v hY post K => ?_⟩
        · show nI T + w 5 = nI (T + q)
          rw [hq2, nI_add]
        · have z' : ¬ w 5 ≤ 0 := z
          rcases Nat.eq_zero_or_pos q with q0 | q0
          · rw [hq2, q0] at z'; exact absurd (show (nI 0 : Int32) ≤ 0 by decide) z'
          · omega
        · have r := rX u hX
          obtain ⟨xA, xT, xN, xH, xC, xL, xbo, xsu, xid, xki, xon, xtw, xam, xli, xca, xst, xla, xpl, xfe, xle, xne, xpe, xhp, xlI, xlK, xlO, xlT, xlA, xlL⟩ := u
          exact tl_xperf1 hX hn60 k hi ei ea eb (by omega) (by omega) r K
        · obtain ⟨yA, yT, yN, yC, yL, ybo, ysu, yki, yid, ynu, yst, yen, yho, yca, ylK, ylI, ylN, ykS, ykT⟩ := v
          obtain ⟨⟨rfl, rfl, rfl, rfl, rfl, rfl⟩, hBY, hSY, hLY, rfl, rfl⟩ := hY
          unfold wpY_doTransfer
          dsimp only
          refine br_f p0 (br_t p99 (tl_yfind hn hV (hid hBY) ?_))
          rw [hz]
          refine br_t (by decide) (br_f ne60 (br_f kge ?_))
          have fY' := @fY
          rw [← tl_n1_n k2, ← tl_n2_n k2] at fY'
          refine fY' hSY _ (fun su hs => ?_)
          refine tl_ytail (w' := tl_w1 w T) hn60 rfl rfl (fun _ => rfl) ?_
          refine K _ ⟨⟨rfl, rfl, rfl, rfl, rfl, rfl⟩, tl_YB_ap (w := tl_w1 w T) hBY (fun z => absurd (k.symm.trans z) (by decide)) (fun t _ => ⟨rfl, rfl⟩), tl_SF_c hs (fun x y _ _ => ?_), hLY, rfl, rfl⟩
          rw [if_neg k0]; exact eS x y
  have k23 : (w 1 = 2 ∧ w 3 = 0 ∧ w 5 = 0) ∨ (w 1 = 3 ∧ w 3 = 0 ∧ w 4 = 0 ∧ w 5 = 0) := by
    rcases wf with z | z | z | z
    · exact absurd (Or.inl z.1) kk
    · exact absurd (Or.inr z) kk
    · exact Or.inl z
    · exact Or.inr z
  have k0 : ¬ w 1 = 0 := fun z => kk (Or.inl z)
  have k1 : ¬ w 1 = 1 := fun z => kk (Or.inr z)
  have kge : (2 : Int32) ≤ w 1 := by rcases k23 with k | k <;> rw [k.1] <;> decide
  have hp : (w 1 = 2 ∧ tl_n1 w = w 4) ∨ (w 1 = 3 ∧ tl_n1 w = 0) := by
    rcases k23 with k | k
    · exact Or.inl ⟨k.1, tl_n1_2 k.1⟩
    · exact Or.inr ⟨k.1, by rw [tl_n1_n (by rw [k.1]; decide)]; exact k.2.1⟩
  have toX : ∀ u : SX, tl_RX True A bd T n tr st ch l lk u → ∀ p : Int32 → Prop, wpX_holdRefusal p u (w 1) (w 2) (w 4) → wpX_refusal p u (w 0) (w 1) (w 2) (w 3) (w 4) (w 5) := fun u hX p K => by
    obtain ⟨xA, xT, xN, xH, xC, xL, xbo, xsu, xid, xki, xon, xtw, xam, xli, xca, xst, xla, xpl, xfe, xle, xne, xpe, xhp, xlI, xlK, xlO, xlT, xlA, xlL⟩ := u
    obtain ⟨⟨rfl, rfl, rfl, rfl, rfl, rfl⟩, hB, hP, hS, hE0, hE1, hL, hH0⟩ := hX
    unfold wpX_refusal
    dsimp only
    rw [c0, hpl hP, hz]
    refine br_f p0 (br_t p100 ⟨v0, ?_⟩)
    rintro _ rfl
    exact br_t (by decide) (br_t k60 (br_f k0 (br_f k1 K)))
  rcases tl_ohd (F := tl_SM tr st n) (p0 := w 1) (p1 := w 2) (p2 := w 4) (q := tl_n1 w) hA hn60 hV hSS hp with ⟨r, hr, fX, fY⟩ | ⟨h, j, a, b, hh, hj, ha, hb, ej, hplj, eh, kh1, s0, ea, eb, hm, fX, fY2, fY3⟩
  · refine Or.inl ⟨r, hr, fun u hX post K => tl_perfN (tl_neg0 hr) (fun p hp => toX u hX p ?_) post K, fun ks kt v hY post K => ?_⟩
    · obtain ⟨xA, xT, xN, xH, xC, xL, xbo, xsu, xid, xki, xon, xtw, xam, xli, xca, xst, xla, xpl, xfe, xle, xne, xpe, xhp, xlI, xlK, xlO, xlT, xlA, xlL⟩ := u
      obtain ⟨⟨rfl, rfl, rfl, rfl, rfl, rfl⟩, hB, hP, hS, hE0, hE1, hL, hH0⟩ := hX
      exact fX hB hP p hp
    · have K' := K v hY
      obtain ⟨yA, yT, yN, yC, yL, ybo, ysu, yki, yid, ynu, yst, yen, yho, yca, ylK, ylI, ylN, ykS, ykT⟩ := v
      obtain ⟨⟨rfl, rfl, rfl, rfl, rfl, rfl⟩, hBY, hSY, hLY, rfl, rfl⟩ := hY
      unfold wpY_doTransfer
      dsimp only
      refine br_f p0 (br_t p99 (tl_yfind hn hV (hid hBY) ?_))
      rw [hz]
      refine br_t (by decide) (br_f ne60 (br_t kge ?_))
      refine fY hBY hSY _ ?_
      unfold wY_doTransfer_89
      exact br_f (Int32.not_le.mpr hr) K'
  obtain ⟨_, ⟨a', b', mh, _, _, _, _, _, hmh1, hmh2, emh⟩, _⟩ := tl_V_mv (hV h hh) kh1
  have emh2 : (tr h 4).toInt = (mh : Int) := tl_nT emh (by omega)
  have hij : j ≠ i := fun z => hno h hh (by show tr h 0 = w 0; rw [eh, ej, ei, z])
  have hsY : ∀ {ki id nu s en ho ca : Nat → Int32}, tl_YB n tr st ki id nu s en ho ca → ∀ t, t < n → s t = st t := fun hY t ht => (hY t ht).1.2.2.2.2.2.2
  have rX : ∀ u : SX, tl_RX True A bd T n tr st ch l lk u → ∀ p : Int32 → Prop, p 0 → wpX_refusal p u (w 0) (w 1) (w 2) (w 3) (w 4) (w 5) := fun u hX p hp => toX u hX p (by
    obtain ⟨xA, xT, xN, xH, xC, xL, xbo, xsu, xid, xki, xon, xtw, xam, xli, xca, xst, xla, xpl, xfe, xle, xne, xpe, xhp, xlI, xlK, xlO, xlT, xlA, xlL⟩ := u
    obtain ⟨⟨rfl, rfl, rfl, rfl, rfl, rfl⟩, hB, hP, hS, hE0, hE1, hL, hH0⟩ := hX
    exact fX hB hP p hp)
  rcases k23 with ⟨k, w3, w5⟩ | ⟨k, w3, w4, w5⟩
  · obtain ⟨m, em, hm2⟩ := hm k
    have em2 : (w 4).toInt = (m : Int) ∨ ¬ m < 2 ^ 31 := by
      by_cases z : m < 2 ^ 31
      · exact Or.inl (tl_nT em z)
      · exact Or.inr z
    have em3 : (w 4).toInt = (m : Int) := em2.resolve_right (by omega)
    have hc : ∃ c : Nat, 1 ≤ c ∧ c ≤ mh ∧ (if w 4 = 0 then tr h 4 else w 4) = nI c := by
      by_cases z : w 4 = 0
      · exact ⟨mh, hmh1, Nat.le_refl _, by rw [if_pos z]; exact emh⟩
      · refine ⟨m, ?_, by omega, by rw [if_neg z]; exact em⟩
        rcases Nat.eq_zero_or_pos m with m0 | m0
        · rw [em, m0] at z; exact absurd rfl z
        · exact m0
    obtain ⟨c, hc1, hc2, ec⟩ := hc
    have ec2 : (if w 4 = 0 then tr h 4 else w 4).toInt = (c : Int) := tl_nT ec (by omega)
    have eS : ∀ x y, tl_SM tr st n x y - tl_dl 0 (tr h 2) (tr h 3) (tr h 4).toInt x y + tl_dl 1 (tr h 2) (tr h 3) (if w 4 = 0 then tr h 4 else w 4).toInt x y = tl_SM (tl_ap tr n (tl_w2 w tr h)) (upd (upd st n 0) h 1) (n + 1) x y := fun x y => tl_S2 k hh kh1 s0 (by decide) x y
    refine Or.inr ⟨tl_w2 w tr h, upd (upd st n 0) h 1, hn60, ⟨hA, hT, by omega, hl, tl_SS_u (tl_SS_0 hSS) (Or.inr (Or.inl rfl)), hV0 _ rfl (Or.inr (Or.inr (Or.inl ⟨k, w3, w5, ⟨c, hc1, by omega, ec⟩, h, hh, rfl, kh1, eh, rfl, rfl⟩))), tl_NB_c eS (tl_NB_tk hN (by omega) (by omega)), hLW⟩, Or.inr ⟨Or.inl (by rw [tl_ap_s]; exact k), h, hh, by rw [tl_ap_s]; rfl, by rw [tl_ap_n (by omega)]; exact kh1, s0, by rw [pk_us]; decide, fun t ht z => by rw [pk_un z, pk_un (by omega)]⟩, fun u hX post K => ?_, fun ks kt v hY post K => ?_⟩
    · have r := rX u hX
      obtain ⟨xA, xT, xN, xH, xC, xL, xbo, xsu, xid, xki, xon, xtw, xam, xli, xca, xst, xla, xpl, xfe, xle, xne, xpe, xhp, xlI, xlK, xlO, xlT, xlA, xlL⟩ := u
      exact tl_xperf2 hX hn60 k hi ei hh hj ej hij ((hX.2.2.1 j hj).trans hplj) kh1 s0 ea eb (by omega) (by omega) r K
    · obtain ⟨yA, yT, yN, yC, yL, ybo, ysu, yki, yid, ynu, yst, yen, yho, yca, ylK, ylI, ylN, ykS, ykT⟩ := v
      obtain ⟨⟨rfl, rfl, rfl, rfl, rfl, rfl⟩, hBY, hSY, hLY, rfl, rfl⟩ := hY
      unfold wpY_doTransfer
      dsimp only
      refine br_f p0 (br_t p99 (tl_yfind hn hV (hid hBY) ?_))
      rw [hz]
      refine br_t (by decide) (br_f ne60 (br_t kge ?_))
      refine fY2 k hBY hSY _ (fun su hs => ?_)
      rw [tl_n1_2 k] at hs
      refine tl_ytail (w' := tl_w2 w tr h) hn60 rfl rfl (fun z => absurd (k.symm.trans z) (by decide)) ?_
      refine K _ ⟨⟨rfl, rfl, rfl, rfl, rfl, rfl⟩, tl_YB_c (tl_YB_ap (w := tl_w2 w tr h) hBY (fun _ => ⟨pk_us, ?_⟩) (fun t ht => ⟨pk_un (by omega), pk_un (by omega)⟩)) (fun _ _ => rfl) (tl_st2 hh (hsY hBY)), tl_SF_c hs (fun x y _ _ => eS x y), hLY, rfl, rfl⟩
      rw [tl_n1_2 k]; exact pk_us
  · have eS : ∀ x y, tl_SM tr st n x y - tl_dl 0 (tr h 2) (tr h 3) (tr h 4).toInt x y = tl_SM (tl_ap tr n (tl_w3 w h)) (upd (upd st n 0) h 2) (n + 1) x y := fun x y => tl_S3 k hh kh1 s0 (by decide) x y
    refine Or.inr ⟨tl_w3 w h, upd (upd st n 0) h 2, hn60, ⟨hA, hT, by omega, hl, tl_SS_u (tl_SS_0 hSS) (Or.inr (Or.inr (Or.inl rfl))), hV0 _ rfl (Or.inr (Or.inr (Or.inr ⟨k, w3, w4, w5, rfl, rfl, rfl, h, hh, rfl, kh1, eh⟩))), tl_NB_c eS (tl_NB_un hN (by omega)), hLW⟩, Or.inr ⟨Or.inr (by rw [tl_ap_s]; exact k), h, hh, by rw [tl_ap_s]; rfl, by rw [tl_ap_n (by omega)]; exact kh1, s0, by rw [pk_us]; decide, fun t ht z => by rw [pk_un z, pk_un (by omega)]⟩, fun u hX post K => ?_, fun ks kt v hY post K => ?_⟩
    · have r := rX u hX
      obtain ⟨xA, xT, xN, xH, xC, xL, xbo, xsu, xid, xki, xon, xtw, xam, xli, xca, xst, xla, xpl, xfe, xle, xne, xpe, xhp, xlI, xlK, xlO, xlT, xlA, xlL⟩ := u
      exact tl_xperf3 hX hn60 k hi ei hh hj ej hij ((hX.2.2.1 j hj).trans hplj) kh1 s0 ea eb (by omega) (by omega) r K
    · obtain ⟨yA, yT, yN, yC, yL, ybo, ysu, yki, yid, ynu, yst, yen, yho, yca, ylK, ylI, ylN, ykS, ykT⟩ := v
      obtain ⟨⟨rfl, rfl, rfl, rfl, rfl, rfl⟩, hBY, hSY, hLY, rfl, rfl⟩ := hY
      unfold wpY_doTransfer
      dsimp only
      refine br_f p0 (br_t p99 (tl_yfind hn hV (hid hBY) ?_))
      rw [hz]
      refine br_t (by decide) (br_f ne60 (br_t kge ?_))
      refine fY3 k hBY hSY _ (fun su hs => ?_)
      refine tl_ytail (w' := tl_w3 w h) hn60 rfl rfl (fun z => absurd (k.symm.trans z) (by decide)) ?_
      refine K _ ⟨⟨rfl, rfl, rfl, rfl, rfl, rfl⟩, tl_YB_c (tl_YB_ap (w := tl_w3 w h) hBY (fun z => absurd (k.symm.trans z) (by decide)) (fun t ht => ⟨pk_un (by omega), pk_un (by omega)⟩)) (fun _ _ => rfl) (tl_st2 hh (hsY hBY)), tl_SF_c hs (fun x y _ _ => eS x y), hLY, rfl, rfl⟩
end
end
section
/-! taking a transfer back -/
theorem tl_XB_dn {n : Nat} {tr : Nat → Nat → Int32} {st id ki on tw am li ca s la : Nat → Int32} (h : tl_XB (n + 1) tr st id ki on tw am li ca s la) : tl_XB n tr st id ki on tw am li ca s la := fun t ht => h t (by omega)
theorem tl_PL_dn {A T n i : Nat} {tr : Nat → Nat → Int32} {pl : Nat → Int32} (hV : tl_V A T tr n (tr n)) (hi : i < 100) (e : tr n 0 = nI i) (I : tl_PL (n + 1) tr pl) : tl_PL n tr (upd pl i (-1)) := by
  intro j hj
  by_cases z : j = i
  · rw [z, pk_us, tl_LS_no (fun t ht q => hV.2.1 t ht (by rw [e]; exact q))]
  · rw [pk_un z, I j hj, tl_LS_f (by show ¬ tr n 0 = nI j; rw [e]; exact tl_ne (by omega) (by omega) (fun q => z q.symm))]
theorem tl_ST01 {tr : Nat → Nat → Int32} {n : Nat} {s0 s1 : Nat → Int32} (h : tl_ST tr n s0 s1) (k : tr n 1 = 0 ∨ tr n 1 = 1) : (∀ t, t < n → s1 t = s0 t) ∧ s1 n = 0 := by
  rcases h with ⟨_, h⟩ | ⟨h, _⟩
  · exact h
  · rcases k with k | k <;> rcases h with h | h <;> rw [k] at h <;> exact absurd h (by decide)
theorem tl_ST23 {tr : Nat → Nat → Int32} {n h : Nat} {s0 s1 : Nat → Int32} (I : tl_ST tr n s0 s1) (k : tr n 1 = 2 ∨ tr n 1 = 3) (hn : n < 1000) (hh : h < n) (e : tr n 8 = nI h) : s0 h = 0 ∧ (¬ s1 h = 0) ∧ ∀ t, t < n → t ≠ h → s1 t = s0 t := by
  rcases I with ⟨z, _⟩ | ⟨_, q, hq, e2, _, h1, h2, h3⟩
  · rcases k with k | k <;> rcases z with z | z <;> rw [k] at z <;> exact absurd z (by decide)
  · rw [e] at e2
    have : h = q := (nI_eq (by omega) (by omega)).mp e2
    rw [this]; exact ⟨h1, h2, h3⟩
theorem tl_XB_re {n h : Nat} {tr : Nat → Nat → Int32} {s0 s1 id ki on tw am li ca s la : Nat → Int32} (I : tl_XB n tr s1 id ki on tw am li ca s la) (e0 : s0 h = 0) (e : ∀ t, t < n → t ≠ h → s1 t = s0 t) : tl_XB n tr s0 id ki on tw am li ca (upd s h 0) la := by
  intro t ht
  obtain ⟨⟨a, b, c, d, f, g, i, j⟩, k⟩ := I t ht
  refine ⟨⟨a, b, c, d, f, g, i, ?_⟩, k⟩
  by_cases z : t = h
  · rw [z, pk_us, e0]
  · rw [pk_un z, j]; exact e t ht z
theorem tl_xundo {A : Nat} {bd : Nat → Int32} {T n : Nat} {tr : Nat → Nat → Int32} {st s0 : Nat → Int32} {ch : Int32} {l : Nat} {lk : Nat → Nat → Int32} {u : SX} {post : SX → Prop} (hA : A ≤ 10) (hn : n < 60) (hV : tl_Vs A T tr (n + 1)) (hX : tl_RX False A bd T (n + 1) tr st ch l lk u) (hST : tl_ST tr n s0 st)
    (K : ∀ u', tl_RX False A bd T n tr s0 ch l lk u' → post u') : wpX_undo post u := by
  obtain ⟨xA, xT, xN, xH, xC, xL, xbo, xsu, xid, xki, xon, xtw, xam, xli, xca, xst, xla, xpl, xfe, xle, xne, xpe, xhp, xlI, xlK, xlO, xlT, xlA, xlL⟩ := u
  obtain ⟨⟨rfl, rfl, rfl, rfl, rfl, rfl⟩, hB, hP, hS, hE0, hE1, hL, _⟩ := hX
  have vn : vp_in (nI n) 60 := vp_in_nI hn (by decide)
  have cn : (nI n).toNatClampNeg = n := nI_clamp (by omega)
  have hVn := hV n (Nat.lt_succ_self n)
  obtain ⟨⟨b0, b1, b2, b3, b4, b5, b7, b8⟩, _⟩ := hB n (Nat.lt_succ_self n)
  obtain ⟨⟨i, hi, ei⟩, hfr, hk⟩ := hVn
  have vi : vp_in (tr n 0) 100 := by rw [ei]; exact vp_in_nI hi (by decide)
  have ci : (tr n 0).toNatClampNeg = i := by rw [ei]; exact nI_clamp (by omega)
  have hP' : tl_PL n tr (upd xpl i (-1)) := tl_PL_dn (hV n (Nat.lt_succ_self n)) hi ei hP
  have hB' := tl_XB_dn hB
  unfold wpX_undo
  dsimp only
  rintro _ rfl
  rw [nI_pred, cn, b0, b1, b2, b3, b4, ci]
  refine ⟨vn, vi, ?_⟩
  rintro _ rfl
  rcases hk with hk | hk | hk | hk
  · obtain ⟨k, ⟨a, b, m, ha, hb, hab, ea, eb, hm1, hm2, em⟩, _, k7, k9, k10⟩ := hk
    obtain ⟨g1, g2⟩ := tl_ST01 hST (Or.inl k)
    refine ⟨vn, br_t k ⟨vn, vn, ?_⟩⟩
    rw [ea, eb]
    refine tl_xuncome (by omega) (by omega) hn hE0 hE1 (show tr n 9 = nI a by rw [k9]; exact ea) (show tr n 10 = nI b by rw [k10]; exact eb) b7 (fun fe le ne J0 J1 => ?_)
    refine K _ ⟨⟨rfl, rfl, rfl, rfl, rfl, rfl⟩, tl_XB_c hB' (fun _ _ => rfl) (fun t ht => ((hB' t ht).1.2.2.2.2.2.2.2).trans (g1 t ht)), hP', ?_, J0, J1, hL, fun z => z.elim⟩
    refine tl_SF_c (tl_SF_ad hS (by omega) (by omega) (by decide) (tl_on (tr n 7))) (fun x y _ _ => ?_)
    rw [tl_dl_neg, tl_SM_mv k g1, k9, k10, ea, eb]; omega
  · obtain ⟨k, ⟨a, b, m, ha, hb, hab, ea, eb, hm1, hm2, em⟩, _, _, k9, k10⟩ := hk
    obtain ⟨g1, g2⟩ := tl_ST01 hST (Or.inr k)
    refine ⟨vn, br_f (by rw [k]; decide) ⟨vn, br_t k ⟨vn, vn, vn, ?_⟩⟩⟩
    refine tl_xaddE (w := 0) ea eb (by omega) (by omega) (by decide) ?_
    refine K _ ⟨⟨rfl, rfl, rfl, rfl, rfl, rfl⟩, tl_XB_c hB' (fun _ _ => rfl) (fun t ht => ((hB' t ht).1.2.2.2.2.2.2.2).trans (g1 t ht)), hP', ?_, tl_EN_unskip hE0 (fun q hq => by show ¬ tr n 9 = nI q; rw [k9]; exact tl_m1 (by omega)), tl_EN_unskip hE1 (fun q hq => by show ¬ tr n 10 = nI q; rw [k10]; exact tl_m1 (by omega)), hL, fun z => z.elim⟩
    refine tl_SF_c (tl_SF_ad (d := a) (c := b) (w0 := 0) hS (by omega) (by omega) (by decide) (tl_on (tr n 4))) (fun x y _ _ => ?_)
    rw [tl_dl_neg, tl_SM_hd k g1 g2, ea, eb]; omega
  · obtain ⟨k, _, _, ⟨c, hc1, hc2, ec⟩, h, hh, k8, kh1, kh0, k9, k10⟩ := hk
    obtain ⟨_, ⟨a, b, m, ha, hb, hab, ea, eb, hm1, hm2, em⟩, _⟩ := tl_V_mv (hV h (by omega)) kh1
    obtain ⟨g0, g1, g2⟩ := tl_ST23 hST (Or.inl k) (by omega) hh k8
    obtain ⟨⟨i', hi', ei'⟩, _⟩ := hV h (by omega)
    have e2 : tr n 2 = nI i' := kh0.symm.trans ei'
    have v2 : vp_in (tr n 2) 100 := by rw [e2]; exact vp_in_nI hi' (by decide)
    have c2 : (tr n 2).toNatClampNeg = i' := by rw [e2]; exact nI_clamp (by omega)
    have hpl : upd xpl i (-1) i' = nI h := by
      rw [hP' i' hi', ← ei']
      exact tl_FI_is (fun t ht => hV t (by omega)) hh
    have vh : vp_in (nI h) 60 := vp_in_nI (by omega) (by decide)
    have chh : (nI h).toNatClampNeg = h := nI_clamp (by omega)
    obtain ⟨⟨_, _, x2, x3, x4, _⟩, _⟩ := hB h (by omega)
    refine ⟨vn, br_f (by rw [k]; decide) ⟨vn, br_f (by rw [k]; decide) ⟨vn, v2, ?_⟩⟩⟩
    rw [c2, hpl]
    rintro _ rfl
    rw [chh, x2, x3, ea, eb]
    refine ⟨vn, br_t k ⟨vh, vh, ?_⟩⟩
    refine tl_xuncome (by omega) (by omega) hn hE0 hE1 (show tr n 9 = nI a by rw [k9]; exact ea) (show tr n 10 = nI b by rw [k10]; exact eb) b7 (fun fe le ne J0 J1 => ?_)
    unfold wX_undo_132
    refine tl_xrehold (by omega) (by omega) (by omega) (x2.trans ea) (x3.trans eb) x4 ?_
    refine K _ ⟨⟨rfl, rfl, rfl, rfl, rfl, rfl⟩, tl_XB_re hB' g0 g2, hP', ?_, J0, J1, hL, fun z => z.elim⟩
    refine tl_SF_c (tl_SF_ad (tl_SF_ad hS (by omega) (by omega) (by decide) (tl_on (tr n 7))) (by omega) (by omega) (by decide) (tl_oi (tr h 4))) (fun x y _ _ => ?_)
    rw [tl_dl_neg, tl_SM_tk k hh kh1 g0 g1 g2, k9, k10, ea, eb]; omega
  · obtain ⟨k, _, _, _, k7, k9, k10, h, hh, k8, kh1, kh0⟩ := hk
    obtain ⟨_, ⟨a, b, m, ha, hb, hab, ea, eb, hm1, hm2, em⟩, _⟩ := tl_V_mv (hV h (by omega)) kh1
    obtain ⟨g0, g1, g2⟩ := tl_ST23 hST (Or.inr k) (by omega) hh k8
    obtain ⟨⟨i', hi', ei'⟩, _⟩ := hV h (by omega)
    have e2 : tr n 2 = nI i' := kh0.symm.trans ei'
    have v2 : vp_in (tr n 2) 100 := by rw [e2]; exact vp_in_nI hi' (by decide)
    have c2 : (tr n 2).toNatClampNeg = i' := by rw [e2]; exact nI_clamp (by omega)
    have hpl : upd xpl i (-1) i' = nI h := by
      rw [hP' i' hi', ← ei']
      exact tl_FI_is (fun t ht => hV t (by omega)) hh
    have vh : vp_in (nI h) 60 := vp_in_nI (by omega) (by decide)
    have chh : (nI h).toNatClampNeg = h := nI_clamp (by omega)
    obtain ⟨⟨_, _, x2, x3, x4, _⟩, _⟩ := hB h (by omega)
    refine ⟨vn, br_f (by rw [k]; decide) ⟨vn, br_f (by rw [k]; decide) ⟨vn, v2, ?_⟩⟩⟩
    rw [c2, hpl]
    rintro _ rfl
    refine ⟨vn, br_f (by rw [k]; decide) ?_⟩
    unfold wX_undo_132
    refine tl_xrehold (by omega) (by omega) (by omega) (x2.trans ea) (x3.trans eb) x4 ?_
    refine K _ ⟨⟨rfl, rfl, rfl, rfl, rfl, rfl⟩, tl_XB_re hB' g0 g2, hP', ?_, tl_EN_unskip hE0 (fun q hq => by show ¬ tr n 9 = nI q; rw [k9]; exact tl_m1 (by omega)), tl_EN_unskip hE1 (fun q hq => by show ¬ tr n 10 = nI q; rw [k10]; exact tl_m1 (by omega)), hL, fun z => z.elim⟩
    refine tl_SF_c (tl_SF_ad hS (by omega) (by omega) (by decide) (tl_oi (tr h 4))) (fun x y _ _ => ?_)
    rw [tl_SM_rl k k7 hh kh1 g0 g1 g2, ea, eb]; omega
theorem tl_RX_c {f : Prop} {A : Nat} {bd : Nat → Int32} {T n : Nat} {tr tr' : Nat → Nat → Int32} {st st' : Nat → Int32} {ch : Int32} {l : Nat} {lk : Nat → Nat → Int32} {u : SX} (hn : n < 1000) (e : ∀ t, t < n → tr t = tr' t) (e2 : ∀ t, t < n → st t = st' t) (hX : tl_RX f A bd T n tr st ch l lk u) : tl_RX f A bd T n tr' st' ch l lk u := by
  obtain ⟨xA, xT, xN, xH, xC, xL, xbo, xsu, xid, xki, xon, xtw, xam, xli, xca, xst, xla, xpl, xfe, xle, xne, xpe, xhp, xlI, xlK, xlO, xlT, xlA, xlL⟩ := u
  obtain ⟨h0, hB, hP, hS, hE0, hE1, hL, hH⟩ := hX
  refine ⟨h0, tl_XB_c hB e (fun t ht => ((hB t ht).1.2.2.2.2.2.2.2).trans (e2 t ht)), fun i hi => ?_, tl_SF_c hS (fun x y _ _ => tl_SM_c n e e2), tl_EN_c (fun t ht => by rw [e t ht]) hE0, tl_EN_c (fun t ht => by rw [e t ht]) hE1, hL, fun z => ?_⟩
  · rw [hP i hi]
    exact tl_LS_c n (fun t ht => by rw [e t ht])
  · obtain ⟨m, em, hm⟩ := hH z
    exact ⟨m, em, tl_HP_c hm hn e (fun _ _ => rfl) (fun _ _ => rfl) (fun t ht q => (e2 t ht).trans q)⟩
/-- the states back through the k transfers done last -/
def tl_Bk (tr : Nat → Nat → Int32) (n0 : Nat) (st0 : Nat → Int32) : Nat → (Nat → Int32) → Prop
  | 0 => fun st => ∀ t, t < n0 → st t = st0 t
  | k + 1 => fun st => ∃ s : Nat → Int32, tl_ST tr (n0 + k) s st ∧ tl_Bk tr n0 st0 k s
theorem tl_Bk_c {tr tr' : Nat → Nat → Int32} {n0 : Nat} {st0 : Nat → Int32} : ∀ (k : Nat) (st : Nat → Int32), (∀ t, t < n0 + k → tr t = tr' t) → tl_Bk tr n0 st0 k st → tl_Bk tr' n0 st0 k st := by
  intro k
  induction k with
  | zero => intro st _ h; exact h
  | succ k ih =>
    rintro st e ⟨s, h1, h2⟩
    exact ⟨s, tl_ST_c (fun t ht => e t (by omega)) h1, ih s (fun t ht => e t (by omega)) h2⟩
def tl_s71 (post : Int32 → SX → Prop) (x1 x2 : Int32) (N : Nat) (x3 : Int32) (u : SX) : Prop := match u with
  | (xA, xT, xN, xH, xC, xL, xbo, xsu, xid, xki, xon, xtw, xam, xli, xca, xst, xla, xpl, xfe, xle, xne, xpe, xhp, xlI, xlK, xlO, xlT, xlA, xlL) => wX_seal_71 post x1 x2 N x3 xA xT xN xH xC xL xbo xsu xid xki xon xtw xam xli xca xst xla xpl xfe xle xne xpe xhp xlI xlK xlO xlT xlA xlL
theorem tl_back {A : Nat} {bd : Nat → Int32} {T n0 : Nat} {tr : Nat → Nat → Int32} {st0 : Nat → Int32} {ch : Int32} {l : Nat} {lk : Nat → Nat → Int32} {post : Int32 → SX → Prop} {k : Nat} {r : Int32} (hA : A ≤ 10) (hk : k < 1000) (K : ∀ u', tl_RX True A bd T n0 tr st0 ch l lk u' → post (r - (100 * (nI k + 1))) u') :
    ∀ (j i N : Nat) (st : Nat → Int32) (u : SX), i + j = k → j < N → n0 + j ≤ 60 → tl_Vs A T tr (n0 + j) → tl_RX False A bd T (n0 + j) tr st ch l lk u → tl_Bk tr n0 st0 j st → tl_s71 post (nI k) r N (nI i) u := by
  intro j
  induction j with
  | zero =>
    intro i N st u hij hN hn hV hX hb
    obtain ⟨N, rfl⟩ : ∃ N', N = N' + 1 := ⟨N - 1, by omega⟩
    have hX := tl_RX_c (by omega) (fun _ _ => rfl) hb hX
    obtain ⟨xA, xT, xN, xH, xC, xL, xbo, xsu, xid, xki, xon, xtw, xam, xli, xca, xst, xla, xpl, xfe, xle, xne, xpe, xhp, xlI, xlK, xlO, xlT, xlA, xlL⟩ := u
    obtain ⟨⟨rfl, rfl, rfl, rfl, rfl, rfl⟩, hB, hP, hS, hE0, hE1, hL, _⟩ := hX
    have e : i = k := by omega
    show wX_seal_71 _ _ _ _ _ _ _ _ _ _ _ _ _ _ _ _ _ _ _ _ _ _ _ _ _ _ _ _ _ _ _ _ _ _
    rw [wX_seal_71, e]
    dsimp only
    refine br_t (nI_le (Nat.le_refl k) (by omega)) ?_
    refine tl_xheapAll (by omega) (fun t ht => ⟨(hB t ht).1.2.1, (hB t ht).1.2.2.2.2.2.2.2, (hB t ht).1.2.2.2.2.2.1⟩) (fun m h hm => ?_)
    exact K _ ⟨⟨rfl, rfl, rfl, rfl, rfl, rfl⟩, hB, hP, hS, hE0, hE1, hL, fun _ => ⟨m, rfl, hm⟩⟩
  | succ j ih =>
    rintro i N st u hij hN hn hV hX ⟨s, hs, hb⟩
    obtain ⟨N, rfl⟩ : ∃ N', N = N' + 1 := ⟨N - 1, by omega⟩
    obtain ⟨xA, xT, xN, xH, xC, xL, xbo, xsu, xid, xki, xon, xtw, xam, xli, xca, xst, xla, xpl, xfe, xle, xne, xpe, xhp, xlI, xlK, xlO, xlT, xlA, xlL⟩ := u
    show wX_seal_71 _ _ _ _ _ _ _ _ _ _ _ _ _ _ _ _ _ _ _ _ _ _ _ _ _ _ _ _ _ _ _ _ _ _
    rw [wX_seal_71]
    dsimp only
    refine br_f (nI_ge (by omega) (by omega)) ?_
    refine tl_xundo (n := n0 + j) hA (by omega) hV hX hs (fun u' hu' => ?_)
    have := ih (i + 1) N s u' (by omega) (by omega) (by omega) (fun t ht => hV t (by omega)) hu' hb
    obtain ⟨xA, xT, xN, xH, xC, xL, xbo, xsu, xid, xki, xon, xtw, xam, xli, xca, xst, xla, xpl, xfe, xle, xne, xpe, xhp, xlI, xlK, xlO, xlT, xlA, xlL⟩ := u'
    intro z hz
    rw [hz, nI_1]
    exact this
end
section
/-! sealing a chain -/
theorem tl_cp {f g : Nat → Int32} {i : Nat} (h : ∀ j, j < i → f j = g j) : ∀ j, j < i + 1 → upd f i (g i) j = g j := by
  intro j hj
  by_cases e : j = i
  · rw [e, pk_us]
  · rw [pk_un e]; exact h j (by omega)
section
variable {yA yT yN yC yL : Int32} {ybo ysu yki yid ynu yst yen yho yca ylK ylI ylN ykS ykT : Nat → Int32}
theorem tl_ykeep28 {post : SY → Prop} (K : ∀ kt : Nat → Int32, (∀ j, j < 60 → kt j = yst j) → post (yA, yT, yN, yC, yL, ybo, ysu, yki, yid, ynu, yst, yen, yho, yca, ylK, ylI, ylN, ykS, kt)) : ∀ (d i N : Nat) (kt : Nat → Int32), i + d = 60 → d < N → (∀ j, j < i → kt j = yst j) → wY_keep_28 post yA yT yN yC yL N (nI i) ybo ysu yki yid ynu yst yen yho yca ylK ylI ylN ykS kt := by
  intro d
  induction d with
  | zero =>
    intro i N kt hd hN h
    obtain ⟨N, rfl⟩ : ∃ N', N = N' + 1 := ⟨N - 1, by omega⟩
    have e : i = 60 := by omega
    rw [e] at h ⊢
    rw [wY_keep_28]
    dsimp only
    exact br_t (by decide) (K kt h)
  | succ d ih =>
    intro i N kt hd hN h
    obtain ⟨N, rfl⟩ : ∃ N', N = N' + 1 := ⟨N - 1, by omega⟩
    have ci : (nI i).toNatClampNeg = i := nI_clamp (by omega)
    have vi : vp_in (nI i) 60 := vp_in_nI (by omega) (by decide)
    rw [wY_keep_28]
    dsimp only
    rw [ci, nI_1 i]
    refine br_f (nI_ge (b := 60) (by omega) (by decide)) ⟨vi, vi, ?_⟩
    rintro _ rfl _ rfl
    exact ih (i + 1) N _ (by omega) (by omega) (tl_cp h)
theorem tl_ykeep2 {post : SY → Prop} (K : ∀ ks kt : Nat → Int32, (∀ j, j < 40 → ks j = ysu j) → (∀ j, j < 60 → kt j = yst j) → post (yA, yT, yN, yC, yL, ybo, ysu, yki, yid, ynu, yst, yen, yho, yca, ylK, ylI, ylN, ks, kt)) : ∀ (d i N : Nat) (ks : Nat → Int32), i + d = 40 → d < N → (∀ j, j < i → ks j = ysu j) → wY_keep_2 post yA yT yN yC yL N (nI i) ybo ysu yki yid ynu yst yen yho yca ylK ylI ylN ks ykT := by
  intro d
  induction d with
  | zero =>
    intro i N ks hd hN h
    obtain ⟨N, rfl⟩ : ∃ N', N = N' + 1 := ⟨N - 1, by omega⟩
    have e : i = 40 := by omega
    rw [e] at h ⊢
    rw [wY_keep_2]
    dsimp only
    exact br_t (by decide) ⟨61, tl_ykeep28 (fun kt hkt => K ks kt h hkt) 60 0 61 ykT (by omega) (by omega) (fun j hj => by omega)⟩
  | succ d ih =>
    intro i N ks hd hN h
    obtain ⟨N, rfl⟩ : ∃ N', N = N' + 1 := ⟨N - 1, by omega⟩
    have ci : (nI i).toNatClampNeg = i := nI_clamp (by omega)
    have vi : vp_in (nI i) 40 := vp_in_nI (by omega) (by decide)
    rw [wY_keep_2]
    dsimp only
    rw [ci, nI_1 i]
    refine br_f (nI_ge (b := 40) (by omega) (by decide)) ⟨vi, vi, ?_⟩
    rintro _ rfl _ rfl
    exact ih (i + 1) N _ (by omega) (by omega) (tl_cp h)
theorem tl_ykeep {post : SY → Prop} (K : ∀ ks kt : Nat → Int32, (∀ j, j < 40 → ks j = ysu j) → (∀ j, j < 60 → kt j = yst j) → post (yA, yT, yN, yC, yL, ybo, ysu, yki, yid, ynu, yst, yen, yho, yca, ylK, ylI, ylN, ks, kt)) : wpY_keep post (yA, yT, yN, yC, yL, ybo, ysu, yki, yid, ynu, yst, yen, yho, yca, ylK, ylI, ylN, ykS, ykT) := by
  unfold wpY_keep
  dsimp only
  exact ⟨41, tl_ykeep2 K 40 0 41 ykS (by omega) (by omega) (fun j hj => by omega)⟩
theorem tl_yback33 {post : SY → Prop} (K : ∀ s : Nat → Int32, (∀ j, j < 60 → s j = ykT j) → post (yA, yT, yN, yC, yL, ybo, ysu, yki, yid, ynu, s, yen, yho, yca, ylK, ylI, ylN, ykS, ykT)) : ∀ (d i N : Nat) (s : Nat → Int32), i + d = 60 → d < N → (∀ j, j < i → s j = ykT j) → wY_takeBack_33 post yA yT yN yC yL N (nI i) ybo ysu yki yid ynu s yen yho yca ylK ylI ylN ykS ykT := by
  intro d
  induction d with
  | zero =>
    intro i N s hd hN h
    obtain ⟨N, rfl⟩ : ∃ N', N = N' + 1 := ⟨N - 1, by omega⟩
    have e : i = 60 := by omega
    rw [e] at h ⊢
    rw [wY_takeBack_33]
    dsimp only
    exact br_t (by decide) (K s h)
  | succ d ih =>
    intro i N s hd hN h
    obtain ⟨N, rfl⟩ : ∃ N', N = N' + 1 := ⟨N - 1, by omega⟩
    have ci : (nI i).toNatClampNeg = i := nI_clamp (by omega)
    have vi : vp_in (nI i) 60 := vp_in_nI (by omega) (by decide)
    rw [wY_takeBack_33]
    dsimp only
    rw [ci, nI_1 i]
    refine br_f (nI_ge (b := 60) (by omega) (by decide)) ⟨vi, vi, ?_⟩
    rintro _ rfl _ rfl
    exact ih (i + 1) N _ (by omega) (by omega) (tl_cp h)
theorem tl_yback7 {post : SY → Prop} (K : ∀ su s : Nat → Int32, (∀ j, j < 40 → su j = ykS j) → (∀ j, j < 60 → s j = ykT j) → post (yA, yT, yN, yC, yL, ybo, su, yki, yid, ynu, s, yen, yho, yca, ylK, ylI, ylN, ykS, ykT)) : ∀ (d i N : Nat) (su : Nat → Int32), i + d = 40 → d < N → (∀ j, j < i → su j = ykS j) → wY_takeBack_7 post yA yT yN yC yL N (nI i) ybo su yki yid ynu yst yen yho yca ylK ylI ylN ykS ykT := by
  intro d
  induction d with
  | zero =>
    intro i N su hd hN h
    obtain ⟨N, rfl⟩ : ∃ N', N = N' + 1 := ⟨N - 1, by omega⟩
    have e : i = 40 := by omega
    rw [e] at h ⊢
    rw [wY_takeBack_7]
    dsimp only
    exact br_t (by decide) ⟨61, tl_yback33 (fun s hs => K su s h hs) 60 0 61 yst (by omega) (by omega) (fun j hj => by omega)⟩
  | succ d ih =>
    intro i N su hd hN h
    obtain ⟨N, rfl⟩ : ∃ N', N = N' + 1 := ⟨N - 1, by omega⟩
    have ci : (nI i).toNatClampNeg = i := nI_clamp (by omega)
    have vi : vp_in (nI i) 40 := vp_in_nI (by omega) (by decide)
    rw [wY_takeBack_7]
    dsimp only
    rw [ci, nI_1 i]
    refine br_f (nI_ge (b := 40) (by omega) (by decide)) ⟨vi, vi, ?_⟩
    rintro _ rfl _ rfl
    exact ih (i + 1) N _ (by omega) (by omega) (tl_cp h)
theorem tl_yback {post : SY → Prop} {p : Int32} (K : ∀ su s : Nat → Int32, (∀ j, j < 40 → su j = ykS j) → (∀ j, j < 60 → s j = ykT j) → post (yA, yT, p, yC, yL, ybo, su, yki, yid, ynu, s, yen, yho, yca, ylK, ylI, ylN, ykS, ykT)) : wpY_takeBack post (yA, yT, yN, yC, yL, ybo, ysu, yki, yid, ynu, yst, yen, yho, yca, ylK, ylI, ylN, ykS, ykT) p := by
  unfold wpY_takeBack
  dsimp only
  exact ⟨41, tl_yback7 K 40 0 41 ysu (by omega) (by omega) (fun j hj => by omega)⟩
end
def tl_s16 (post : Int32 → SX → Prop) (N : Nat) (x1 : Int32) (u : SX) : Prop := match u with
  | (xA, xT, xN, xH, xC, xL, xbo, xsu, xid, xki, xon, xtw, xam, xli, xca, xst, xla, xpl, xfe, xle, xne, xpe, xhp, xlI, xlK, xlO, xlT, xlA, xlL) => wX_seal_16 post N x1 xA xT xN xH xC xL xbo xsu xid xki xon xtw xam xli xca xst xla xpl xfe xle xne xpe xhp xlI xlK xlO xlT xlA xlL
def tl_s25 (post : Int32 → SY → Prop) (b : Int32) (N : Nat) (x1 : Int32) (v : SY) : Prop := match v with
  | (yA, yT, yN, yC, yL, ybo, ysu, yki, yid, ynu, yst, yen, yho, yca, ylK, ylI, ylN, ykS, ykT) => wY_seal_25 post b N x1 yA yT yN yC yL ybo ysu yki yid ynu yst yen yho yca ylK ylI ylN ykS ykT
theorem tl_s16_i {xA xT xN xH xC xL : Int32} {xbo xsu xid xki xon xtw xam xli xca xst xla xpl xfe xle xne xpe xhp xlI xlK xlO xlT xlA xlL : Nat → Int32} {post : Int32 → SX → Prop} {N : Nat} {x1 : Int32} (h : tl_s16 post N x1 (xA, xT, xN, xH, xC, xL, xbo, xsu, xid, xki, xon, xtw, xam, xli, xca, xst, xla, xpl, xfe, xle, xne, xpe, xhp, xlI, xlK, xlO, xlT, xlA, xlL)) : wX_seal_16 post N x1 xA xT xN xH xC xL xbo xsu xid xki xon xtw xam xli xca xst xla xpl xfe xle xne xpe xhp xlI xlK xlO xlT xlA xlL := h
theorem tl_s25_i {yA yT yN yC yL : Int32} {ybo ysu yki yid ynu yst yen yho yca ylK ylI ylN ykS ykT : Nat → Int32} {post : Int32 → SY → Prop} {b : Int32} {N : Nat} {x1 : Int32} (h : tl_s25 post b N x1 (yA, yT, yN, yC, yL, ybo, ysu, yki, yid, ynu, yst, yen, yho, yca, ylK, ylI, ylN, ykS, ykT)) : wY_seal_25 post b N x1 yA yT yN yC yL ybo ysu yki yid ynu yst yen yho yca ylK ylI ylN ykS ykT := h
theorem tl_SFk {F : Nat → Nat → Int} {su ks : Nat → Int32} (h : tl_SF F ks) (e : ∀ j, j < 40 → su j = ks j) : tl_SF F su := fun a ha w hw => by
  rw [e _ (by omega)]; exact h a ha w hw
theorem tl_seal {A : Nat} {bd : Nat → Int32} {T l n0 : Nat} {lk tr0 : Nat → Nat → Int32} {st0 : Nat → Int32} (hI0 : tl_Iv A bd T n0 tr0 st0 l lk) :
    ∀ (d k : Nat) (tr : Nat → Nat → Int32) (st : Nat → Int32), k + d = l → tl_Iv A bd T (n0 + k) tr st l lk → tl_Bk tr n0 st0 k st → (∀ t, t < n0 → tr t = tr0 t) →
    ∃ (r : Int32) (n' : Nat) (tr' : Nat → Nat → Int32) (st' : Nat → Int32), tl_Iv A bd T n' tr' st' l lk ∧
      (∀ u : SX, tl_RX True A bd T (n0 + k) tr st 0 l lk u → ∀ (post : Int32 → SX → Prop) (N : Nat), d < N → (∀ u', tl_RX True A bd T n' tr' st' 0 l lk u' → post r u') → tl_s16 post N (nI k) u) ∧
      (∀ (ks kt : Nat → Int32) (v : SY), tl_SF (tl_SM tr0 st0 n0) ks → (∀ t, t < n0 → kt t = st0 t) → tl_RY A bd T (n0 + k) tr st 0 l lk ks kt v → ∀ (post : Int32 → SY → Prop) (N : Nat), d < N → (∀ v', tl_RY A bd T n' tr' st' 0 l lk ks kt v' → post r v') → tl_s25 post (nI n0) N (nI k) v) := by
  intro d
  induction d with
  | zero =>
    intro k tr st hk hI hb et
    refine ⟨nI l, n0 + k, tr, st, hI, fun u hX post N hN K => ?_, fun ks kt v _ _ hY post N hN K => ?_⟩
    · obtain ⟨N, rfl⟩ : ∃ N', N = N' + 1 := ⟨N - 1, by omega⟩
      have K' := K _ hX
      obtain ⟨xA, xT, xN, xH, xC, xL, xbo, xsu, xid, xki, xon, xtw, xam, xli, xca, xst, xla, xpl, xfe, xle, xne, xpe, xhp, xlI, xlK, xlO, xlT, xlA, xlL⟩ := u
      obtain ⟨⟨_, _, _, _, rfl, _⟩, _⟩ := hX
      show wX_seal_16 _ _ _ _ _ _ _ _ _ _ _ _ _ _ _ _ _ _ _ _ _ _ _ _ _ _ _ _ _ _ _ _
      rw [wX_seal_16, show k = l by omega]
      dsimp only
      exact br_t (nI_le (Nat.le_refl l) (by have := hI.2.2.2.1; omega)) K'
    · obtain ⟨N, rfl⟩ : ∃ N', N = N' + 1 := ⟨N - 1, by omega⟩
      have K' := K _ hY
      obtain ⟨yA, yT, yN, yC, yL, ybo, ysu, yki, yid, ynu, yst, yen, yho, yca, ylK, ylI, ylN, ykS, ykT⟩ := v
      obtain ⟨⟨_, _, _, _, rfl, _⟩, _⟩ := hY
      show wY_seal_25 _ _ _ _ _ _ _ _ _ _ _ _ _ _ _ _ _ _ _ _ _ _ _
      rw [wY_seal_25, show k = l by omega]
      dsimp only
      exact br_t (nI_le (Nat.le_refl l) (by have := hI.2.2.2.1; omega)) K'
  | succ d ih =>
    intro k tr st hk hI hb et
    have hl8 : l ≤ 8 := hI.2.2.2.1
    have hA : A ≤ 10 := hI.1
    have hn60 : n0 + k ≤ 60 := hI.2.2.1
    have hV : tl_Vs A T tr (n0 + k) := hI.2.2.2.2.2.1
    have hwf : tl_WF (lk k) := hI.2.2.2.2.2.2.2 k (by omega)
    have vk : vp_in (nI k) 8 := vp_in_nI (by omega) (by decide)
    have ck : (nI k).toNatClampNeg = k := nI_clamp (by omega)
    have v0 : vp_in (nI (4 * k)) 32 := vp_in_nI (by omega) (by decide)
    have v1 : vp_in (nI (4 * k + 1)) 32 := vp_in_nI (by omega) (by decide)
    have v2 : vp_in (nI (4 * k + 2)) 32 := vp_in_nI (by omega) (by decide)
    have v3 : vp_in (nI (4 * k + 3)) 32 := vp_in_nI (by omega) (by decide)
    have c0 : (nI (4 * k)).toNatClampNeg = 4 * k := nI_clamp (by omega)
    have c1 : (nI (4 * k + 1)).toNatClampNeg = 4 * k + 1 := nI_clamp (by omega)
    have c2 : (nI (4 * k + 2)).toNatClampNeg = 4 * k + 2 := nI_clamp (by omega)
    have c3 : (nI (4 * k + 3)).toNatClampNeg = 4 * k + 3 := nI_clamp (by omega)
    have toX : ∀ u : SX, tl_RX True A bd T (n0 + k) tr st 0 l lk u → ∀ (post : Int32 → SX → Prop) (N : Nat), wpX_perform (fun r u => (0 ≤ r → tl_s16 post N (nI (k + 1)) u) ∧ (¬ 0 ≤ r → ∃ n71 : Nat, tl_s71 post (nI k) r n71 0 u)) u (lk k 0) (lk k 1) (lk k 2) (lk k 3) (lk k 4) (lk k 5) → tl_s16 post (N + 1) (nI k) u := by
      intro u hX post N K
      obtain ⟨xA, xT, xN, xH, xC, xL, xbo, xsu, xid, xki, xon, xtw, xam, xli, xca, xst, xla, xpl, xfe, xle, xne, xpe, xhp, xlI, xlK, xlO, xlT, xlA, xlL⟩ := u
      obtain ⟨⟨_, _, _, _, rfl, _⟩, _, _, _, _, _, hL, _⟩ := hX
      obtain ⟨l0, l1, l2, l3, l4, l5⟩ := hL k (by omega)
      show wX_seal_16 _ _ _ _ _ _ _ _ _ _ _ _ _ _ _ _ _ _ _ _ _ _ _ _ _ _ _ _ _ _ _ _
      rw [wX_seal_16]
      dsimp only
      rw [ck, l0, l1, l2, l3, l4, l5, nI_1 k]
      refine br_f (nI_ge (by omega) (by omega)) ⟨vk, vk, vk, vk, vk, vk, ?_⟩
      have e : (fun (r_9 : Int32) (u : SX) => match u with | (xA, xT, xN, xH, xC, xL, xbo, xsu, xid, xki, xon, xtw, xam, xli, xca, xst, xla, xpl, xfe, xle, xne, xpe, xhp, xlI, xlK, xlO, xlT, xlA, xlL) => (0 ≤ r_9 → ∀ (x1_40 : Int32), x1_40 = nI (k + 1) → wX_seal_16 post N x1_40 xA xT xN xH xC xL xbo xsu xid xki xon xtw xam xli xca xst xla xpl xfe xle xne xpe xhp xlI xlK xlO xlT xlA xlL) ∧ (¬ 0 ≤ r_9 → ∃ n71 : Nat, wX_seal_71 post (nI k) r_9 n71 0 xA xT xN xH xC xL xbo xsu xid xki xon xtw xam xli xca xst xla xpl xfe xle xne xpe xhp xlI xlK xlO xlT xlA xlL)) = (fun r u => (0 ≤ r → tl_s16 post N (nI (k + 1)) u) ∧ (¬ 0 ≤ r → ∃ n71 : Nat, tl_s71 post (nI k) r n71 0 u)) := by
        funext r u
        obtain ⟨xA, xT, xN, xH, xC, xL, xbo, xsu, xid, xki, xon, xtw, xam, xli, xca, xst, xla, xpl, xfe, xle, xne, xpe, xhp, xlI, xlK, xlO, xlT, xlA, xlL⟩ := u
        apply propext
        constructor
        · rintro ⟨z1, z2⟩
          exact ⟨fun z => z1 z _ rfl, z2⟩
        · rintro ⟨z1, z2⟩
          exact ⟨fun z x hx => by rw [hx]; exact z1 z, z2⟩
      rw [← e] at K
      exact K
    have toY : ∀ (ks kt : Nat → Int32) (v : SY), tl_RY A bd T (n0 + k) tr st 0 l lk ks kt v → ∀ (post : Int32 → SY → Prop) (N : Nat), wpY_doTransfer (fun r v => (0 ≤ r → tl_s25 post (nI n0) N (nI (k + 1)) v) ∧ (¬ 0 ≤ r → wpY_takeBack (fun v => post (((-100) * (nI k + 1)) + r) v) v (nI n0))) v (lk k 1) (lk k 0) (lk k 2) (tl_n1 (lk k)) (tl_n2 (lk k)) (lk k 5) → tl_s25 post (nI n0) (N + 1) (nI k) v := by
      intro ks kt v hY post N K
      obtain ⟨yA, yT, yN, yC, yL, ybo, ysu, yki, yid, ynu, yst, yen, yho, yca, ylK, ylI, ylN, ykS, ykT⟩ := v
      obtain ⟨⟨_, _, _, _, rfl, _⟩, _, _, hL, _⟩ := hY
      obtain ⟨l1, l0, l2, l3, l4, l5⟩ := hL k (by omega)
      show wY_seal_25 _ _ _ _ _ _ _ _ _ _ _ _ _ _ _ _ _ _ _ _ _ _ _
      rw [wY_seal_25]
      dsimp only
      rw [tl_j1, tl_j2, tl_j3, tl_j0, ck, c0, c1, c2, c3, l0, l1, l2, l3, l4, l5]
      refine br_f (nI_ge (by omega) (by omega)) ⟨vk, vk, v0, v1, v2, v3, ?_⟩
      have e : (fun (r_29 : Int32) (v : SY) => match v with | (yA, yT, yN, yC, yL, ybo, ysu, yki, yid, ynu, yst, yen, yho, yca, ylK, ylI, ylN, ykS, ykT) => (0 ≤ r_29 → ∀ (x2_50 : Int32), x2_50 = nI k + 1 → wY_seal_25 post (nI n0) N x2_50 yA yT yN yC yL ybo ysu yki yid ynu yst yen yho yca ylK ylI ylN ykS ykT) ∧ (¬ 0 ≤ r_29 → wpY_takeBack (fun v => match v with | (yA, yT, yN, yC, yL, ybo, ysu, yki, yid, ynu, yst, yen, yho, yca, ylK, ylI, ylN, ykS, ykT) => post (((-100) * (nI k + 1)) + r_29) (yA, yT, yN, yC, yL, ybo, ysu, yki, yid, ynu, yst, yen, yho, yca, ylK, ylI, ylN, ykS, ykT)) (yA, yT, yN, yC, yL, ybo, ysu, yki, yid, ynu, yst, yen, yho, yca, ylK, ylI, ylN, ykS, ykT) (nI n0))) = (fun r v => (0 ≤ r → tl_s25 post (nI n0) N (nI (k + 1)) v) ∧ (¬ 0 ≤ r → wpY_takeBack (fun v => post (((-100) * (nI k + 1)) + r) v) v (nI n0))) := by
        funext r v
        obtain ⟨yA, yT, yN, yC, yL, ybo, ysu, yki, yid, ynu, yst, yen, yho, yca, ylK, ylI, ylN, ykS, ykT⟩ := v
        apply propext
        constructor
        · rintro ⟨z1, z2⟩
          exact ⟨fun z => z1 z _ (nI_1 k).symm, z2⟩
        · rintro ⟨z1, z2⟩
          exact ⟨fun z x hx => by rw [hx, nI_1 k]; exact z1 z, z2⟩
      rw [← e] at K
      exact K
    rcases tl_out (ch := 0) hI hwf with ⟨r, hr, fX, fY⟩ | ⟨w', st', hn, hI', hST, fX, fY⟩
    · have er : ((-100) * (nI k + 1)) + r = r - (100 * (nI k + 1)) := by
        rw [Int32.sub_eq_add_neg, ← Int32.neg_mul, Int32.add_comm]
      have hnr : ¬ 0 ≤ r := Int32.not_le.mpr hr
      refine ⟨r - (100 * (nI k + 1)), n0, tr0, st0, hI0, fun u hX post N hN K => ?_, fun ks kt v hks hkt hY post N hN K => ?_⟩
      · obtain ⟨N, rfl⟩ : ∃ N', N = N' + 1 := ⟨N - 1, by omega⟩
        refine toX u hX post N (fX u hX _ (br_f hnr ⟨k + 1, ?_⟩))
        exact tl_back hA (by omega) (fun u' hu' => K u' (tl_RX_c (by omega) et (fun _ _ => rfl) hu')) k 0 (k + 1) st u (by omega) (by omega) hn60 hV (tl_Iv_rx hX) hb
      · obtain ⟨N, rfl⟩ : ∃ N', N = N' + 1 := ⟨N - 1, by omega⟩
        refine toY ks kt v hY post N (fY ks kt v hY _ (fun v' hv' => br_f hnr ?_))
        obtain ⟨yA, yT, yN, yC, yL, ybo, ysu, yki, yid, ynu, yst, yen, yho, yca, ylK, ylI, ylN, ykS, ykT⟩ := v'
        obtain ⟨⟨rfl, rfl, rfl, e4, rfl, rfl⟩, hBY, hSY, hLY, rfl, rfl⟩ := hv'
        refine tl_yback (fun su s h1 h2 => ?_)
        rw [er]
        refine K _ ⟨⟨rfl, rfl, rfl, e4, rfl, rfl⟩, ?_, tl_SFk hks h1, hLY, rfl, rfl⟩
        exact tl_YB_c (st := st) (s := yst) (fun t ht => hBY t (by omega)) et (fun t ht => (h2 t (by omega)).trans (hkt t ht))
    · have eap : ∀ t, t < n0 + k → tr t = tl_ap tr (n0 + k) w' t := fun t ht => (tl_ap_n (by omega)).symm
      have hbk : tl_Bk (tl_ap tr (n0 + k) w') n0 st0 (k + 1) st' := ⟨st, hST, tl_Bk_c k st eap hb⟩
      have et' : ∀ t, t < n0 → tl_ap tr (n0 + k) w' t = tr0 t := fun t ht => by rw [tl_ap_n (by omega)]; exact et t ht
      obtain ⟨r, n', tr', st'', hI'', gX, gY⟩ := ih (k + 1) (tl_ap tr (n0 + k) w') st' (by omega) hI' hbk et'
      refine ⟨r, n', tr', st'', hI'', fun u hX post N hN K => ?_, fun ks kt v hks hkt hY post N hN K => ?_⟩
      · obtain ⟨N, rfl⟩ : ∃ N', N = N' + 1 := ⟨N - 1, by omega⟩
        exact toX u hX post N (fX u hX _ (fun u' hu' => br_t (by decide) (gX u' hu' post N (by omega) K)))
      · obtain ⟨N, rfl⟩ : ∃ N', N = N' + 1 := ⟨N - 1, by omega⟩
        exact toY ks kt v hY post N (fY ks kt v hY _ (fun v' hv' => br_t (by decide) (gY ks kt v' hks hkt hv' post N (by omega) K)))
theorem i_vc_seal {k : Nat} {u : SX} {v : SY} (I : i_Rel k u v) (hk : k + 6 ≤ 3072) : wpX_seal (fun r u' => wpY_seal (fun r' v' => r' = r ∧ i_Rel (k + 6) u' v') v) u := by
  obtain ⟨A, bd, T, n, tr, st, ch, l, lk, ks, kt, hT, hI, hX, hY⟩ := I
  by_cases hc : ch = 0
  · have I' : i_Rel (k + 6) u v := ⟨A, bd, T, n, tr, st, ch, l, lk, ks, kt, by omega, hI, hX, hY⟩
    obtain ⟨xA, xT, xN, xH, xC, xL, xbo, xsu, xid, xki, xon, xtw, xam, xli, xca, xst, xla, xpl, xfe, xle, xne, xpe, xhp, xlI, xlK, xlO, xlT, xlA, xlL⟩ := u
    obtain ⟨yA, yT, yN, yC, yL, ybo, ysu, yki, yid, ynu, yst, yen, yho, yca, ylK, ylI, ylN, ykS, ykT⟩ := v
    obtain ⟨⟨_, _, _, e4, _, _⟩, _⟩ := hX
    obtain ⟨⟨_, _, _, f4, _, _⟩, _⟩ := hY
    exact br_t (e4.trans hc) (br_t (f4.trans hc) ⟨rfl, I'⟩)
  · obtain ⟨r, n', tr', st', hI', gX, gY⟩ := tl_seal hI l 0 tr st (by omega) hI (fun _ _ => rfl) (fun _ _ => rfl)
    have hn := hI.2.2.1
    obtain ⟨xA, xT, xN, xH, xC, xL, xbo, xsu, xid, xki, xon, xtw, xam, xli, xca, xst, xla, xpl, xfe, xle, xne, xpe, xhp, xlI, xlK, xlO, xlT, xlA, xlL⟩ := u
    obtain ⟨yA, yT, yN, yC, yL, ybo, ysu, yki, yid, ynu, yst, yen, yho, yca, ylK, ylI, ylN, ykS, ykT⟩ := v
    obtain ⟨⟨rfl, rfl, rfl, e4, rfl, rfl⟩, hX1⟩ := hX
    obtain ⟨⟨rfl, rfl, rfl, f4, rfl, rfl⟩, hBY, hSY, hLY, rfl, rfl⟩ := hY
    unfold wpX_seal
    refine br_f (fun z => hc (e4.symm.trans z)) ⟨l + 1, ?_⟩
    refine tl_s16_i ?_
    refine gX (nI A, nI T, nI n, xH, 0, nI l, ybo, xsu, xid, xki, xon, xtw, xam, xli, xca, xst, xla, xpl, xfe, xle, xne, xpe, xhp, xlI, xlK, xlO, xlT, xlA, xlL) ⟨⟨rfl, rfl, rfl, rfl, rfl, rfl⟩, hX1⟩ _ (l + 1) (by omega) (fun u' hu' => ?_)
    unfold wpY_seal
    refine br_f (fun z => hc (f4.symm.trans z)) ?_
    refine tl_ykeep (fun ks' kt' h1 h2 => ?_)
    refine ⟨l + 1, ?_⟩
    refine tl_s25_i ?_
    refine gY ks' kt' (nI A, nI T, nI n, 0, nI l, ybo, ysu, yki, yid, ynu, yst, yen, yho, yca, ylK, ylI, ylN, ks', kt') (tl_SFk hSY h1) (fun t ht => (h2 t (by omega)).trans (hBY t ht).1.2.2.2.2.2.2) ⟨⟨rfl, rfl, rfl, rfl, rfl, rfl⟩, hBY, hSY, hLY, rfl, rfl⟩ _ (l + 1) (by omega) (fun v' hv' => ?_)
    exact ⟨rfl, A, ybo, T, n', tr', st', 0, l, lk, ks', kt', by omega, hI', hu', hv'⟩
end
section
/-! calls taken: done at once or listed in the chain -/
theorem tl_XL_ap {l : Nat} {lk : Nat → Nat → Int32} {lI lK lO lT lA lL : Nat → Int32} {w : Nat → Int32} (h : tl_XL l lk lI lK lO lT lA lL) : tl_XL (l + 1) (tl_ap lk l w) (upd lI l (w 0)) (upd lK l (w 1)) (upd lO l (w 2)) (upd lT l (w 3)) (upd lA l (w 4)) (upd lL l (w 5)) := by
  intro j hj
  by_cases e : j = l
  · rw [e, tl_ap_s, pk_us, pk_us, pk_us, pk_us, pk_us, pk_us]
    exact ⟨rfl, rfl, rfl, rfl, rfl, rfl⟩
  · rw [tl_ap_n e, pk_un e, pk_un e, pk_un e, pk_un e, pk_un e, pk_un e]
    exact h j (by omega)
theorem tl_YL_ap {l : Nat} {lk : Nat → Nat → Int32} {lK lI lN : Nat → Int32} {w : Nat → Int32} (h : tl_YL l lk lK lI lN) : tl_YL (l + 1) (tl_ap lk l w) (upd lK l (w 1)) (upd lI l (w 0)) (upd (upd (upd (upd lN (4 * l) (w 2)) (4 * l + 1) (tl_n1 w)) (4 * l + 2) (tl_n2 w)) (4 * l + 3) (w 5)) := by
  intro t ht
  by_cases e : t = l
  · rw [e, tl_ap_s, pk_us, pk_us, pk_us]
    refine ⟨rfl, rfl, ?_, ?_, ?_, rfl⟩
    · rw [pk_un (by omega), pk_un (by omega), pk_un (by omega), pk_us]
    · rw [pk_un (by omega), pk_un (by omega), pk_us]
    · rw [pk_un (by omega), pk_us]
  · obtain ⟨a, b, c, d, f, g⟩ := h t (by omega)
    rw [tl_ap_n e, pk_un e, pk_un e]
    refine ⟨a, b, ?_, ?_, ?_, ?_⟩
    · rw [pk_un (by omega), pk_un (by omega), pk_un (by omega), pk_un (by omega)]; exact c
    · rw [pk_un (by omega), pk_un (by omega), pk_un (by omega), pk_un (by omega)]; exact d
    · rw [pk_un (by omega), pk_un (by omega), pk_un (by omega), pk_un (by omega)]; exact f
    · rw [pk_un (by omega), pk_un (by omega), pk_un (by omega), pk_un (by omega)]; exact g
theorem tl_acc {A : Nat} {bd : Nat → Int32} {T n : Nat} {tr : Nat → Nat → Int32} {st : Nat → Int32} {ch : Int32} {l : Nat} {lk : Nat → Nat → Int32} {w : Nat → Int32} (hI : tl_Iv A bd T n tr st l lk) (wf : tl_WF w) :
    ∃ (r : Int32) (n' : Nat) (tr' : Nat → Nat → Int32) (st' : Nat → Int32) (l' : Nat) (lk' : Nat → Nat → Int32), tl_Iv A bd T n' tr' st' l' lk' ∧
      (∀ u : SX, tl_RX True A bd T n tr st ch l lk u → ∀ post : Int32 → SX → Prop, (∀ u', tl_RX True A bd T n' tr' st' ch l' lk' u' → post r u') → wpX_accept post u (w 0) (w 1) (w 2) (w 3) (w 4) (w 5)) ∧
      (∀ (ks kt : Nat → Int32) (v : SY), tl_RY A bd T n tr st ch l lk ks kt v → ∀ post : Int32 → SY → Prop, (∀ v', tl_RY A bd T n' tr' st' ch l' lk' ks kt v' → post r v') → wpY_give post v (w 1) (w 0) (w 2) (tl_n1 w) (tl_n2 w) (w 5)) := by
  by_cases hc : ch = 0
  · have eX : ∀ u : SX, tl_RX True A bd T n tr st ch l lk u → ∀ post : Int32 → SX → Prop, wpX_perform post u (w 0) (w 1) (w 2) (w 3) (w 4) (w 5) → wpX_accept post u (w 0) (w 1) (w 2) (w 3) (w 4) (w 5) := by
      intro u hX post K
      obtain ⟨xA, xT, xN, xH, xC, xL, xbo, xsu, xid, xki, xon, xtw, xam, xli, xca, xst, xla, xpl, xfe, xle, xne, xpe, xhp, xlI, xlK, xlO, xlT, xlA, xlL⟩ := u
      obtain ⟨⟨_, _, _, e4, _, _⟩, _⟩ := hX
      exact br_t (e4.trans hc) K
    have eY : ∀ (ks kt : Nat → Int32) (v : SY), tl_RY A bd T n tr st ch l lk ks kt v → ∀ post : Int32 → SY → Prop, wpY_doTransfer post v (w 1) (w 0) (w 2) (tl_n1 w) (tl_n2 w) (w 5) → wpY_give post v (w 1) (w 0) (w 2) (tl_n1 w) (tl_n2 w) (w 5) := by
      intro ks kt v hY post K
      obtain ⟨yA, yT, yN, yC, yL, ybo, ysu, yki, yid, ynu, yst, yen, yho, yca, ylK, ylI, ylN, ykS, ykT⟩ := v
      obtain ⟨⟨_, _, _, e4, _, _⟩, _⟩ := hY
      exact br_t (e4.trans hc) K
    rcases tl_out (ch := ch) hI wf with ⟨r, hr, fX, fY⟩ | ⟨w', st', hn, hI', hST, fX, fY⟩
    · exact ⟨r, n, tr, st, l, lk, hI, fun u hX post K => eX u hX post (fX u hX post (K u hX)), fun ks kt v hY post K => eY ks kt v hY post (fY ks kt v hY post K)⟩
    · exact ⟨1, n + 1, tl_ap tr n w', st', l, lk, hI', fun u hX post K => eX u hX post (fX u hX post K), fun ks kt v hY post K => eY ks kt v hY post (fY ks kt v hY post K)⟩
  · have hl : l ≤ 8 := hI.2.2.2.1
    by_cases h8 : l = 8
    · refine ⟨-20, n, tr, st, l, lk, hI, fun u hX post K => ?_, fun ks kt v hY post K => ?_⟩
      · have K' := K u hX
        obtain ⟨xA, xT, xN, xH, xC, xL, xbo, xsu, xid, xki, xon, xtw, xam, xli, xca, xst, xla, xpl, xfe, xle, xne, xpe, xhp, xlI, xlK, xlO, xlT, xlA, xlL⟩ := u
        obtain ⟨⟨_, _, _, e4, rfl, _⟩, _⟩ := hX
        exact br_f (fun z => hc (e4.symm.trans z)) (br_f (by rw [h8]; decide) K')
      · have K' := K v hY
        obtain ⟨yA, yT, yN, yC, yL, ybo, ysu, yki, yid, ynu, yst, yen, yho, yca, ylK, ylI, ylN, ykS, ykT⟩ := v
        obtain ⟨⟨_, _, _, e4, rfl, _⟩, _⟩ := hY
        exact br_f (fun z => hc (e4.symm.trans z)) (br_t (by rw [h8]; rfl) K')
    · have vl : vp_in (nI l) 8 := vp_in_nI (by omega) (by decide)
      have cl : (nI l).toNatClampNeg = l := nI_clamp (by omega)
      have v0 : vp_in (nI (4 * l)) 32 := vp_in_nI (by omega) (by decide)
      have v1 : vp_in (nI (4 * l + 1)) 32 := vp_in_nI (by omega) (by decide)
      have v2 : vp_in (nI (4 * l + 2)) 32 := vp_in_nI (by omega) (by decide)
      have v3 : vp_in (nI (4 * l + 3)) 32 := vp_in_nI (by omega) (by decide)
      have c0 : (nI (4 * l)).toNatClampNeg = 4 * l := nI_clamp (by omega)
      have c1 : (nI (4 * l + 1)).toNatClampNeg = 4 * l + 1 := nI_clamp (by omega)
      have c2 : (nI (4 * l + 2)).toNatClampNeg = 4 * l + 2 := nI_clamp (by omega)
      have c3 : (nI (4 * l + 3)).toNatClampNeg = 4 * l + 3 := nI_clamp (by omega)
      obtain ⟨hA, hT, hn, _, hSS, hV, hN, hLW⟩ := hI
      refine ⟨100 + nI (l + 1), n, tr, st, l + 1, tl_ap lk l w, ⟨hA, hT, hn, by omega, hSS, hV, hN, fun j hj => ?_⟩, fun u hX post K => ?_, fun ks kt v hY post K => ?_⟩
      · by_cases e : j = l
        · rw [e, tl_ap_s]; exact wf
        · rw [tl_ap_n e]; exact hLW j (by omega)
      · obtain ⟨xA, xT, xN, xH, xC, xL, xbo, xsu, xid, xki, xon, xtw, xam, xli, xca, xst, xla, xpl, xfe, xle, xne, xpe, xhp, xlI, xlK, xlO, xlT, xlA, xlL⟩ := u
        obtain ⟨⟨rfl, rfl, rfl, e4, rfl, rfl⟩, hB, hP, hS, hE0, hE1, hL, hH⟩ := hX
        unfold wpX_accept
        dsimp only
        rw [cl, nI_1 l]
        refine br_f (fun z => hc (e4.symm.trans z)) (br_t (nI_lt (b := 8) (by omega) (by decide)) ⟨vl, ?_⟩)
        rintro _ rfl
        refine ⟨vl, ?_⟩
        rintro _ rfl
        refine ⟨vl, ?_⟩
        rintro _ rfl
        refine ⟨vl, ?_⟩
        rintro _ rfl
        refine ⟨vl, ?_⟩
        rintro _ rfl
        refine ⟨vl, ?_⟩
        rintro _ rfl _ rfl
        exact K _ ⟨⟨rfl, rfl, rfl, e4, rfl, rfl⟩, hB, hP, hS, hE0, hE1, tl_XL_ap hL, hH⟩
      · obtain ⟨yA, yT, yN, yC, yL, ybo, ysu, yki, yid, ynu, yst, yen, yho, yca, ylK, ylI, ylN, ykS, ykT⟩ := v
        obtain ⟨⟨rfl, rfl, rfl, e4, rfl, rfl⟩, hBY, hSY, hLY, rfl, rfl⟩ := hY
        unfold wpY_give
        dsimp only
        rw [tl_j1, tl_j2, tl_j3, tl_j0, cl, c0, c1, c2, c3, nI_1 l]
        refine br_f (fun z => hc (e4.symm.trans z)) (br_f (tl_ne (b := 8) (by omega) (by decide) h8) ⟨vl, ?_⟩)
        rintro _ rfl
        refine ⟨vl, ?_⟩
        rintro _ rfl
        refine ⟨v0, ?_⟩
        rintro _ rfl
        refine ⟨v1, ?_⟩
        rintro _ rfl
        refine ⟨v2, ?_⟩
        rintro _ rfl
        refine ⟨v3, ?_⟩
        rintro _ rfl _ rfl
        exact K _ ⟨⟨rfl, rfl, rfl, e4, rfl, rfl⟩, hBY, hSY, tl_YL_ap hLY, rfl, rfl⟩
def tl_ag (a0 a1 a2 a3 a4 a5 : Int32) : Nat → Int32
  | 0 => a0
  | 1 => a1
  | 2 => a2
  | 3 => a3
  | 4 => a4
  | _ => a5
theorem i_vc_move {k : Nat} {u : SX} {v : SY} (I : i_Rel k u v) (hk : k + 6 ≤ 3072) (v1 : Int32) (v2 : Int32) (v3 : Int32) (v4 : Int32) : wpX_move (fun r u' => wpY_move (fun r' v' => r' = r ∧ i_Rel (k + 6) u' v') v v1 v2 v3 v4) u v1 v2 v3 v4 := by
  obtain ⟨A, bd, T, n, tr, st, ch, l, lk, ks, kt, hT, hI, hX, hY⟩ := I
  obtain ⟨r, n', tr', st', l', lk', hI', fX, fY⟩ := tl_acc (w := tl_ag v1 0 v2 v3 v4 0) (ch := ch) hI (Or.inl ⟨rfl, rfl⟩)
  have e1 : tl_n1 (tl_ag v1 0 v2 v3 v4 0) = v3 := tl_n1_n (show ¬ (0 : Int32) = 2 by decide)
  have e2 : tl_n2 (tl_ag v1 0 v2 v3 v4 0) = v4 := tl_n2_n (show ¬ (0 : Int32) = 2 by decide)
  rw [e1, e2] at fY
  have gX := fX u hX
  obtain ⟨xA, xT, xN, xH, xC, xL, xbo, xsu, xid, xki, xon, xtw, xam, xli, xca, xst, xla, xpl, xfe, xle, xne, xpe, xhp, xlI, xlK, xlO, xlT, xlA, xlL⟩ := u
  unfold wpX_move
  refine gX _ (fun u' hu' => ?_)
  have gY := fY ks kt v hY
  obtain ⟨yA, yT, yN, yC, yL, ybo, ysu, yki, yid, ynu, yst, yen, yho, yca, ylK, ylI, ylN, ykS, ykT⟩ := v
  obtain ⟨xA, xT, xN, xH, xC, xL, xbo, xsu, xid, xki, xon, xtw, xam, xli, xca, xst, xla, xpl, xfe, xle, xne, xpe, xhp, xlI, xlK, xlO, xlT, xlA, xlL⟩ := u'
  unfold wpY_move
  refine gY _ (fun v' hv' => ?_)
  obtain ⟨yA, yT, yN, yC, yL, ybo, ysu, yki, yid, ynu, yst, yen, yho, yca, ylK, ylI, ylN, ykS, ykT⟩ := v'
  exact ⟨rfl, A, bd, T, n', tr', st', ch, l', lk', ks, kt, by omega, hI', hu', hv'⟩
theorem i_vc_hold {k : Nat} {u : SX} {v : SY} (I : i_Rel k u v) (hk : k + 6 ≤ 3072) (v1 : Int32) (v2 : Int32) (v3 : Int32) (v4 : Int32) (v5 : Int32) : wpX_hold (fun r u' => wpY_hold (fun r' v' => r' = r ∧ i_Rel (k + 6) u' v') v v1 v2 v3 v4 v5) u v1 v2 v3 v4 v5 := by
  obtain ⟨A, bd, T, n, tr, st, ch, l, lk, ks, kt, hT, hI, hX, hY⟩ := I
  obtain ⟨r, n', tr', st', l', lk', hI', fX, fY⟩ := tl_acc (w := tl_ag v1 1 v2 v3 v4 v5) (ch := ch) hI (Or.inr (Or.inl rfl))
  have e1 : tl_n1 (tl_ag v1 1 v2 v3 v4 v5) = v3 := tl_n1_n (show ¬ (1 : Int32) = 2 by decide)
  have e2 : tl_n2 (tl_ag v1 1 v2 v3 v4 v5) = v4 := tl_n2_n (show ¬ (1 : Int32) = 2 by decide)
  rw [e1, e2] at fY
  have gX := fX u hX
  obtain ⟨xA, xT, xN, xH, xC, xL, xbo, xsu, xid, xki, xon, xtw, xam, xli, xca, xst, xla, xpl, xfe, xle, xne, xpe, xhp, xlI, xlK, xlO, xlT, xlA, xlL⟩ := u
  unfold wpX_hold
  refine gX _ (fun u' hu' => ?_)
  have gY := fY ks kt v hY
  obtain ⟨yA, yT, yN, yC, yL, ybo, ysu, yki, yid, ynu, yst, yen, yho, yca, ylK, ylI, ylN, ykS, ykT⟩ := v
  obtain ⟨xA, xT, xN, xH, xC, xL, xbo, xsu, xid, xki, xon, xtw, xam, xli, xca, xst, xla, xpl, xfe, xle, xne, xpe, xhp, xlI, xlK, xlO, xlT, xlA, xlL⟩ := u'
  unfold wpY_hold
  refine gY _ (fun v' hv' => ?_)
  obtain ⟨yA, yT, yN, yC, yL, ybo, ysu, yki, yid, ynu, yst, yen, yho, yca, ylK, ylI, ylN, ykS, ykT⟩ := v'
  exact ⟨rfl, A, bd, T, n', tr', st', ch, l', lk', ks, kt, by omega, hI', hu', hv'⟩
theorem i_vc_take {k : Nat} {u : SX} {v : SY} (I : i_Rel k u v) (hk : k + 6 ≤ 3072) (v1 : Int32) (v2 : Int32) (v3 : Int32) : wpX_take (fun r u' => wpY_take (fun r' v' => r' = r ∧ i_Rel (k + 6) u' v') v v1 v2 v3) u v1 v2 v3 := by
  obtain ⟨A, bd, T, n, tr, st, ch, l, lk, ks, kt, hT, hI, hX, hY⟩ := I
  obtain ⟨r, n', tr', st', l', lk', hI', fX, fY⟩ := tl_acc (w := tl_ag v1 2 v2 0 v3 0) (ch := ch) hI (Or.inr (Or.inr (Or.inl ⟨rfl, rfl, rfl⟩)))
  have e1 : tl_n1 (tl_ag v1 2 v2 0 v3 0) = v3 := tl_n1_2 rfl
  have e2 : tl_n2 (tl_ag v1 2 v2 0 v3 0) = 0 := tl_n2_2 rfl
  rw [e1, e2] at fY
  have gX := fX u hX
  obtain ⟨xA, xT, xN, xH, xC, xL, xbo, xsu, xid, xki, xon, xtw, xam, xli, xca, xst, xla, xpl, xfe, xle, xne, xpe, xhp, xlI, xlK, xlO, xlT, xlA, xlL⟩ := u
  unfold wpX_take
  refine gX _ (fun u' hu' => ?_)
  have gY := fY ks kt v hY
  obtain ⟨yA, yT, yN, yC, yL, ybo, ysu, yki, yid, ynu, yst, yen, yho, yca, ylK, ylI, ylN, ykS, ykT⟩ := v
  obtain ⟨xA, xT, xN, xH, xC, xL, xbo, xsu, xid, xki, xon, xtw, xam, xli, xca, xst, xla, xpl, xfe, xle, xne, xpe, xhp, xlI, xlK, xlO, xlT, xlA, xlL⟩ := u'
  unfold wpY_take
  refine gY _ (fun v' hv' => ?_)
  obtain ⟨yA, yT, yN, yC, yL, ybo, ysu, yki, yid, ynu, yst, yen, yho, yca, ylK, ylI, ylN, ykS, ykT⟩ := v'
  exact ⟨rfl, A, bd, T, n', tr', st', ch, l', lk', ks, kt, by omega, hI', hu', hv'⟩
theorem i_vc_release {k : Nat} {u : SX} {v : SY} (I : i_Rel k u v) (hk : k + 6 ≤ 3072) (v1 : Int32) (v2 : Int32) : wpX_release (fun r u' => wpY_release (fun r' v' => r' = r ∧ i_Rel (k + 6) u' v') v v1 v2) u v1 v2 := by
  obtain ⟨A, bd, T, n, tr, st, ch, l, lk, ks, kt, hT, hI, hX, hY⟩ := I
  obtain ⟨r, n', tr', st', l', lk', hI', fX, fY⟩ := tl_acc (w := tl_ag v1 3 v2 0 0 0) (ch := ch) hI (Or.inr (Or.inr (Or.inr ⟨rfl, rfl, rfl, rfl⟩)))
  have e1 : tl_n1 (tl_ag v1 3 v2 0 0 0) = 0 := tl_n1_n (show ¬ (3 : Int32) = 2 by decide)
  have e2 : tl_n2 (tl_ag v1 3 v2 0 0 0) = 0 := tl_n2_n (show ¬ (3 : Int32) = 2 by decide)
  rw [e1, e2] at fY
  have gX := fX u hX
  obtain ⟨xA, xT, xN, xH, xC, xL, xbo, xsu, xid, xki, xon, xtw, xam, xli, xca, xst, xla, xpl, xfe, xle, xne, xpe, xhp, xlI, xlK, xlO, xlT, xlA, xlL⟩ := u
  unfold wpX_release
  refine gX _ (fun u' hu' => ?_)
  have gY := fY ks kt v hY
  obtain ⟨yA, yT, yN, yC, yL, ybo, ysu, yki, yid, ynu, yst, yen, yho, yca, ylK, ylI, ylN, ykS, ykT⟩ := v
  obtain ⟨xA, xT, xN, xH, xC, xL, xbo, xsu, xid, xki, xon, xtw, xam, xli, xca, xst, xla, xpl, xfe, xle, xne, xpe, xhp, xlI, xlK, xlO, xlT, xlA, xlL⟩ := u'
  unfold wpY_release
  refine gY _ (fun v' hv' => ?_)
  obtain ⟨yA, yT, yN, yC, yL, ybo, ysu, yki, yid, ynu, yst, yen, yho, yca, ylK, ylI, ylN, ykS, ykT⟩ := v'
  exact ⟨rfl, A, bd, T, n', tr', st', ch, l', lk', ks, kt, by omega, hI', hu', hv'⟩
end
section
/-! the constructors, and the calls that look up -/
section
variable {xA xT xN xH xC xL : Int32} {xbo xsu xid xki xon xtw xam xli xca xst xla xpl xfe xle xne xpe xhp xlI xlK xlO xlT xlA xlL : Nat → Int32}
theorem tl_xin211 {post : SX → Prop} (K : ∀ fe le : Nat → Int32, (∀ j, j < 20 → fe j = -1 ∧ le j = -1) → post (xA, xT, xN, xH, xC, xL, xbo, xsu, xid, xki, xon, xtw, xam, xli, xca, xst, xla, xpl, fe, le, xne, xpe, xhp, xlI, xlK, xlO, xlT, xlA, xlL)) : ∀ (d i N : Nat) (fe le : Nat → Int32), i + d = 20 → d < N → (∀ j, j < i → fe j = -1 ∧ le j = -1) → wX_init_211 post xA xT xN xH xC xL N (nI i) xbo xsu xid xki xon xtw xam xli xca xst xla xpl fe le xne xpe xhp xlI xlK xlO xlT xlA xlL := by
  intro d
  induction d with
  | zero =>
    intro i N fe le hd hN h
    obtain ⟨N, rfl⟩ : ∃ N', N = N' + 1 := ⟨N - 1, by omega⟩
    have e : i = 20 := by omega
    rw [e] at h ⊢
    rw [wX_init_211]
    dsimp only
    exact br_t (by decide) (K fe le h)
  | succ d ih =>
    intro i N fe le hd hN h
    obtain ⟨N, rfl⟩ : ∃ N', N = N' + 1 := ⟨N - 1, by omega⟩
    have ci : (nI i).toNatClampNeg = i := nI_clamp (by omega)
    have vi : vp_in (nI i) 20 := vp_in_nI (by omega) (by decide)
    rw [wX_init_211]
    dsimp only
    rw [ci, nI_1 i]
    refine br_f (nI_ge (b := 20) (by omega) (by decide)) ⟨vi, ?_⟩
    rintro _ rfl
    refine ⟨vi, ?_⟩
    rintro _ rfl _ rfl
    refine ih (i + 1) N _ _ (by omega) (by omega) (fun j hj => ?_)
    by_cases e : j = i
    · rw [e, pk_us, pk_us]; exact ⟨rfl, rfl⟩
    · rw [pk_un e, pk_un e]; exact h j (by omega)
theorem tl_xin190 {post : SX → Prop} (K : ∀ pl fe le : Nat → Int32, (∀ j, j < 100 → pl j = -1) → (∀ j, j < 20 → fe j = -1 ∧ le j = -1) → post (xA, xT, xN, xH, xC, xL, xbo, xsu, xid, xki, xon, xtw, xam, xli, xca, xst, xla, pl, fe, le, xne, xpe, xhp, xlI, xlK, xlO, xlT, xlA, xlL)) : ∀ (d i N : Nat) (pl : Nat → Int32), i + d = 100 → d < N → (∀ j, j < i → pl j = -1) → wX_init_190 post xA xT xN xH xC xL N (nI i) xbo xsu xid xki xon xtw xam xli xca xst xla pl xfe xle xne xpe xhp xlI xlK xlO xlT xlA xlL := by
  intro d
  induction d with
  | zero =>
    intro i N pl hd hN h
    obtain ⟨N, rfl⟩ : ∃ N', N = N' + 1 := ⟨N - 1, by omega⟩
    have e : i = 100 := by omega
    rw [e] at h ⊢
    rw [wX_init_190]
    dsimp only
    exact br_t (by decide) ⟨21, tl_xin211 (fun fe le h2 => K pl fe le h h2) 20 0 21 xfe xle (by omega) (by omega) (fun j hj => by omega)⟩
  | succ d ih =>
    intro i N pl hd hN h
    obtain ⟨N, rfl⟩ : ∃ N', N = N' + 1 := ⟨N - 1, by omega⟩
    have ci : (nI i).toNatClampNeg = i := nI_clamp (by omega)
    have vi : vp_in (nI i) 100 := vp_in_nI (by omega) (by decide)
    rw [wX_init_190]
    dsimp only
    rw [ci, nI_1 i]
    refine br_f (nI_ge (b := 100) (by omega) (by decide)) ⟨vi, ?_⟩
    rintro _ rfl _ rfl
    refine ih (i + 1) N _ (by omega) (by omega) (fun j hj => ?_)
    by_cases e : j = i
    · rw [e, pk_us]
    · rw [pk_un e]; exact h j (by omega)
end
theorem i_vc0 : wpX_init (fun u => wpY_init (fun v => i_Rel 0 u v)) := by
  refine ⟨101, tl_xin190 (fun pl fe le h1 h2 => ?_) 100 0 101 _ (by omega) (by omega) (fun j hj => by omega)⟩
  refine ⟨0, fun _ => 0, 0, 0, fun _ _ => 0, fun _ => 0, 0, 0, fun _ _ => 0, fun _ => 0, fun _ => 0, by omega, ⟨by omega, by omega, by omega, by omega, fun t ht => by omega, fun t ht => by omega, fun a ha => by omega, fun j hj => by omega⟩, ?_, ?_⟩
  · refine ⟨⟨rfl, rfl, rfl, rfl, rfl, rfl⟩, fun t ht => by omega, fun i hi => h1 i hi, fun a ha w hw => rfl, ⟨fun a ha => (h2 _ (by omega)).1, fun a ha => (h2 _ (by omega)).2, fun t ht => by omega⟩, ⟨fun a ha => (h2 _ (by omega)).1, fun a ha => (h2 _ (by omega)).2, fun t ht => by omega⟩, fun j hj => by omega, fun _ => ⟨0, rfl, by omega, fun j hj => by omega, fun j _ hj => by omega, fun t ht => by omega⟩⟩
  · exact ⟨⟨rfl, rfl, rfl, rfl, rfl, rfl⟩, fun t ht => by omega, fun a ha w hw => rfl, fun j hj => by omega, rfl, rfl⟩
theorem i_vc_time {k : Nat} {u : SX} {v : SY} (I : i_Rel k u v) (hk : k + 6 ≤ 3072) : wpX_time (fun r => wpY_time (fun r' => r' = r ∧ i_Rel (k + 6) u v) v) u := by
  have I' := i_up I
  obtain ⟨A, bd, T, n, tr, st, ch, l, lk, ks, kt, hT, hI, hX, hY⟩ := I
  obtain ⟨xA, xT, xN, xH, xC, xL, xbo, xsu, xid, xki, xon, xtw, xam, xli, xca, xst, xla, xpl, xfe, xle, xne, xpe, xhp, xlI, xlK, xlO, xlT, xlA, xlL⟩ := u
  obtain ⟨yA, yT, yN, yC, yL, ybo, ysu, yki, yid, ynu, yst, yen, yho, yca, ylK, ylI, ylN, ykS, ykT⟩ := v
  exact ⟨hY.1.2.1.trans hX.1.2.1.symm, I'⟩
theorem i_vc_kept {k : Nat} {u : SX} {v : SY} (I : i_Rel k u v) (hk : k + 6 ≤ 3072) : wpX_kept (fun r => wpY_kept (fun r' => r' = r ∧ i_Rel (k + 6) u v) v) u := by
  have I' := i_up I
  obtain ⟨A, bd, T, n, tr, st, ch, l, lk, ks, kt, hT, hI, hX, hY⟩ := I
  obtain ⟨xA, xT, xN, xH, xC, xL, xbo, xsu, xid, xki, xon, xtw, xam, xli, xca, xst, xla, xpl, xfe, xle, xne, xpe, xhp, xlI, xlK, xlO, xlT, xlA, xlL⟩ := u
  obtain ⟨yA, yT, yN, yC, yL, ybo, ysu, yki, yid, ynu, yst, yen, yho, yca, ylK, ylI, ylN, ykS, ykT⟩ := v
  exact ⟨hY.1.2.2.1.trans hX.1.2.2.1.symm, I'⟩
theorem i_vc_chain {k : Nat} {u : SX} {v : SY} (I : i_Rel k u v) (hk : k + 6 ≤ 3072) : wpX_chain (fun r u' => wpY_chain (fun r' v' => r' = r ∧ i_Rel (k + 6) u' v') v) u := by
  have I' := i_up I
  obtain ⟨A, bd, T, n, tr, st, ch, l, lk, ks, kt, hT, hI, hX, hY⟩ := I
  obtain ⟨xA, xT, xN, xH, xC, xL, xbo, xsu, xid, xki, xon, xtw, xam, xli, xca, xst, xla, xpl, xfe, xle, xne, xpe, xhp, xlI, xlK, xlO, xlT, xlA, xlL⟩ := u
  obtain ⟨yA, yT, yN, yC, yL, ybo, ysu, yki, yid, ynu, yst, yen, yho, yca, ylK, ylI, ylN, ykS, ykT⟩ := v
  obtain ⟨⟨a1, a2, a3, a4, a5, a6⟩, hB, hP, hS, hE0, hE1, hL, hH⟩ := hX
  obtain ⟨⟨b1, b2, b3, b4, b5, b6⟩, hBY, hSY, hLY, e1, e2⟩ := hY
  obtain ⟨hA, hT2, hn, hl, hSS, hV, hN, hLW⟩ := hI
  by_cases hc : ch = 0
  · refine br_t (a4.trans hc) (br_t (b4.trans hc) ⟨rfl, A, bd, T, n, tr, st, 1, 0, lk, ks, kt, by omega, ⟨hA, hT2, hn, by omega, hSS, hV, hN, fun j hj => by omega⟩, ?_, ?_⟩)
    · exact ⟨⟨a1, a2, a3, rfl, rfl, a6⟩, hB, hP, hS, hE0, hE1, fun j hj => by omega, hH⟩
    · exact ⟨⟨b1, b2, b3, rfl, rfl, b6⟩, hBY, hSY, fun j hj => by omega, e1, e2⟩
  · exact br_f (fun z => hc (a4.symm.trans z)) (br_f (fun z => hc (b4.symm.trans z)) ⟨rfl, I'⟩)
theorem i_vc_account {k : Nat} {u : SX} {v : SY} (I : i_Rel k u v) (hk : k + 6 ≤ 3072) (v1 : Int32) : wpX_account (fun r u' => wpY_account (fun r' v' => r' = r ∧ i_Rel (k + 6) u' v') v v1) u v1 := by
  have I' := i_up I
  obtain ⟨A, bd, T, n, tr, st, ch, l, lk, ks, kt, hT, hI, hX, hY⟩ := I
  obtain ⟨xA, xT, xN, xH, xC, xL, xbo, xsu, xid, xki, xon, xtw, xam, xli, xca, xst, xla, xpl, xfe, xle, xne, xpe, xhp, xlI, xlK, xlO, xlT, xlA, xlL⟩ := u
  obtain ⟨yA, yT, yN, yC, yL, ybo, ysu, yki, yid, ynu, yst, yen, yho, yca, ylK, ylI, ylN, ykS, ykT⟩ := v
  obtain ⟨⟨rfl, a2, a3, a4, a5, a6⟩, hB, hP, hS, hE0, hE1, hL, hH⟩ := hX
  obtain ⟨⟨rfl, b2, b3, b4, b5, b6⟩, hBY, hSY, hLY, e1, e2⟩ := hY
  obtain ⟨hA, hT2, hn, hl, hSS, hV, hN, hLW⟩ := hI
  have cA : (nI A).toNatClampNeg = A := nI_clamp (by omega)
  unfold wpX_account
  dsimp only
  rw [cA, nI_1 A]
  refine br_c (fun z => br_t z ⟨rfl, I'⟩) (fun z => br_c (fun z2 => ?_) (fun z2 => br_f z (br_f z2 ⟨rfl, I'⟩)))
  by_cases hA10 : A = 10
  · refine br_f (by rw [hA10]; decide) (br_f z (br_t z2 (br_t (by rw [hA10]; rfl) ⟨rfl, I'⟩)))
  · have vA : vp_in (nI A) 10 := vp_in_nI (by omega) (by decide)
    refine br_t (nI_lt (b := 10) (by omega) (by decide)) ⟨vA, ?_⟩
    rintro _ rfl _ rfl
    unfold wpY_account
    dsimp only
    rw [cA, nI_1 A]
    refine br_f z (br_t z2 (br_f (tl_ne (b := 10) (by omega) (by decide) hA10) ⟨vA, ?_⟩))
    rintro _ rfl _ rfl
    refine ⟨rfl, A + 1, upd bd A v1, T, n, tr, st, ch, l, lk, ks, kt, by omega, ⟨by omega, hT2, hn, hl, hSS, fun t ht => tl_V_up (by omega) (Nat.le_refl T) (hV t ht), fun a ha => ?_, hLW⟩, ?_, ?_⟩
    · by_cases e : a = A
      · have z : ∀ w, tl_SM tr st n a w = 0 := fun w => by rw [e]; exact tl_SM_z hA (Nat.le_refl A) (by omega) n hV
        rw [z, z, z, z]
        exact ⟨fun _ => by omega, fun _ => by omega⟩
      · rw [pk_un e]; exact hN a (by omega)
    · exact ⟨⟨rfl, a2, a3, a4, a5, by rw [a6]⟩, hB, hP, hS, hE0, hE1, hL, hH⟩
    · exact ⟨⟨rfl, b2, b3, b4, b5, by rw [b6]⟩, hBY, hSY, hLY, e1, e2⟩
theorem i_vc_sum {k : Nat} {u : SX} {v : SY} (I : i_Rel k u v) (hk : k + 6 ≤ 3072) (v1 : Int32) (v2 : Int32) : wpX_sum (fun r => wpY_sum (fun r' => r' = r ∧ i_Rel (k + 6) u v) v v1 v2) u v1 v2 := by
  have I' := i_up I
  obtain ⟨A, bd, T, n, tr, st, ch, l, lk, ks, kt, hT, hI, hX, hY⟩ := I
  obtain ⟨xA, xT, xN, xH, xC, xL, xbo, xsu, xid, xki, xon, xtw, xam, xli, xca, xst, xla, xpl, xfe, xle, xne, xpe, xhp, xlI, xlK, xlO, xlT, xlA, xlL⟩ := u
  obtain ⟨yA, yT, yN, yC, yL, ybo, ysu, yki, yid, ynu, yst, yen, yho, yca, ylK, ylI, ylN, ykS, ykT⟩ := v
  obtain ⟨⟨rfl, a2, a3, a4, a5, a6⟩, hB, hP, hS, hE0, hE1, hL, hH⟩ := hX
  obtain ⟨⟨rfl, b2, b3, b4, b5, b6⟩, hBY, hSY, hLY, e1, e2⟩ := hY
  have hA : A ≤ 10 := hI.1
  unfold wpX_sum
  dsimp only
  rcases tl_acd v1 hA with h | ⟨a, ha, rfl⟩
  · refine tl_xacF h (br_t rfl ?_)
    unfold wpY_sum
    exact tl_yacF h (br_t rfl ⟨rfl, I'⟩)
  · refine tl_xacT hA ha (br_f (by decide) (br_c (fun z => ?_) (fun z => br_c (fun z2 => ?_) (fun z2 => ?_))))
    · unfold wpY_sum
      exact tl_yacT hA ha (br_f (by decide) (br_t z ⟨rfl, I'⟩))
    · unfold wpY_sum
      exact tl_yacT hA ha (br_f (by decide) (br_f z (br_t z2 ⟨rfl, I'⟩)))
    · obtain ⟨w, hw, rfl⟩ := nI_of2 (n := 3) (M := 3) (by decide) z (Int32.not_lt.mp z2)
      have c : ((4 : Int32) * nI a + nI w).toNatClampNeg = 4 * a + w := pk_cl (4 * a + w) (tl_i4 a w)
      have v : vp_in (4 * nI a + nI w) 40 := pk_in (4 * a + w) 40 (by omega) (tl_i4 a w)
      refine ⟨v, ?_⟩
      unfold wpY_sum
      refine tl_yacT hA ha (br_f (by decide) (br_f z (br_f z2 ⟨v, ?_, I'⟩)))
      rw [c, hS a (by omega) w (by omega), hSY a (by omega) w (by omega)]
section
variable {xA xT xN xH xC xL : Int32} {xbo xsu xid xki xon xtw xam xli xca xst xla xpl xfe xle xne xpe xhp xlI xlK xlO xlT xlA xlL : Nat → Int32}
theorem tl_xfind {post : Int32 → Prop} {A T n : Nat} {tr : Nat → Nat → Int32} {p : Int32} (hn : n ≤ 60) (hV : tl_Vs A T tr n) (hP : tl_PL n tr xpl) (K : post (tl_LS (fun t => tr t 0) n p)) : wpX_find post (xA, xT, xN, xH, xC, xL, xbo, xsu, xid, xki, xon, xtw, xam, xli, xca, xst, xla, xpl, xfe, xle, xne, xpe, xhp, xlI, xlK, xlO, xlT, xlA, xlL) p := by
  unfold wpX_find
  dsimp only
  rcases pk_ix p (n := 100) (by decide) with h | h | ⟨j, hj, e⟩
  · have : tl_LS (fun t => tr t 0) n p = -1 := by
      refine tl_LS_no (fun t ht e => ?_)
      obtain ⟨⟨i, hi, ei⟩, _⟩ := hV t ht
      rw [← e] at h
      exact nI_pos (show i < 2 ^ 31 by omega) (by rw [← ei]; exact h)
    rw [this] at K
    exact br_t h K
  · have : tl_LS (fun t => tr t 0) n p = -1 := by
      refine tl_LS_no (fun t ht e => ?_)
      obtain ⟨⟨i, hi, ei⟩, _⟩ := hV t ht
      rw [← e] at h
      exact nI_ge (show i < 100 by omega) (by decide) (by rw [← ei]; exact h)
    rw [this] at K
    exact br_c (fun _ => K) (fun _ => br_f (Int32.not_lt.mpr h) K)
  · have cj : p.toNatClampNeg = j := by rw [e]; exact nI_clamp (by omega)
    have vj : vp_in p 100 := by rw [e]; exact vp_in_nI hj (by decide)
    have : xpl j = tl_LS (fun t => tr t 0) n p := by rw [hP j hj, ← e]
    rw [cj, this]
    exact br_f (by rw [e]; exact nI_pos (by omega)) (br_t (by rw [e]; exact nI_lt hj (by decide)) ⟨vj, K⟩)
end
theorem i_vc_kind {k : Nat} {u : SX} {v : SY} (I : i_Rel k u v) (hk : k + 6 ≤ 3072) (v1 : Int32) : wpX_kind (fun r => wpY_kind (fun r' => r' = r ∧ i_Rel (k + 6) u v) v v1) u v1 := by
  have I' := i_up I
  obtain ⟨A, bd, T, n, tr, st, ch, l, lk, ks, kt, hT, hI, hX, hY⟩ := I
  obtain ⟨xA, xT, xN, xH, xC, xL, xbo, xsu, xid, xki, xon, xtw, xam, xli, xca, xst, xla, xpl, xfe, xle, xne, xpe, xhp, xlI, xlK, xlO, xlT, xlA, xlL⟩ := u
  obtain ⟨yA, yT, yN, yC, yL, ybo, ysu, yki, yid, ynu, yst, yen, yho, yca, ylK, ylI, ylN, ykS, ykT⟩ := v
  obtain ⟨⟨a1, a2, rfl, a4, a5, a6⟩, hB, hP, hS, hE0, hE1, hL, hH⟩ := hX
  obtain ⟨⟨b1, b2, rfl, b4, b5, b6⟩, hBY, hSY, hLY, e1, e2⟩ := hY
  obtain ⟨hA, hT2, hn, hl, hSS, hV, hN, hLW⟩ := hI
  have hid : ∀ t, t < n → yid t = tr t 0 := fun t ht => (hBY t ht).1.2.1
  unfold wpX_kind
  refine tl_xfind hn hV hP ?_
  rcases tl_LS_sp (fun t => tr t 0) v1 n with ⟨hz, _⟩ | ⟨t, ht, hz, et, _⟩
  · rw [hz]
    refine br_f (by decide) ?_
    unfold wpY_kind
    refine tl_yfind hn hV hid ?_
    rw [hz]
    exact br_f (by decide) ⟨rfl, I'⟩
  · have c : (nI t).toNatClampNeg = t := nI_clamp (by omega)
    have v : vp_in (nI t) 60 := vp_in_nI (by omega) (by decide)
    rw [hz, c]
    refine br_t (nI_pos' (by omega)) ⟨v, ?_⟩
    unfold wpY_kind
    refine tl_yfind hn hV hid ?_
    rw [hz, c]
    exact br_t (nI_pos' (by omega)) ⟨v, (hBY t ht).1.1.trans (hB t ht).1.2.1.symm, I'⟩
theorem i_vc_state {k : Nat} {u : SX} {v : SY} (I : i_Rel k u v) (hk : k + 6 ≤ 3072) (v1 : Int32) : wpX_state (fun r => wpY_state (fun r' => r' = r ∧ i_Rel (k + 6) u v) v v1) u v1 := by
  have I' := i_up I
  obtain ⟨A, bd, T, n, tr, st, ch, l, lk, ks, kt, hT, hI, hX, hY⟩ := I
  obtain ⟨xA, xT, xN, xH, xC, xL, xbo, xsu, xid, xki, xon, xtw, xam, xli, xca, xst, xla, xpl, xfe, xle, xne, xpe, xhp, xlI, xlK, xlO, xlT, xlA, xlL⟩ := u
  obtain ⟨yA, yT, yN, yC, yL, ybo, ysu, yki, yid, ynu, yst, yen, yho, yca, ylK, ylI, ylN, ykS, ykT⟩ := v
  obtain ⟨⟨a1, a2, rfl, a4, a5, a6⟩, hB, hP, hS, hE0, hE1, hL, hH⟩ := hX
  obtain ⟨⟨b1, b2, rfl, b4, b5, b6⟩, hBY, hSY, hLY, e1, e2⟩ := hY
  obtain ⟨hA, hT2, hn, hl, hSS, hV, hN, hLW⟩ := hI
  have hid : ∀ t, t < n → yid t = tr t 0 := fun t ht => (hBY t ht).1.2.1
  unfold wpX_state
  refine tl_xfind hn hV hP ?_
  rcases tl_LS_sp (fun t => tr t 0) v1 n with ⟨hz, _⟩ | ⟨t, ht, hz, et, _⟩
  · rw [hz]
    refine br_t (by decide) ?_
    unfold wpY_state
    refine tl_yfind hn hV hid ?_
    rw [hz]
    exact br_t (by decide) ⟨rfl, I'⟩
  · have c : (nI t).toNatClampNeg = t := nI_clamp (by omega)
    have v : vp_in (nI t) 60 := vp_in_nI (by omega) (by decide)
    obtain ⟨⟨_, x1, _, _, _, _, _, xs⟩, _⟩ := hB t ht
    obtain ⟨⟨y1, _, _, _, _, _, ys⟩, _⟩ := hBY t ht
    rw [hz, c, x1, xs]
    refine br_f (nI_pos (by omega)) ⟨v, br_c (fun z => ⟨v, ?_⟩) (fun z => ?_)⟩
    · unfold wpY_state
      refine tl_yfind hn hV hid ?_
      rw [hz, c, y1, ys]
      exact br_f (nI_pos (by omega)) ⟨v, br_t z ⟨v, rfl, I'⟩⟩
    · unfold wpY_state
      refine tl_yfind hn hV hid ?_
      rw [hz, c, y1]
      exact br_f (nI_pos (by omega)) ⟨v, br_f z ⟨rfl, I'⟩⟩
end
section
/-! entries of accounts, and room -/
theorem tl_NX_at {E : Nat → Int32} {i n : Nat} {a : Int32} (hn : n < 1000) (hi : i < n) (e : E i = a) : tl_NX E i n a = nI i := tl_NX_is (by omega) (Nat.le_refl i) hi e (fun s h1 h2 => by omega)
theorem tl_NX_sk {E : Nat → Int32} {i n : Nat} {a : Int32} (hn : n < 1000) (e : ¬ E i = a) : tl_NX E i n a = tl_NX E (i + 1) n a := by
  rcases tl_NX_sp E (i + 1) a n (by omega) with ⟨h1, h2⟩ | ⟨t, h0, h1, h2, h3, h4⟩
  · rw [h1]
    refine tl_NX_no (by omega) (fun t ht ht2 => ?_)
    by_cases z : t = i
    · rw [z]; exact e
    · exact h2 t (by omega) ht2
  · rw [h2]
    refine tl_NX_is (by omega) (by omega) h1 h3 (fun s hs hs2 => ?_)
    by_cases z : s = i
    · rw [z]; exact e
    · exact h4 s (by omega) hs2
theorem tl_NX_end {E : Nat → Int32} {n : Nat} {a : Int32} (hn : n < 1000) : tl_NX E n n a = -1 := tl_NX_no (by omega) (fun t h1 h2 => by omega)
section
variable {yA yT yN yC yL : Int32} {ybo ysu yki yid ynu yst yen yho yca ylK ylI ylN ykS ykT : Nat → Int32}
theorem tl_yentry {post : Int32 → Prop} {A T n t a s : Nat} {tr : Nat → Nat → Int32} {st : Nat → Int32} (hn : n ≤ 60) (hV : tl_Vs A T tr n) (hY : tl_YB n tr st yki yid ynu yst yen yho yca) (ht : t < n) (ha : a < 10) (hs : s = 0 ∨ s = 1) (K1 : tr t (9 + s) = nI a → post 1) (K0 : ¬ tr t (9 + s) = nI a → post 0) : wpY_isEntry post (yA, yT, yN, yC, yL, ybo, ysu, yki, yid, ynu, yst, yen, yho, yca, ylK, ylI, ylN, ykS, ykT) (nI t) (nI a) (nI s) := by
  have v : vp_in (nI t) 60 := vp_in_nI (by omega) (by decide)
  have c : (nI t).toNatClampNeg = t := nI_clamp (by omega)
  have vs : vp_in (nI (4 * t + s)) 240 := vp_in_nI (by omega) (by decide)
  have cs : (nI (4 * t + s)).toNatClampNeg = 4 * t + s := nI_clamp (by omega)
  obtain ⟨⟨y1, _, y20, y21, _, _, _⟩, _, y8⟩ := hY t ht
  unfold wpY_isEntry
  dsimp only
  rw [tl_i4, c, cs, y1]
  refine ⟨v, ?_⟩
  obtain ⟨_, _, h | h | h | h⟩ := hV t ht
  · obtain ⟨k, _, _, _, k9, k10⟩ := h
    have e : ynu (4 * t + s) = tr t (9 + s) := by
      rcases hs with rfl | rfl
      · exact y20.trans k9.symm
      · exact (y21.trans (tl_n1_n (by rw [k]; decide))).trans k10.symm
    rw [e]
    exact br_t k ⟨vs, br_c K1 K0⟩
  · obtain ⟨k, _, _, _, k9, k10⟩ := h
    have e : ¬ tr t (9 + s) = nI a := by
      rcases hs with rfl | rfl
      · show ¬ tr t 9 = nI a; rw [k9]; exact tl_m1 (by omega)
      · show ¬ tr t 10 = nI a; rw [k10]; exact tl_m1 (by omega)
    exact br_f (by rw [k]; decide) ⟨v, br_f (by rw [k]; decide) (K0 e)⟩
  · obtain ⟨k, _, _, _, h, hh, k8, kh, _, k9, k10⟩ := h
    obtain ⟨z20, z21⟩ : ynu (4 * h) = tr h 2 ∧ ynu (4 * h + 1) = tl_n1 (tr h) := ⟨(hY h (by omega)).1.2.2.1, (hY h (by omega)).1.2.2.2.1⟩
    have vh : vp_in (nI (4 * h + s)) 240 := vp_in_nI (by omega) (by decide)
    have chs : (nI (4 * h + s)).toNatClampNeg = 4 * h + s := nI_clamp (by omega)
    have e : ynu (4 * h + s) = tr t (9 + s) := by
      rcases hs with rfl | rfl
      · exact z20.trans k9.symm
      · exact (z21.trans (tl_n1_n (by rw [kh]; decide))).trans k10.symm
    rw [(y8 k).1, k8, tl_i4, chs, e]
    exact br_f (by rw [k]; decide) ⟨v, br_t k ⟨v, vh, br_c K1 K0⟩⟩
  · obtain ⟨k, _, _, _, _, k9, k10, _⟩ := h
    have e : ¬ tr t (9 + s) = nI a := by
      rcases hs with rfl | rfl
      · show ¬ tr t 9 = nI a; rw [k9]; exact tl_m1 (by omega)
      · show ¬ tr t 10 = nI a; rw [k10]; exact tl_m1 (by omega)
    exact br_f (by rw [k]; decide) ⟨v, br_f (by rw [k]; decide) (K0 e)⟩
end
section
variable {xA xT xN xH xC xL : Int32} {xbo xsu xid xki xon xtw xam xli xca xst xla xpl xfe xle xne xpe xhp xlI xlK xlO xlT xlA xlL : Nat → Int32} {yA yT yN yC yL : Int32} {ybo ysu yki yid ynu yst yen yho yca ylK ylI ylN ykS ykT : Nat → Int32}
theorem tl_ents {A T n a s : Nat} {tr : Nat → Nat → Int32} {st E : Nat → Int32} (hn : n ≤ 60) (ha : a < 10) (hs : s = 0 ∨ s = 1) (hV : tl_Vs A T tr n) (hY : tl_YB n tr st yki yid ynu yst yen yho yca) (hE : tl_EN s E n xfe xle xne xpe) (eE : ∀ t, E t = tr t (9 + s)) :
    ∀ (d i c : Nat), i + d = n → c ≤ i → ∃ r : Int32, (∀ (post : Int32 → Prop) (N : Nat), d < N → post r → wX_entries_28 post (nI s) xA xT xN xH xC xL xbo xsu xid xki xon xtw xam xli xca xst xla xpl xfe xle xne xpe xhp xlI xlK xlO xlT xlA xlL N (nI c) (tl_NX E i n (nI a)) (nI c)) ∧ (∀ (post : Int32 → Prop) (N : Nat), d < N → post r → wY_entries_24 post (nI a) (nI s) yA yT (nI n) yC yL ybo ysu yki yid ynu yst yen yho yca ylK ylI ylN ykS ykT N (nI c) (nI i)) := by
  intro d
  induction d with
  | zero =>
    intro i c hd hc
    have e : i = n := by omega
    subst e
    refine ⟨nI c, fun post N hN K => ?_, fun post N hN K => ?_⟩
    · obtain ⟨N, rfl⟩ : ∃ N', N = N' + 1 := ⟨N - 1, by omega⟩
      rw [tl_NX_end (by omega)]
      rw [wX_entries_28]
      dsimp only
      exact br_c (fun _ => K) (fun _ => br_t (by decide) K)
    · obtain ⟨N, rfl⟩ : ∃ N', N = N' + 1 := ⟨N - 1, by omega⟩
      rw [wY_entries_24]
      dsimp only
      exact br_t (nI_le (Nat.le_refl i) (by omega)) K
  | succ d ih =>
    intro i c hd hc
    have hi : i < n := by omega
    by_cases e : E i = nI a
    · obtain ⟨r, gX, gY⟩ := ih (i + 1) (c + 1) (by omega) (by omega)
      refine ⟨r, fun post N hN K => ?_, fun post N hN K => ?_⟩
      · obtain ⟨N, rfl⟩ : ∃ N', N = N' + 1 := ⟨N - 1, by omega⟩
        have ci : (nI (2 * i + s)).toNatClampNeg = 2 * i + s := nI_clamp (by omega)
        rw [tl_NX_at (by omega) hi e]
        rw [wX_entries_28]
        dsimp only
        rw [tl_i2, ci, (hE.2.2 i hi a ha e).1, nI_1 c]
        refine br_f (nI_ge (b := 60) (by omega) (by decide)) (br_f (nI_pos (by omega)) ?_)
        rintro _ rfl
        refine ⟨vp_in_nI (by omega) (by decide), ?_⟩
        rintro _ rfl _ rfl
        exact gX post N (by omega) K
      · obtain ⟨N, rfl⟩ : ∃ N', N = N' + 1 := ⟨N - 1, by omega⟩
        rw [wY_entries_24]
        dsimp only
        rw [nI_1 i, nI_1 c]
        refine br_f (nI_ge (by omega) (by omega)) ?_
        refine tl_yentry hn hV hY hi ha hs (fun z => br_f (by decide) ?_) (fun z => absurd (by rw [← eE]; exact e) z)
        rintro _ rfl _ rfl
        exact gY post N (by omega) K
    · obtain ⟨r, gX, gY⟩ := ih (i + 1) c (by omega) (by omega)
      refine ⟨r, fun post N hN K => ?_, fun post N hN K => ?_⟩
      · rw [tl_NX_sk (by omega) e]
        exact gX post N (by omega) K
      · obtain ⟨N, rfl⟩ : ∃ N', N = N' + 1 := ⟨N - 1, by omega⟩
        rw [wY_entries_24]
        dsimp only
        rw [nI_1 i]
        refine br_f (nI_ge (by omega) (by omega)) ?_
        refine tl_yentry hn hV hY hi ha hs (fun z => absurd (by rw [eE]; exact z) e) (fun z => br_t rfl ?_)
        rintro _ rfl
        exact gY post N (by omega) K
theorem tl_entv {A T n i : Nat} {tr : Nat → Nat → Int32} {st : Nat → Int32} {post : Int32 → Prop} (hn : n ≤ 60) (hV : tl_Vs A T tr n) (hY : tl_YB n tr st yki yid ynu yst yen yho yca) (hi : i < n) (hk : ¬ tr i 9 = -1 ∨ ¬ tr i 10 = -1) (K : post (tr i 7)) :
    vp_in (nI i) 60 ∧ ((yki i = 0 → vp_in (nI (4 * i + 2)) 240 ∧ post (ynu (4 * i + 2))) ∧ (¬ yki i = 0 → vp_in (nI i) 60 ∧ post (yca i))) := by
  have v : vp_in (nI i) 60 := vp_in_nI (by omega) (by decide)
  obtain ⟨⟨y1, _, _, _, y22, _, _⟩, _, y8⟩ := hY i hi
  refine ⟨v, ?_⟩
  rw [y1]
  obtain ⟨_, _, h | h | h | h⟩ := hV i hi
  · obtain ⟨k, _, _, k7, _⟩ := h
    refine br_t k ⟨vp_in_nI (by omega) (by decide), ?_⟩
    rw [y22, tl_n2_n (by rw [k]; decide), ← k7]; exact K
  · exact absurd h.2.2.2.2 (fun z => hk.elim (fun q => q z.1) (fun q => q z.2))
  · refine br_f (by rw [h.1]; decide) ⟨v, ?_⟩
    rw [(y8 h.1).2]; exact K
  · exact absurd (show tr i 9 = -1 ∧ tr i 10 = -1 from ⟨h.2.2.2.2.2.1, h.2.2.2.2.2.2.1⟩) (fun z => hk.elim (fun q => q z.1) (fun q => q z.2))
theorem tl_entr {A T n a s q : Nat} {tr : Nat → Nat → Int32} {st E : Nat → Int32} (hn : n ≤ 60) (ha : a < 10) (hs : s = 0 ∨ s = 1) (hq : q < 2 ^ 31) (hV : tl_Vs A T tr n) (hX : ∀ t, t < n → xca t = tr t 7) (hY : tl_YB n tr st yki yid ynu yst yen yho yca) (hE : tl_EN s E n xfe xle xne xpe) (eE : ∀ t, E t = tr t (9 + s)) :
    ∀ (d i c : Nat), i + d = n → c ≤ i → c ≤ q → ∃ r : Int32, (∀ (post : Int32 → Prop) (N : Nat), d < N → post r → wX_entry_34 post (nI s) (nI q) xA xT xN xH xC xL xbo xsu xid xki xon xtw xam xli xca xst xla xpl xfe xle xne xpe xhp xlI xlK xlO xlT xlA xlL N (tl_NX E i n (nI a)) (nI c)) ∧ (∀ (post : Int32 → Prop) (N : Nat), d < N → post r → wY_entry_25 post (nI a) (nI s) yA yT (nI n) yC yL ybo ysu yki yid ynu yst yen yho yca ylK ylI ylN ykS ykT N (nI (q - c)) (nI i)) := by
  intro d
  induction d with
  | zero =>
    intro i c hd hc hcq
    have e : i = n := by omega
    subst e
    refine ⟨-2, fun post N hN K => ?_, fun post N hN K => ?_⟩
    · obtain ⟨N, rfl⟩ : ∃ N', N = N' + 1 := ⟨N - 1, by omega⟩
      rw [tl_NX_end (by omega)]
      rw [wX_entry_34]
      unfold wX_entry_64
      exact br_c (fun _ => br_f (by decide) K) (fun _ => br_t (by decide) (br_f (by decide) K))
    · obtain ⟨N, rfl⟩ : ∃ N', N = N' + 1 := ⟨N - 1, by omega⟩
      rw [wY_entry_25]
      dsimp only
      exact br_t (nI_le (Nat.le_refl i) (by omega)) K
  | succ d ih =>
    intro i c hd hc hcq
    have hi : i < n := by omega
    have ci2 : (nI (4 * i + 2)).toNatClampNeg = 4 * i + 2 := nI_clamp (by omega)
    have cc : (nI i).toNatClampNeg = i := nI_clamp (by omega)
    by_cases e : E i = nI a
    · have hk : ¬ tr i 9 = -1 ∨ ¬ tr i 10 = -1 := by
        rw [eE] at e
        rcases hs with rfl | rfl
        · exact Or.inl (fun z => tl_m1 (show a < 2 ^ 31 by omega) (z.symm.trans e))
        · exact Or.inr (fun z => tl_m1 (show a < 2 ^ 31 by omega) (z.symm.trans e))
      by_cases ec : c = q
      · refine ⟨tr i 7, fun post N hN K => ?_, fun post N hN K => ?_⟩
        · obtain ⟨N, rfl⟩ : ∃ N', N = N' + 1 := ⟨N - 1, by omega⟩
          rw [tl_NX_at (by omega) hi e]
          rw [wX_entry_34]
          unfold wX_entry_64
          dsimp only
          rw [cc, hX i hi, ec]
          exact br_t (nI_le (Nat.le_refl q) (by omega)) (br_t (nI_pos' (by omega)) ⟨vp_in_nI (by omega) (by decide), K⟩)
        · obtain ⟨N, rfl⟩ : ∃ N', N = N' + 1 := ⟨N - 1, by omega⟩
          rw [wY_entry_25]
          dsimp only
          rw [tl_j2, cc, ci2]
          refine br_f (nI_ge (by omega) (by omega)) ?_
          refine tl_yentry hn hV hY hi ha hs (fun z => br_f (by decide) (br_t (by rw [ec, Nat.sub_self]; rfl) ?_)) (fun z => absurd (by rw [← eE]; exact e) z)
          exact tl_entv hn hV hY hi hk K
      · obtain ⟨r, gX, gY⟩ := ih (i + 1) (c + 1) (by omega) (by omega) (by omega)
        refine ⟨r, fun post N hN K => ?_, fun post N hN K => ?_⟩
        · obtain ⟨N, rfl⟩ : ∃ N', N = N' + 1 := ⟨N - 1, by omega⟩
          have ci : (nI (2 * i + s)).toNatClampNeg = 2 * i + s := nI_clamp (by omega)
          rw [tl_NX_at (by omega) hi e]
          rw [wX_entry_34]
          dsimp only
          rw [tl_i2, ci, (hE.2.2 i hi a ha e).1, nI_1 c]
          refine br_f (nI_ge (by omega) hq) (br_f (nI_pos (by omega)) ⟨vp_in_nI (by omega) (by decide), ?_⟩)
          rintro _ rfl _ rfl
          exact gX post N (by omega) K
        · obtain ⟨N, rfl⟩ : ∃ N', N = N' + 1 := ⟨N - 1, by omega⟩
          rw [wY_entry_25]
          dsimp only
          have em : nI (q - c) + (-1) = nI (q - (c + 1)) := by
            rw [show q - c = (q - (c + 1)) + 1 by omega, pk_m1]
          rw [em, nI_1 i]
          refine br_f (nI_ge (by omega) (by omega)) ?_
          refine tl_yentry hn hV hY hi ha hs (fun z => br_f (by decide) (br_f (nI_ne0 (by omega) (by omega)) ?_)) (fun z => absurd (by rw [← eE]; exact e) z)
          rintro _ rfl _ rfl
          exact gY post N (by omega) K
    · obtain ⟨r, gX, gY⟩ := ih (i + 1) c (by omega) (by omega) hcq
      refine ⟨r, fun post N hN K => ?_, fun post N hN K => ?_⟩
      · rw [tl_NX_sk (by omega) e]
        exact gX post N (by omega) K
      · obtain ⟨N, rfl⟩ : ∃ N', N = N' + 1 := ⟨N - 1, by omega⟩
        rw [wY_entry_25]
        dsimp only
        rw [nI_1 i]
        refine br_f (nI_ge (by omega) (by omega)) ?_
        refine tl_yentry hn hV hY hi ha hs (fun z => absurd (by rw [eE]; exact z) e) (fun z => br_t rfl ?_)
        rintro _ rfl
        exact gY post N (by omega) K
end
section
variable {yA yT yN yC yL : Int32} {ybo ysu yki yid ynu yst yen yho yca ylK ylI ylN ykS ykT : Nat → Int32}
theorem tl_yneg {A T n a s : Nat} {tr : Nat → Nat → Int32} {st : Nat → Int32} {p : Int32} {post : Int32 → Prop} (hn : n ≤ 60) (ha : a < 10) (hs : s = 0 ∨ s = 1) (hp : p < 0) (hV : tl_Vs A T tr n) (hY : tl_YB n tr st yki yid ynu yst yen yho yca) (K : post (-2)) :
    ∀ (d i j N : Nat), i + d = n → j ≤ i → d < N → wY_entry_25 post (nI a) (nI s) yA yT (nI n) yC yL ybo ysu yki yid ynu yst yen yho yca ylK ylI ylN ykS ykT N (p - nI j) (nI i) := by
  intro d
  induction d with
  | zero =>
    intro i j N hd hj hN
    obtain ⟨N, rfl⟩ : ∃ N', N = N' + 1 := ⟨N - 1, by omega⟩
    rw [wY_entry_25]
    dsimp only
    exact br_t (nI_le (by omega) (by omega)) K
  | succ d ih =>
    intro i j N hd hj hN
    obtain ⟨N, rfl⟩ : ∃ N', N = N' + 1 := ⟨N - 1, by omega⟩
    have hi : i < n := by omega
    have hne : ¬ p - nI j = 0 := fun z => by
      have : p = nI j := by
        have h2 : p - nI j + nI j = 0 + nI j := by rw [z]
        rw [Int32.sub_add_cancel, Int32.zero_add] at h2
        exact h2
      rw [this] at hp
      exact nI_pos (show j < 2 ^ 31 by omega) hp
    have em : p - nI j + (-1) = p - nI (j + 1) := by
      rw [← nI_1 j, Int32.sub_eq_add_neg, Int32.sub_eq_add_neg, Int32.neg_add, Int32.sub_eq_add_neg, Int32.add_assoc]
    rw [wY_entry_25]
    dsimp only
    rw [em, nI_1 i]
    refine br_f (nI_ge (by omega) (by omega)) ?_
    refine tl_yentry hn hV hY hi ha hs (fun z => br_f (by decide) (br_f hne ?_)) (fun z => br_t rfl ?_)
    · rintro _ rfl _ rfl
      exact ih (i + 1) (j + 1) N (by omega) (by omega) (by omega)
    · rintro _ rfl
      exact ih (i + 1) j N (by omega) (by omega) (by omega)
end
end
section
/-! the owed rows of entries, entry, room -/
section
variable {xA xT xN xH xC xL : Int32} {xbo xsu xid xki xon xtw xam xli xca xst xla xpl xfe xle xne xpe xhp xlI xlK xlO xlT xlA xlL : Nat → Int32}
theorem tl_xside1 {post : Int32 → Prop} {A a s : Nat} (hA : A ≤ 10) (ha : a < A) (hs : s = 0 ∨ s = 1) (K : post 1) : wpX_isSide post (nI A, xT, xN, xH, xC, xL, xbo, xsu, xid, xki, xon, xtw, xam, xli, xca, xst, xla, xpl, xfe, xle, xne, xpe, xhp, xlI, xlK, xlO, xlT, xlA, xlL) (nI a) (nI s) := by
  unfold wpX_isSide
  refine tl_xacT hA ha (br_f (by decide) ?_)
  rcases hs with rfl | rfl
  · exact br_t rfl K
  · exact br_f (by decide) (br_t rfl K)
theorem tl_xside0 {post : Int32 → Prop} {A : Nat} {p q : Int32} (hA : A ≤ 10) (h : (p < 0 ∨ nI A ≤ p) ∨ (¬ q = 0 ∧ ¬ q = 1)) (K : post 0) : wpX_isSide post (nI A, xT, xN, xH, xC, xL, xbo, xsu, xid, xki, xon, xtw, xam, xli, xca, xst, xla, xpl, xfe, xle, xne, xpe, xhp, xlI, xlK, xlO, xlT, xlA, xlL) p q := by
  unfold wpX_isSide
  rcases tl_acd p hA with h1 | ⟨a, ha, rfl⟩
  · exact tl_xacF h1 (br_t rfl K)
  · rcases h with h | h
    · exact absurd (h.resolve_left (nI_pos (by omega))) (nI_ge ha (by omega))
    · exact tl_xacT hA ha (br_f (by decide) (br_f h.1 (br_f h.2 K)))
end
theorem tl_sd (p q : Int32) {A : Nat} (hA : A ≤ 10) : ((p < 0 ∨ nI A ≤ p) ∨ (¬ q = 0 ∧ ¬ q = 1)) ∨ ∃ a s : Nat, a < A ∧ (s = 0 ∨ s = 1) ∧ p = nI a ∧ q = nI s := by
  rcases tl_acd p hA with h | ⟨a, ha, e⟩
  · exact Or.inl (Or.inl h)
  · by_cases h0 : q = 0
    · exact Or.inr ⟨a, 0, ha, Or.inl rfl, e, h0⟩
    · by_cases h1 : q = 1
      · exact Or.inr ⟨a, 1, ha, Or.inr rfl, e, h1⟩
      · exact Or.inl (Or.inr ⟨h0, h1⟩)
theorem i_vc_entries {k : Nat} {u : SX} {v : SY} (I : i_Rel k u v) (hk : k + 6 ≤ 3072) (v1 : Int32) (v2 : Int32) : wpX_entries (fun r => wpY_entries (fun r' => r' = r ∧ i_Rel (k + 6) u v) v v1 v2) u v1 v2 := by
  have I' := i_up I
  obtain ⟨A, bd, T, n, tr, st, ch, l, lk, ks, kt, hT, hI, hX, hY⟩ := I
  obtain ⟨xA, xT, xN, xH, xC, xL, xbo, xsu, xid, xki, xon, xtw, xam, xli, xca, xst, xla, xpl, xfe, xle, xne, xpe, xhp, xlI, xlK, xlO, xlT, xlA, xlL⟩ := u
  obtain ⟨yA, yT, yN, yC, yL, ybo, ysu, yki, yid, ynu, yst, yen, yho, yca, ylK, ylI, ylN, ykS, ykT⟩ := v
  obtain ⟨⟨rfl, a2, rfl, a4, a5, a6⟩, hB, hP, hS, hE0, hE1, hL, hH⟩ := hX
  obtain ⟨⟨rfl, b2, rfl, b4, b5, b6⟩, hBY, hSY, hLY, e1, e2⟩ := hY
  obtain ⟨hA, hT2, hn, hl, hSS, hV, hN, hLW⟩ := hI
  unfold wpX_entries
  dsimp only
  rcases tl_sd v1 v2 hA with h | ⟨a, s, ha, hs, rfl, rfl⟩
  · refine tl_xside0 hA h (br_t rfl ?_)
    unfold wpY_entries
    rcases tl_acd v1 hA with h1 | ⟨a, ha, rfl⟩
    · exact tl_yacF h1 (br_t rfl ⟨rfl, I'⟩)
    · rcases h with h | h
      · exact absurd (h.resolve_left (nI_pos (by omega))) (nI_ge ha (by omega))
      · exact tl_yacT hA ha (br_f (by decide) (br_f h.1 (br_f h.2 ⟨rfl, I'⟩)))
  · have hE : ∃ E : Nat → Int32, tl_EN s E n xfe xle xne xpe ∧ ∀ t, E t = tr t (9 + s) := by
      rcases hs with rfl | rfl
      · exact ⟨_, hE0, fun _ => rfl⟩
      · exact ⟨_, hE1, fun _ => rfl⟩
    obtain ⟨E, hE, eE⟩ := hE
    obtain ⟨r, gX, gY⟩ := tl_ents (xA := nI A) (xT := xT) (xN := nI n) (xH := xH) (xC := xC) (xL := xL) (xbo := xbo) (xsu := xsu) (xid := xid) (xki := xki) (xon := xon) (xtw := xtw) (xam := xam) (xli := xli) (xca := xca) (xst := xst) (xla := xla) (xpl := xpl) (xhp := xhp) (xlI := xlI) (xlK := xlK) (xlO := xlO) (xlT := xlT) (xlA := xlA) (xlL := xlL) (yA := nI A) (yT := yT) (yC := yC) (yL := yL) (ybo := ybo) (ysu := ysu) (ylK := ylK) (ylI := ylI) (ylN := ylN) (ykS := ykS) (ykT := ykT) hn (show a < 10 by omega) hs hV hBY hE eE n 0 0 (by omega) (by omega)
    refine tl_xside1 hA ha hs (br_f (by decide) ?_)
    have ci : (nI (2 * a + s)).toNatClampNeg = 2 * a + s := nI_clamp (by omega)
    rw [tl_i2, ci, hE.1 a (by omega)]
    refine ⟨vp_in_nI (by omega) (by decide), ?_⟩
    rintro _ rfl
    refine ⟨n + 1, gX _ (n + 1) (by omega) ?_⟩
    unfold wpY_entries
    refine tl_yacT hA ha (br_f (by decide) ?_)
    rcases hs with rfl | rfl
    · exact br_t rfl ⟨n + 1, gY _ (n + 1) (by omega) ⟨rfl, I'⟩⟩
    · exact br_f (by decide) (br_t rfl ⟨n + 1, gY _ (n + 1) (by omega) ⟨rfl, I'⟩⟩)
theorem i_vc_entry {k : Nat} {u : SX} {v : SY} (I : i_Rel k u v) (hk : k + 6 ≤ 3072) (v1 : Int32) (v2 : Int32) (v3 : Int32) : wpX_entry (fun r => wpY_entry (fun r' => r' = r ∧ i_Rel (k + 6) u v) v v1 v2 v3) u v1 v2 v3 := by
  have I' := i_up I
  obtain ⟨A, bd, T, n, tr, st, ch, l, lk, ks, kt, hT, hI, hX, hY⟩ := I
  obtain ⟨xA, xT, xN, xH, xC, xL, xbo, xsu, xid, xki, xon, xtw, xam, xli, xca, xst, xla, xpl, xfe, xle, xne, xpe, xhp, xlI, xlK, xlO, xlT, xlA, xlL⟩ := u
  obtain ⟨yA, yT, yN, yC, yL, ybo, ysu, yki, yid, ynu, yst, yen, yho, yca, ylK, ylI, ylN, ykS, ykT⟩ := v
  obtain ⟨⟨rfl, a2, rfl, a4, a5, a6⟩, hB, hP, hS, hE0, hE1, hL, hH⟩ := hX
  obtain ⟨⟨rfl, b2, rfl, b4, b5, b6⟩, hBY, hSY, hLY, e1, e2⟩ := hY
  obtain ⟨hA, hT2, hn, hl, hSS, hV, hN, hLW⟩ := hI
  unfold wpX_entry
  dsimp only
  rcases tl_sd v1 v2 hA with h | ⟨a, s, ha, hs, rfl, rfl⟩
  · refine tl_xside0 hA h (br_t rfl ?_)
    unfold wpY_entry
    rcases tl_acd v1 hA with h1 | ⟨a, ha, rfl⟩
    · exact tl_yacF h1 (br_t rfl ⟨rfl, I'⟩)
    · rcases h with h | h
      · exact absurd (h.resolve_left (nI_pos (by omega))) (nI_ge ha (by omega))
      · exact tl_yacT hA ha (br_f (by decide) (br_f h.1 (br_f h.2 ⟨rfl, I'⟩)))
  · have hE : ∃ E : Nat → Int32, tl_EN s E n xfe xle xne xpe ∧ ∀ t, E t = tr t (9 + s) := by
      rcases hs with rfl | rfl
      · exact ⟨_, hE0, fun _ => rfl⟩
      · exact ⟨_, hE1, fun _ => rfl⟩
    obtain ⟨E, hE, eE⟩ := hE
    have toY : ∀ post : Int32 → Prop, (∃ N, wY_entry_25 post (nI a) (nI s) (nI A) yT (nI n) yC yL ybo ysu yki yid ynu yst yen yho yca ylK ylI ylN ykS ykT N v3 0) → wpY_entry post (nI A, yT, nI n, yC, yL, ybo, ysu, yki, yid, ynu, yst, yen, yho, yca, ylK, ylI, ylN, ykS, ykT) (nI a) (nI s) v3 := by
      intro post K
      unfold wpY_entry
      refine tl_yacT hA ha (br_f (by decide) ?_)
      rcases hs with rfl | rfl
      · exact br_t rfl K
      · exact br_f (by decide) (br_t rfl K)
    refine tl_xside1 hA ha hs (br_f (by decide) ?_)
    by_cases h3 : v3 < 0
    · refine br_f (Int32.not_le.mpr h3) ⟨1, ?_⟩
      rw [wX_entry_34]
      unfold wX_entry_64
      refine br_t (Int32.le_of_lt h3) (br_f (by decide) ?_)
      refine toY _ ⟨n + 1, ?_⟩
      have := tl_yneg (yA := nI A) (yT := yT) (yC := yC) (yL := yL) (ybo := ybo) (ysu := ysu) (ylK := ylK) (ylI := ylI) (ylN := ylN) (ykS := ykS) (ykT := ykT) (post := fun r' => r' = -2 ∧ i_Rel (k + 6) (nI A, xT, nI n, xH, xC, xL, xbo, xsu, xid, xki, xon, xtw, xam, xli, xca, xst, xla, xpl, xfe, xle, xne, xpe, xhp, xlI, xlK, xlO, xlT, xlA, xlL) (nI A, yT, nI n, yC, yL, ybo, ysu, yki, yid, ynu, yst, yen, yho, yca, ylK, ylI, ylN, ykS, ykT)) hn (show a < 10 by omega) hs h3 hV hBY ⟨rfl, I'⟩ n 0 0 (n + 1) (by omega) (by omega) (by omega)
      rw [nI_0, Int32.sub_zero] at this
      exact this
    · obtain ⟨q, hq, rfl⟩ := nI_of h3
      obtain ⟨r, gX, gY⟩ := tl_entr (xA := nI A) (xT := xT) (xN := nI n) (xH := xH) (xC := xC) (xL := xL) (xbo := xbo) (xsu := xsu) (xid := xid) (xki := xki) (xon := xon) (xtw := xtw) (xam := xam) (xli := xli) (xca := xca) (xst := xst) (xla := xla) (xpl := xpl) (xhp := xhp) (xlI := xlI) (xlK := xlK) (xlO := xlO) (xlT := xlT) (xlA := xlA) (xlL := xlL) (yA := nI A) (yT := yT) (yC := yC) (yL := yL) (ybo := ybo) (ysu := ysu) (ylK := ylK) (ylI := ylI) (ylN := ylN) (ykS := ykS) (ykT := ykT) hn (show a < 10 by omega) hs hq hV (fun t ht => (hB t ht).1.2.2.2.2.2.2.1) hBY hE eE n 0 0 (by omega) (by omega) (by omega)
      have ci : (nI (2 * a + s)).toNatClampNeg = 2 * a + s := nI_clamp (by omega)
      rw [tl_i2, ci, hE.1 a (by omega)]
      refine br_t (nI_pos' hq) ⟨vp_in_nI (by omega) (by decide), ?_⟩
      rintro _ rfl
      refine ⟨n + 1, gX _ (n + 1) (by omega) ?_⟩
      exact toY _ ⟨n + 1, gY _ (n + 1) (by omega) ⟨rfl, I'⟩⟩
/-! room -/
def tl_mn (x y : Int) : Int := if x ≤ y then x else y
section
variable {xA xT xN xH xC xL : Int32} {xbo xsu xid xki xon xtw xam xli xca xst xla xpl xfe xle xne xpe xhp xlI xlK xlO xlT xlA xlL : Nat → Int32}
theorem tl_xr50 {post : Int32 → Prop} {z : Int} (h0 : 0 ≤ z) (h1 : z ≤ 200000000) (K : post (Int32.ofInt (tl_mn z 1000000))) : wX_room_50 post (Int32.ofInt z) xA xT xN xH xC xL xbo xsu xid xki xon xtw xam xli xca xst xla xpl xfe xle xne xpe xhp xlI xlK xlO xlT xlA xlL := by
  unfold wX_room_50
  have e : Int32.ofInt z ≤ 1000000 ↔ z ≤ 1000000 := tl_oLe (y := 1000000) (by omega) (by omega) (by decide) (by decide)
  have e0 : 0 ≤ Int32.ofInt z ↔ 0 ≤ z := tl_oLe (x := 0) (by decide) (by decide) (by omega) (by omega)
  rw [e, e0]
  unfold tl_mn at K
  refine br_c (fun h => br_t h0 ?_) (fun h => ?_)
  · rw [if_pos h] at K; exact K
  · rw [if_neg h] at K; exact K
end
section
variable {yA yT yN yC yL : Int32} {ybo ysu yki yid ynu yst yen yho yca ylK ylI ylN ykS ykT : Nat → Int32}
theorem tl_yr257 {post : Int32 → Prop} {M : Int} (h0 : 0 ≤ M) (h1 : M ≤ 1000000) (K : post (Int32.ofInt M)) : wY_room_257 post (Int32.ofInt M) 1 yA yT yN yC yL ybo ysu yki yid ynu yst yen yho yca ylK ylI ylN ykS ykT := by
  unfold wY_room_257
  have e : Int32.ofInt M < 1 ↔ M < 1 := tl_oLt (y := 1) (by omega) (by omega) (by decide) (by decide)
  rw [e]
  refine br_c (fun h => ?_) (fun _ => K)
  have : M = 0 := by omega
  rw [this] at K
  exact K
theorem tl_yr200 {post : Int32 → Prop} {F : Nat → Nat → Int} {b : Nat} {M : Int} (hS : tl_SF F ysu) (hF : ∀ a w, 0 ≤ F a w ∧ F a w ≤ 60000000) (hb : b < 10) (hN : ybo b = 1 → F b 0 + F b 1 ≤ F b 3) (h0 : 0 ≤ M) (h1 : M ≤ 1000000) (K : post (Int32.ofInt M)) : wY_room_200 post (nI b) 1 (Int32.ofInt M) yA yT yN yC yL ybo ysu yki yid ynu yst yen yho yca ylK ylI ylN ykS ykT := by
  have ca : (nI b).toNatClampNeg = b := nI_clamp (by omega)
  have c0 : (nI (4 * b)).toNatClampNeg = 4 * b := nI_clamp (by omega)
  have c1 : (nI (4 * b + 1)).toNatClampNeg = 4 * b + 1 := nI_clamp (by omega)
  have c3 : (nI (4 * b + 3)).toNatClampNeg = 4 * b + 3 := nI_clamp (by omega)
  have v0 : vp_in (nI (4 * b)) 40 := vp_in_nI (by omega) (by decide)
  have v1 : vp_in (nI (4 * b + 1)) 40 := vp_in_nI (by omega) (by decide)
  have v3 : vp_in (nI (4 * b + 3)) 40 := vp_in_nI (by omega) (by decide)
  have va : vp_in (nI b) 10 := vp_in_nI (by omega) (by decide)
  have s0 : ysu (4 * b) = Int32.ofInt (F b 0) := hS b hb 0 (by decide)
  have s1 : ysu (4 * b + 1) = Int32.ofInt (F b 1) := hS b hb 1 (by decide)
  have s3 : ysu (4 * b + 3) = Int32.ofInt (F b 3) := hS b hb 3 (by decide)
  have f0 := hF b 0
  have f1 := hF b 1
  have f3 := hF b 3
  unfold wY_room_200 wY_room_255
  rw [tl_j1, tl_j3, tl_j0, ca, c0, c1, c3, s0, s1, s3, ← Int32.ofInt_add, ← Int32.ofInt_sub]
  refine ⟨v0, v1, v3, ?_⟩
  rintro _ rfl
  refine ⟨va, br_c (fun e => br_t ?_ (tl_yr257 h0 h1 K)) (fun e => tl_yr257 h0 h1 K)⟩
  have := hN e
  exact (tl_oLe (y := 1) (by omega) (by omega) (by decide) (by decide)).mpr (by omega)
theorem tl_yr142 {post : Int32 → Prop} {F : Nat → Nat → Int} {b : Nat} {M : Int} (hS : tl_SF F ysu) (hF : ∀ a w, 0 ≤ F a w ∧ F a w ≤ 60000000) (hb : b < 10) (hN : ybo b = 1 → F b 0 + F b 1 ≤ F b 3) (hN2 : ybo b = 2 → F b 2 + F b 3 ≤ F b 1) (h0 : 0 ≤ M) (h1 : M ≤ 1000000) (K : post (Int32.ofInt (tl_mn M (tl_sC ybo F b)))) : wY_room_142 post (nI b) (Int32.ofInt M) 1 yA yT yN yC yL ybo ysu yki yid ynu yst yen yho yca ylK ylI ylN ykS ykT := by
  have ca : (nI b).toNatClampNeg = b := nI_clamp (by omega)
  have c1 : (nI (4 * b + 1)).toNatClampNeg = 4 * b + 1 := nI_clamp (by omega)
  have c2 : (nI (4 * b + 2)).toNatClampNeg = 4 * b + 2 := nI_clamp (by omega)
  have c3 : (nI (4 * b + 3)).toNatClampNeg = 4 * b + 3 := nI_clamp (by omega)
  have v1 : vp_in (nI (4 * b + 1)) 40 := vp_in_nI (by omega) (by decide)
  have v2 : vp_in (nI (4 * b + 2)) 40 := vp_in_nI (by omega) (by decide)
  have v3 : vp_in (nI (4 * b + 3)) 40 := vp_in_nI (by omega) (by decide)
  have va : vp_in (nI b) 10 := vp_in_nI (by omega) (by decide)
  have s1 : ysu (4 * b + 1) = Int32.ofInt (F b 1) := hS b hb 1 (by decide)
  have s2 : ysu (4 * b + 2) = Int32.ofInt (F b 2) := hS b hb 2 (by decide)
  have s3 : ysu (4 * b + 3) = Int32.ofInt (F b 3) := hS b hb 3 (by decide)
  have f1 := hF b 1
  have f2 := hF b 2
  have f3 := hF b 3
  unfold tl_mn tl_sC at K
  unfold wY_room_142 wY_room_199
  rw [tl_j1, tl_j2, tl_j3, ca, c1, c2, c3, s1, s2, s3, ← Int32.ofInt_sub, ← Int32.ofInt_sub]
  refine ⟨v1, v2, v3, ?_⟩
  rintro _ rfl
  rw [tl_oLe (by omega) (by omega) (by omega) (by omega)]
  refine ⟨va, br_c (fun e => ?_) (fun e => ?_)⟩
  · rw [if_pos e] at K
    have := hN2 e
    refine br_c (fun z => ?_) (fun z => ?_)
    · rw [if_pos z] at K
      exact tl_yr200 hS hF hb hN h0 h1 K
    · rw [if_neg z] at K
      exact tl_yr200 hS hF hb hN (by omega) (by omega) K
  · rw [if_neg e, if_pos h1] at K
    exact tl_yr200 hS hF hb hN h0 h1 K
theorem tl_yr83 {post : Int32 → Prop} {F : Nat → Nat → Int} {a b : Nat} {M : Int} (hS : tl_SF F ysu) (hF : ∀ a w, 0 ≤ F a w ∧ F a w ≤ 60000000) (ha : a < 10) (hN2 : ybo a = 2 → F a 2 + F a 3 ≤ F a 1) (K : wY_room_142 post (nI b) (Int32.ofInt M) 1 yA yT yN yC yL ybo ysu yki yid ynu yst yen yho yca ylK ylI ylN ykS ykT) : wY_room_83 post (nI a) (nI b) 1 (Int32.ofInt M) yA yT yN yC yL ybo ysu yki yid ynu yst yen yho yca ylK ylI ylN ykS ykT := by
  have ca : (nI a).toNatClampNeg = a := nI_clamp (by omega)
  have c1 : (nI (4 * a + 1)).toNatClampNeg = 4 * a + 1 := nI_clamp (by omega)
  have c2 : (nI (4 * a + 2)).toNatClampNeg = 4 * a + 2 := nI_clamp (by omega)
  have c3 : (nI (4 * a + 3)).toNatClampNeg = 4 * a + 3 := nI_clamp (by omega)
  have v1 : vp_in (nI (4 * a + 1)) 40 := vp_in_nI (by omega) (by decide)
  have v2 : vp_in (nI (4 * a + 2)) 40 := vp_in_nI (by omega) (by decide)
  have v3 : vp_in (nI (4 * a + 3)) 40 := vp_in_nI (by omega) (by decide)
  have va : vp_in (nI a) 10 := vp_in_nI (by omega) (by decide)
  have s1 : ysu (4 * a + 1) = Int32.ofInt (F a 1) := hS a ha 1 (by decide)
  have s2 : ysu (4 * a + 2) = Int32.ofInt (F a 2) := hS a ha 2 (by decide)
  have s3 : ysu (4 * a + 3) = Int32.ofInt (F a 3) := hS a ha 3 (by decide)
  have f1 := hF a 1
  have f2 := hF a 2
  have f3 := hF a 3
  unfold wY_room_83 wY_room_140
  rw [tl_j1, tl_j2, tl_j3, ca, c1, c2, c3, s1, s2, s3, ← Int32.ofInt_add, ← Int32.ofInt_sub]
  refine ⟨v2, v3, v1, ?_⟩
  rintro _ rfl
  refine ⟨va, br_c (fun e => br_t ?_ K) (fun e => K)⟩
  have := hN2 e
  exact (tl_oLe (y := 1) (by omega) (by omega) (by decide) (by decide)).mpr (by omega)
theorem tl_yroom {post : Int32 → Prop} {F : Nat → Nat → Int} {A a b : Nat} (hA : A ≤ 10) (hS : tl_SF F ysu) (hF : ∀ a w, 0 ≤ F a w ∧ F a w ≤ 60000000) (ha : a < A) (hb : b < A) (hab : a ≠ b) (hN : tl_NB A ybo F) (K : post (Int32.ofInt (tl_mn (tl_mn (tl_sD ybo F a) 1000000) (tl_sC ybo F b)))) : wpY_room post (nI A, yT, yN, yC, yL, ybo, ysu, yki, yid, ynu, yst, yen, yho, yca, ylK, ylI, ylN, ykS, ykT) (nI a) (nI b) := by
  have ca : (nI a).toNatClampNeg = a := nI_clamp (by omega)
  have c0 : (nI (4 * a)).toNatClampNeg = 4 * a := nI_clamp (by omega)
  have c1 : (nI (4 * a + 1)).toNatClampNeg = 4 * a + 1 := nI_clamp (by omega)
  have c3 : (nI (4 * a + 3)).toNatClampNeg = 4 * a + 3 := nI_clamp (by omega)
  have v0 : vp_in (nI (4 * a)) 40 := vp_in_nI (by omega) (by decide)
  have v1 : vp_in (nI (4 * a + 1)) 40 := vp_in_nI (by omega) (by decide)
  have v3 : vp_in (nI (4 * a + 3)) 40 := vp_in_nI (by omega) (by decide)
  have va : vp_in (nI a) 10 := vp_in_nI (by omega) (by decide)
  have s0 : ysu (4 * a) = Int32.ofInt (F a 0) := hS a (by omega) 0 (by decide)
  have s1 : ysu (4 * a + 1) = Int32.ofInt (F a 1) := hS a (by omega) 1 (by decide)
  have s3 : ysu (4 * a + 3) = Int32.ofInt (F a 3) := hS a (by omega) 3 (by decide)
  have f0 := hF a 0
  have f1 := hF a 1
  have f3 := hF a 3
  have go : ∀ M : Int, 0 ≤ M → M ≤ 1000000 → post (Int32.ofInt (tl_mn M (tl_sC ybo F b))) → wY_room_83 post (nI a) (nI b) 1 (Int32.ofInt M) (nI A) yT yN yC yL ybo ysu yki yid ynu yst yen yho yca ylK ylI ylN ykS ykT := fun M m0 m1 K => tl_yr83 hS hF (by omega) (hN a ha).2 (tl_yr142 hS hF (by omega) (hN b hb).1 (hN b hb).2 m0 m1 K)
  unfold wpY_room
  refine tl_yacT hA ha (br_f (by decide) (tl_yacT hA hb (br_f (by decide) (br_f (tl_ne (by omega) (by omega) hab) ?_))))
  rw [tl_j1, tl_j3, tl_j0, ca, c0, c1, c3, s0, s1, s3, ← Int32.ofInt_sub, ← Int32.ofInt_sub]
  refine ⟨v3, v0, v1, ?_⟩
  rintro _ rfl
  have e : 1000000 ≤ Int32.ofInt (F a 3 - F a 0 - F a 1) ↔ 1000000 ≤ F a 3 - F a 0 - F a 1 := tl_oLe (x := 1000000) (by decide) (by decide) (by omega) (by omega)
  rw [e]
  unfold wY_room_82
  refine ⟨va, br_c (fun e => ?_) (fun e => ?_)⟩
  · have h := (hN a ha).1 e
    have es : tl_sD ybo F a = F a 3 - F a 0 - F a 1 := if_pos e
    rw [es] at K
    refine br_c (fun z => go 1000000 (by decide) (by decide) ?_) (fun z => go _ (by omega) (by omega) ?_)
    · have : tl_mn (F a 3 - F a 0 - F a 1) 1000000 = 1000000 := by unfold tl_mn; split <;> omega
      rw [this] at K; exact K
    · have : tl_mn (F a 3 - F a 0 - F a 1) 1000000 = F a 3 - F a 0 - F a 1 := by unfold tl_mn; split <;> omega
      rw [this] at K; exact K
  · have es : tl_sD ybo F a = 1000000 := if_neg e
    rw [es] at K
    exact go 1000000 (by decide) (by decide) K
end
theorem i_vc_room {k : Nat} {u : SX} {v : SY} (I : i_Rel k u v) (hk : k + 6 ≤ 3072) (v1 : Int32) (v2 : Int32) : wpX_room (fun r => wpY_room (fun r' => r' = r ∧ i_Rel (k + 6) u v) v v1 v2) u v1 v2 := by
  have I' := i_up I
  obtain ⟨A, bd, T, n, tr, st, ch, l, lk, ks, kt, hT, hI, hX, hY⟩ := I
  obtain ⟨xA, xT, xN, xH, xC, xL, xbo, xsu, xid, xki, xon, xtw, xam, xli, xca, xst, xla, xpl, xfe, xle, xne, xpe, xhp, xlI, xlK, xlO, xlT, xlA, xlL⟩ := u
  obtain ⟨yA, yT, yN, yC, yL, ybo, ysu, yki, yid, ynu, yst, yen, yho, yca, ylK, ylI, ylN, ykS, ykT⟩ := v
  obtain ⟨⟨rfl, a2, a3, a4, a5, rfl⟩, hB, hP, hS, hE0, hE1, hL, hH⟩ := hX
  obtain ⟨⟨rfl, b2, b3, b4, b5, rfl⟩, hBY, hSY, hLY, e1, e2⟩ := hY
  obtain ⟨hA, hT2, hn, hl, hSS, hV, hN, hLW⟩ := hI
  have hF : ∀ a w, 0 ≤ tl_SM tr st n a w ∧ tl_SM tr st n a w ≤ 60000000 := fun a w => tl_SM_bb hn hV a w
  unfold wpX_room
  dsimp only
  rcases tl_acd v1 hA with h | ⟨a, ha, rfl⟩
  · refine tl_xacF h (br_t rfl ?_)
    unfold wpY_room
    exact tl_yacF h (br_t rfl ⟨rfl, I'⟩)
  rcases tl_acd v2 hA with h | ⟨b, hb, rfl⟩
  · refine tl_xacT hA ha (br_f (by decide) (tl_xacF h (br_t rfl ?_)))
    unfold wpY_room
    exact tl_yacT hA ha (br_f (by decide) (tl_yacF h (br_t rfl ⟨rfl, I'⟩)))
  by_cases hab : a = b
  · refine tl_xacT hA ha (br_f (by decide) (tl_xacT hA hb (br_f (by decide) (br_t (by rw [hab]) ?_))))
    unfold wpY_room
    exact tl_yacT hA ha (br_f (by decide) (tl_yacT hA hb (br_f (by decide) (br_t (by rw [hab]) ⟨rfl, I'⟩))))
  refine tl_xacT hA ha (br_f (by decide) (tl_xacT hA hb (br_f (by decide) (br_f (tl_ne (by omega) (by omega) hab) ?_))))
  have d1 := tl_sD_b (bd := ybo) (a := a) hF
  have d2 := tl_sC_b (bd := ybo) (a := b) hF
  have p1 : 0 ≤ tl_sD ybo (tl_SM tr st n) a := by
    unfold tl_sD
    by_cases e : ybo a = 1
    · have := (hN a ha).1 e
      rw [if_pos e]; omega
    · rw [if_neg e]; decide
  have p2 : 0 ≤ tl_sC ybo (tl_SM tr st n) b := by
    unfold tl_sC
    by_cases e : ybo b = 2
    · have := (hN b hb).2 e
      rw [if_pos e]; omega
    · rw [if_neg e]; decide
  refine tl_xslD hS (by omega) (tl_xslC hS (by omega) ?_)
  rw [tl_oLe (by omega) (by omega) (by omega) (by omega)]
  refine br_c (fun z => ?_) (fun z => ?_)
  · refine tl_xr50 p2 (by omega) ?_
    refine tl_yroom hA hSY hF ha hb hab hN ⟨?_, I'⟩
    refine congrArg Int32.ofInt ?_
    unfold tl_mn
    split <;> split <;> split <;> omega
  · refine tl_xr50 p1 (by omega) ?_
    refine tl_yroom hA hSY hF ha hb hab hN ⟨?_, I'⟩
    refine congrArg Int32.ofInt ?_
    unfold tl_mn
    split <;> split <;> (try split) <;> omega
end
section
/-! the next hold to lapse -/
def tl_Wt (tr : Nat → Nat → Int32) (st : Nat → Int32) (t : Nat) : Prop := tr t 1 = 1 ∧ st t = 0 ∧ ¬ tr t 5 ≤ 0
theorem tl_wt_y {w : Nat → Int32} (h : w 1 = 1) (h5 : ¬ w 5 ≤ 0) : tl_wt w = w 6 := if_pos ⟨h, h5⟩
theorem tl_wt_n {w : Nat → Int32} (h5 : w 5 ≤ 0) : tl_wt w = 0 := if_neg (fun z => z.2 h5)
theorem tl_wt_p {A T : Nat} {tr : Nat → Nat → Int32} {t : Nat} {w : Nat → Int32} (hT : T ≤ 4000000) (hV : tl_V A T tr t w) (h : w 1 = 1) (h5 : ¬ w 5 ≤ 0) : ¬ w 6 ≤ 0 := by
  obtain ⟨_, _, _, ⟨p, hp, e, h0⟩, _⟩ := tl_V_mv hV h
  rw [e]; exact nI_nle (h0 h5) (by omega)
section
variable {yA yT yN yC yL : Int32} {ybo ysu yki yid ynu yst yen yho yca ylK ylI ylN ykS ykT : Nat → Int32}
theorem tl_y45 {post : Int32 → Prop} {J : Int32 → Int32 → Prop} {i : Nat} {x1 z0 : Int32} (hi : i < 60) (h1 : x1 < 0 ∨ vp_in x1 60)
    (Ka : (z0 = 0 ∨ (¬ x1 < 0 ∧ ¬ (yen i < yen x1.toNatClampNeg ∨ (yen i = yen x1.toNatClampNeg ∧ yid i < yid x1.toNatClampNeg)))) → J x1 (nI (i + 1)))
    (Kb : (¬ z0 = 0 ∧ (x1 < 0 ∨ (yen i < yen x1.toNatClampNeg ∨ (yen i = yen x1.toNatClampNeg ∧ yid i < yid x1.toNatClampNeg)))) → J (nI i) (nI (i + 1))) : wY_nextLapse_45 post J x1 (nI i) z0 yA yT yN yC yL ybo ysu yki yid ynu yst yen yho yca ylK ylI ylN ykS ykT := by
  have v : vp_in (nI i) 60 := vp_in_nI hi (by decide)
  have c : (nI i).toNatClampNeg = i := nI_clamp (by omega)
  unfold wY_nextLapse_45 wY_nextLapse_95 wY_nextLapse_99 wY_nextLapse_100
  rw [c, nI_1 i]
  refine br_c (fun h => ?_) (fun h => ⟨v, h1.resolve_left h, br_c (fun g => ?_) (fun g => ⟨v, h1.resolve_left h, br_c (fun g2 => ⟨v, h1.resolve_left h, br_c (fun g3 => ?_) (fun g3 => ?_)⟩) (fun g2 => ?_)⟩)⟩)
  · refine br_c (fun z => ?_) (fun z => br_f (by decide) ?_)
    · rintro _ rfl; exact Ka (Or.inl z)
    · rintro _ rfl; exact Kb ⟨z, Or.inl h⟩
  · refine br_c (fun z => ?_) (fun z => br_f (by decide) ?_)
    · rintro _ rfl; exact Ka (Or.inl z)
    · rintro _ rfl; exact Kb ⟨z, Or.inr (Or.inl g)⟩
  · have hn : ¬ (yen i < yen x1.toNatClampNeg ∨ (yen i = yen x1.toNatClampNeg ∧ yid i < yid x1.toNatClampNeg)) := by
      rintro (q | ⟨_, q⟩)
      · exact g q
      · exact Int32.not_lt.mpr g3 q
    refine br_c (fun z => ?_) (fun z => br_t rfl ?_)
    · rintro _ rfl; exact Ka (Or.inl z)
    · rintro _ rfl; exact Ka (Or.inr ⟨h, hn⟩)
  · refine br_c (fun z => ?_) (fun z => br_f (by decide) ?_)
    · rintro _ rfl; exact Ka (Or.inl z)
    · rintro _ rfl; exact Kb ⟨z, Or.inr (Or.inr ⟨g2, Int32.not_le.mp g3⟩)⟩
  · have hn : ¬ (yen i < yen x1.toNatClampNeg ∨ (yen i = yen x1.toNatClampNeg ∧ yid i < yid x1.toNatClampNeg)) := by
      rintro (q | ⟨q, _⟩)
      · exact g q
      · exact g2 q
    refine br_c (fun z => ?_) (fun z => br_t rfl ?_)
    · rintro _ rfl; exact Ka (Or.inl z)
    · rintro _ rfl; exact Ka (Or.inr ⟨h, hn⟩)
/-- the best of the first i -/
def tl_Be (tr : Nat → Nat → Int32) (st : Nat → Int32) (i : Nat) (x : Int32) : Prop :=
  (x = -1 ∧ ∀ t, t < i → ¬ tl_Wt tr st t) ∨ (∃ b, b < i ∧ x = nI b ∧ tl_Wt tr st b ∧ ∀ t, t < i → tl_Wt tr st t → ¬ tl_bf (fun t => tr t 6) (fun t => tr t 0) (nI t) (nI b))
theorem tl_bfN {la id : Nat → Int32} {a b : Nat} (ha : a < 1000) (hb : b < 1000) : tl_bf la id (nI a) (nI b) ↔ (la a < la b ∨ (la a = la b ∧ id a < id b)) := by
  unfold tl_bf
  rw [nI_clamp (by omega), nI_clamp (by omega)]
theorem tl_ynext4 {A T n : Nat} {tr : Nat → Nat → Int32} {st : Nat → Int32} {post : Int32 → Prop} (hT : T ≤ 4000000) (hn : n ≤ 60) (hV : tl_Vs A T tr n) (hY : tl_YB n tr st yki yid ynu yst yen yho yca)
    (K : ∀ x, tl_Be tr st n x → (x = -1 → post (-1)) ∧ (∀ b, b < n → x = nI b → post (tr b 0))) : ∀ (d i N : Nat) (x : Int32), i + d = n → d < N → tl_Be tr st i x → wY_nextLapse_4 post yA yT (nI n) yC yL ybo ysu yki yid ynu yst yen yho yca ylK ylI ylN ykS ykT N x (nI i) := by
  intro d
  induction d with
  | zero =>
    intro i N x hd hN hb
    obtain ⟨N, rfl⟩ : ∃ N', N = N' + 1 := ⟨N - 1, by omega⟩
    have e : i = n := by omega
    subst e
    rw [wY_nextLapse_4]
    dsimp only
    refine br_t (nI_le (Nat.le_refl i) (by omega)) ?_
    obtain ⟨k1, k2⟩ := K x hb
    rcases hb with ⟨rfl, _⟩ | ⟨b, hb, rfl, _⟩
    · exact br_f (by decide) (k1 rfl)
    · have c : (nI b).toNatClampNeg = b := nI_clamp (by omega)
      rw [c, (hY b hb).1.2.1]
      exact br_t (nI_pos' (by omega)) ⟨vp_in_nI (by omega) (by decide), k2 b hb rfl⟩
  | succ d ih =>
    intro i N x hd hN hb
    obtain ⟨N, rfl⟩ : ∃ N', N = N' + 1 := ⟨N - 1, by omega⟩
    have hi : i < n := by omega
    have v : vp_in (nI i) 60 := vp_in_nI (by omega) (by decide)
    have c : (nI i).toNatClampNeg = i := nI_clamp (by omega)
    obtain ⟨⟨y1, y0, _, _, _, _, ys⟩, ye, _⟩ := hY i hi
    have hx : x < 0 ∨ vp_in x 60 := by
      rcases hb with ⟨rfl, _⟩ | ⟨b, hb, rfl, _⟩
      · exact Or.inl (by decide)
      · exact Or.inr (vp_in_nI (by omega) (by decide))
    have skip : ¬ tl_Wt tr st i → wY_nextLapse_44 post (wY_nextLapse_4 post yA yT (nI n) yC yL ybo ysu yki yid ynu yst yen yho yca ylK ylI ylN ykS ykT N) x (nI i) yA yT (nI n) yC yL ybo ysu yki yid ynu yst yen yho yca ylK ylI ylN ykS ykT := fun hw => by
      unfold wY_nextLapse_44
      refine tl_y45 (by omega) hx (fun _ => ?_) (fun z => absurd rfl z.1)
      refine ih (i + 1) N x (by omega) (by omega) ?_
      rcases hb with ⟨e, h⟩ | ⟨b, hb, e, h1, h2⟩
      · refine Or.inl ⟨e, fun t ht => ?_⟩
        by_cases z : t = i
        · rw [z]; exact hw
        · exact h t (by omega)
      · refine Or.inr ⟨b, by omega, e, h1, fun t ht hwt => ?_⟩
        by_cases z : t = i
        · rw [z] at hwt; exact absurd hwt hw
        · exact h2 t (by omega) hwt
    rw [wY_nextLapse_4]
    dsimp only
    rw [c, y1, ys, ye]
    refine br_f (nI_ge (by omega) (by omega)) ⟨v, br_c (fun k1 => ⟨v, br_c (fun k2 => ⟨v, ?_⟩) (fun k2 => skip (fun z => k2 z.2.1))⟩) (fun k1 => skip (fun z => k1 z.1))⟩
    by_cases k5 : tr i 5 ≤ 0
    · rw [tl_wt_n k5]
      exact br_t (by decide) (skip (fun z => z.2.2 k5))
    · have hw : tl_Wt tr st i := ⟨k1, k2, k5⟩
      rw [tl_wt_y k1 k5]
      refine br_f (tl_wt_p hT (hV i hi) k1 k5) ?_
      refine tl_y45 (by omega) hx (fun z => ?_) (fun z => ?_)
      · refine ih (i + 1) N x (by omega) (by omega) ?_
        have z := z.resolve_left (by decide)
        rcases hb with ⟨e, h⟩ | ⟨b, hb, e, h1, h2⟩
        · rw [e] at z; exact absurd (by decide) z.1
        · refine Or.inr ⟨b, by omega, e, h1, fun t ht hwt => ?_⟩
          by_cases q : t = i
          · have cb : (nI b).toNatClampNeg = b := nI_clamp (by omega)
            obtain ⟨⟨_, yb0, _⟩, yeb, _⟩ := hY b (by omega)
            rw [q, tl_bfN (by omega) (by omega)]
            rw [e, cb, y0, yb0, ye, yeb, tl_wt_y k1 k5, tl_wt_y h1.1 h1.2.2] at z
            exact z.2
          · exact h2 t (by omega) hwt
      · refine ih (i + 1) N (nI i) (by omega) (by omega) (Or.inr ⟨i, by omega, rfl, hw, fun t ht hwt => ?_⟩)
        by_cases q : t = i
        · rw [q, tl_bfN (by omega) (by omega)]
          rintro (g | ⟨_, g⟩) <;> exact Int32.lt_irrefl g
        · rcases hb with ⟨e, h⟩ | ⟨b, hb, e, h1, h2⟩
          · exact absurd hwt (h t (by omega))
          · have cb : (nI b).toNatClampNeg = b := nI_clamp (by omega)
            obtain ⟨⟨_, yb0, _⟩, yeb, _⟩ := hY b (by omega)
            have z2 := z.2.resolve_left (by rw [e]; exact nI_pos (by omega))
            rw [e, cb, y0, yb0, ye, yeb, tl_wt_y k1 k5, tl_wt_y h1.1 h1.2.2] at z2
            have z3 : tl_bf (fun t => tr t 6) (fun t => tr t 0) (nI i) (nI b) := (tl_bfN (by omega) (by omega)).mpr z2
            have z4 := h2 t (by omega) hwt
            exact tl_le_trn _ _ _ _ _ (tl_le_of z3) z4
end
theorem i_vc_nextLapse {k : Nat} {u : SX} {v : SY} (I : i_Rel k u v) (hk : k + 6 ≤ 3072) : wpX_nextLapse (fun r u' => wpY_nextLapse (fun r' => r' = r ∧ i_Rel (k + 6) u' v) v) u := by
  obtain ⟨A, bd, T, n, tr, st, ch, l, lk, ks, kt, hT, hI, hX, hY⟩ := I
  have hI' := hI
  have hY' := hY
  obtain ⟨xA, xT, xN, xH, xC, xL, xbo, xsu, xid, xki, xon, xtw, xam, xli, xca, xst, xla, xpl, xfe, xle, xne, xpe, xhp, xlI, xlK, xlO, xlT, xlA, xlL⟩ := u
  obtain ⟨yA, yT, yN, yC, yL, ybo, ysu, yki, yid, ynu, yst, yen, yho, yca, ylK, ylI, ylN, ykS, ykT⟩ := v
  obtain ⟨hx0, hB, hP, hS, hE0, hE1, hL, hH0⟩ := hX
  obtain ⟨m, rfl, hH⟩ := hH0 trivial
  obtain ⟨⟨b1, b2, rfl, b4, b5, b6⟩, hBY, hSY, hLY, e1, e2⟩ := hY
  obtain ⟨hA, hT2, hn, hl, hSS, hV, hN, hLW⟩ := hI
  unfold wpX_nextLapse
  dsimp only
  refine tl_xclean hn (fun t ht => (hB t ht).1.2.2.2.2.2.2.2) hH (fun m' h' hH' hTP => ?_)
  dsimp only
  have R : i_Rel (k + 6) (xA, xT, xN, nI m', xC, xL, xbo, xsu, xid, xki, xon, xtw, xam, xli, xca, xst, xla, xpl, xfe, xle, xne, xpe, h', xlI, xlK, xlO, xlT, xlA, xlL) (yA, yT, nI n, yC, yL, ybo, ysu, yki, yid, ynu, yst, yen, yho, yca, ylK, ylI, ylN, ykS, ykT) := ⟨A, bd, T, n, tr, st, ch, l, lk, ks, kt, by omega, hI', ⟨hx0, hB, hP, hS, hE0, hE1, hL, fun _ => ⟨m', rfl, hH'⟩⟩, hY'⟩
  have hm60 : m' ≤ 60 := by have := hH'.1; omega
  rcases hTP with rfl | ⟨hm, t, ht, et, k1, k5, ks0⟩
  · refine br_t rfl ?_
    unfold wpY_nextLapse
    refine ⟨n + 1, tl_ynext4 hT2 hn hV hBY (fun x hx => ⟨fun _ => ⟨rfl, R⟩, fun b hb e => ?_⟩) n 0 (n + 1) (-1) (by omega) (by omega) (Or.inl ⟨rfl, fun t ht => by omega⟩)⟩
    rcases hx with ⟨e', _⟩ | ⟨b', hb', e', hw, _⟩
    · rw [e] at e'; exact absurd e' (tl_m1' (by omega))
    · obtain ⟨j, hj, _⟩ := hH'.2.2.2 b' hb' hw.1 hw.2.1 hw.2.2
      omega
  · refine br_f (nI_ne0 hm (by omega)) ⟨by rw [et]; exact vp_in_nI (by omega) (by decide), ?_⟩
    have ct : (h' 0).toNatClampNeg = t := by rw [et]; exact nI_clamp (by omega)
    rw [ct, (hB t ht).1.1]
    unfold wpY_nextLapse
    refine ⟨n + 1, tl_ynext4 hT2 hn hV hBY (fun x hx => ?_) n 0 (n + 1) (-1) (by omega) (by omega) (Or.inl ⟨rfl, fun t ht => by omega⟩)⟩
    have hwt : tl_Wt tr st t := ⟨k1, ks0, k5⟩
    rcases hx with ⟨e', h⟩ | ⟨b', hb', e', hw, hmin⟩
    · exact absurd hwt (h t ht)
    · refine ⟨fun e => ?_, fun b hb e => ⟨?_, R⟩⟩
      · rw [e] at e'; exact absurd e' (tl_m1 (by omega))
      · have eb : b' = b := by rw [e] at e'; exact ((nI_eq (by omega) (by omega)).mp e').symm
        rw [eb] at hw hmin
        obtain ⟨j, hj, ej⟩ := hH'.2.2.2 b hb hw.1 hw.2.1 hw.2.2
        have g1 := tl_HO_min (tl_le_tot xla xid) (tl_le_trn xla xid) hH'.2.2.1 j hj
        have g2 := hmin t ht hwt
        rw [et, ej] at g1
        unfold tl_le at g1
        rw [tl_bfN (by omega) (by omega), (hB b hb).2 hw.1, (hB t ht).2 k1, (hB b hb).1.1, (hB t ht).1.1] at g1
        rw [tl_bfN (by omega) (by omega)] at g2
        rw [Int32.lt_iff_toInt_lt, Int32.lt_iff_toInt_lt, ← Int32.toInt_inj] at g1 g2
        exact Int32.toInt_inj.mp (by omega)
end
section
/-! time passes: holds lapse -/
/-- how many of the first n are due at x -/
def tl_cn (tr : Nat → Nat → Int32) (x : Int32) (st : Nat → Int32) : Nat → Nat
  | 0 => 0
  | n + 1 => tl_cn tr x st n + (if tr n 1 = 1 ∧ st n = 0 ∧ (¬ tr n 5 ≤ 0) ∧ tr n 6 ≤ x then 1 else 0)
def tl_Du (tr : Nat → Nat → Int32) (x : Int32) (st : Nat → Int32) (t : Nat) : Prop := tr t 1 = 1 ∧ st t = 0 ∧ (¬ tr t 5 ≤ 0) ∧ tr t 6 ≤ x
/-- the states when those due of the first i have lapsed -/
def tl_fs (tr : Nat → Nat → Int32) (x : Int32) (st : Nat → Int32) (i : Nat) : Nat → Int32 := fun t => if t < i ∧ tr t 1 = 1 ∧ st t = 0 ∧ (¬ tr t 5 ≤ 0) ∧ tr t 6 ≤ x then 3 else st t
section
variable {tr : Nat → Nat → Int32} {x : Int32} {st st' : Nat → Int32} {n i t h : Nat}
theorem tl_cn_t (d : tl_Du tr x st n) : tl_cn tr x st (n + 1) = tl_cn tr x st n + 1 := by
  show tl_cn tr x st n + (if tr n 1 = 1 ∧ st n = 0 ∧ (¬ tr n 5 ≤ 0) ∧ tr n 6 ≤ x then 1 else 0) = _
  unfold tl_Du at d
  rw [if_pos d]
theorem tl_cn_f (d : ¬ tl_Du tr x st n) : tl_cn tr x st (n + 1) = tl_cn tr x st n := by
  show tl_cn tr x st n + (if tr n 1 = 1 ∧ st n = 0 ∧ (¬ tr n 5 ≤ 0) ∧ tr n 6 ≤ x then 1 else 0) = _
  unfold tl_Du at d
  rw [if_neg d]; rfl
theorem tl_fs_t (h : t < i) (d : tl_Du tr x st t) : tl_fs tr x st i t = 3 := if_pos ⟨h, d⟩
theorem tl_fs_f (d : ¬ tl_Du tr x st t) : tl_fs tr x st i t = st t := if_neg (fun z => d z.2)
theorem tl_fs_g (h : i ≤ t) : tl_fs tr x st i t = st t := if_neg (fun z => by omega)
theorem tl_Du_c (e : st t = st' t) : tl_Du tr x st t ↔ tl_Du tr x st' t := by
  unfold tl_Du; rw [e]
theorem tl_cn_c : ∀ n : Nat, (∀ t, t < n → st t = st' t) → tl_cn tr x st n = tl_cn tr x st' n := by
  intro n
  induction n with
  | zero => intro _; rfl
  | succ n ih =>
    intro e
    have e1 := ih (fun t ht => e t (by omega))
    by_cases d : tl_Du tr x st n
    · rw [tl_cn_t d, tl_cn_t ((tl_Du_c (e n (by omega))).mp d), e1]
    · rw [tl_cn_f d, tl_cn_f (fun z => d ((tl_Du_c (e n (by omega))).mpr z)), e1]
theorem tl_cn_0 : ∀ n : Nat, (∀ t, t < n → ¬ tl_Du tr x st t) → tl_cn tr x st n = 0 := by
  intro n
  induction n with
  | zero => intro _; rfl
  | succ n ih =>
    intro e
    rw [tl_cn_f (e n (by omega))]
    exact ih (fun t ht => e t (by omega))
theorem tl_cn_u (d : tl_Du tr x st h) : ∀ n : Nat, h < n → tl_cn tr x (upd st h 3) n + 1 = tl_cn tr x st n := by
  intro n
  induction n with
  | zero => intro z; omega
  | succ n ih =>
    intro hn
    by_cases e : h = n
    · subst e
      have d' : ¬ tl_Du tr x (upd st h 3) h := fun z => by
        have := z.2.1
        rw [pk_us] at this
        exact absurd this (by decide)
      rw [tl_cn_f d', tl_cn_t d, tl_cn_c (st' := st) h (fun t ht => pk_un (by omega))]
    · have en : upd st h 3 n = st n := pk_un (by omega)
      by_cases dn : tl_Du tr x st n
      · rw [tl_cn_t dn, tl_cn_t ((tl_Du_c en).mpr dn), ← ih (by omega)]
      · rw [tl_cn_f dn, tl_cn_f (fun z => dn ((tl_Du_c en).mp z)), ← ih (by omega)]
theorem tl_cn_le : ∀ n : Nat, tl_cn tr x st n ≤ n := by
  intro n
  induction n with
  | zero => exact Nat.le_refl 0
  | succ n ih =>
    by_cases d : tl_Du tr x st n
    · rw [tl_cn_t d]; omega
    · rw [tl_cn_f d]; omega
theorem tl_fs_u (d : tl_Du tr x st h) (hh : h < n) : ∀ t, t < n → tl_fs tr x (upd st h 3) n t = tl_fs tr x st n t := by
  intro t ht
  by_cases e : t = h
  · have d' : ¬ tl_Du tr x (upd st h 3) h := fun z => by
      have := z.2.1
      rw [pk_us] at this
      exact absurd this (by decide)
    rw [e, tl_fs_f d', tl_fs_t hh d, pk_us]
  · have en : upd st h 3 t = st t := pk_un e
    by_cases dn : tl_Du tr x st t
    · rw [tl_fs_t ht dn, tl_fs_t ht ((tl_Du_c en).mpr dn)]
    · rw [tl_fs_f dn, tl_fs_f (fun z => dn ((tl_Du_c en).mp z)), en]
theorem tl_fs_s (d : tl_Du tr x st i) : ∀ t, upd (tl_fs tr x st i) i 3 t = tl_fs tr x st (i + 1) t := by
  intro t
  by_cases e : t = i
  · rw [e, pk_us, tl_fs_t (by omega) d]
  · rw [pk_un e]
    by_cases dt : tl_Du tr x st t
    · by_cases h : t < i
      · rw [tl_fs_t h dt, tl_fs_t (by omega) dt]
      · rw [tl_fs_g (by omega), tl_fs_g (by omega)]
    · rw [tl_fs_f dt, tl_fs_f dt]
theorem tl_fs_n (d : ¬ tl_Du tr x st i) : ∀ t, tl_fs tr x st i t = tl_fs tr x st (i + 1) t := by
  intro t
  by_cases e : t = i
  · rw [e, tl_fs_f d, tl_fs_f d]
  · by_cases dt : tl_Du tr x st t
    · by_cases h : t < i
      · rw [tl_fs_t h dt, tl_fs_t (by omega) dt]
      · rw [tl_fs_g (by omega), tl_fs_g (by omega)]
    · rw [tl_fs_f dt, tl_fs_f dt]
end
theorem tl_NB_fs {A : Nat} {bd : Nat → Int32} {T n : Nat} {tr : Nat → Nat → Int32} {st : Nat → Int32} {x : Int32} (hV : tl_Vs A T tr n) (hN : tl_NB A bd (tl_SM tr st n)) : ∀ i : Nat, i ≤ n → tl_NB A bd (tl_SM tr (tl_fs tr x st i) n) := by
  intro i
  induction i with
  | zero => intro _; exact tl_NB_c (fun a w => tl_SM_c n (fun _ _ => rfl) (fun t ht => (tl_fs_g (Nat.zero_le t)).symm)) hN
  | succ i ih =>
    intro hi
    by_cases d : tl_Du tr x st i
    · obtain ⟨_, ⟨a, b, m, ha, hb, hab, ea, eb, hm1, hm2, em⟩, _⟩ := tl_V_mv (hV i (by omega)) d.1
      refine tl_NB_c (fun p w => ?_) (tl_NB_un (d := tr i 2) (c := tr i 3) (x := (tr i 4).toInt) (ih (by omega)) (by rw [tl_nT em (by omega)]; omega))
      rw [← tl_SM_un (s := 3) d.1 (by rw [tl_fs_g (Nat.le_refl i)]; exact d.2.1) (by decide) n (by omega)]
      exact tl_SM_c n (fun _ _ => rfl) (fun t ht => tl_fs_s d t)
    · exact tl_NB_c (fun p w => tl_SM_c n (fun _ _ => rfl) (fun t ht => tl_fs_n d t)) (ih (by omega))
section
variable {yA yT yN yC yL : Int32} {ybo ysu yki yid ynu yst yen yho yca ylK ylI ylN ykS ykT : Nat → Int32}
theorem tl_ypass {A T n : Nat} {tr : Nat → Nat → Int32} {st : Nat → Int32} {post : Int32 → SY → Prop} (hA : A ≤ 10) (hT : T ≤ 4000000) (hn : n ≤ 60) (hV : tl_Vs A T tr n)
    (K : ∀ su s : Nat → Int32, tl_SF (tl_SM tr (tl_fs tr (nI T) st n) n) su → tl_YB n tr (tl_fs tr (nI T) st n) yki yid ynu s yen yho yca → post (nI (tl_cn tr (nI T) st n)) (yA, nI T, nI n, yC, yL, ybo, su, yki, yid, ynu, s, yen, yho, yca, ylK, ylI, ylN, ykS, ykT)) :
    ∀ (d i N : Nat) (su s : Nat → Int32), i + d = n → d < N → tl_SF (tl_SM tr (tl_fs tr (nI T) st i) n) su → tl_YB n tr (tl_fs tr (nI T) st i) yki yid ynu s yen yho yca → wY_pass_37 post N (nI (tl_cn tr (nI T) st i)) (nI i) yA (nI T) (nI n) yC yL ybo su yki yid ynu s yen yho yca ylK ylI ylN ykS ykT := by
  intro d
  induction d with
  | zero =>
    intro i N su s hd hN hS hY
    obtain ⟨N, rfl⟩ : ∃ N', N = N' + 1 := ⟨N - 1, by omega⟩
    have e : i = n := by omega
    subst e
    rw [wY_pass_37]
    dsimp only
    exact br_t (nI_le (Nat.le_refl i) (by omega)) (K su s hS hY)
  | succ d ih =>
    intro i N su s hd hN hS hY
    obtain ⟨N, rfl⟩ : ∃ N', N = N' + 1 := ⟨N - 1, by omega⟩
    have hi : i < n := by omega
    have v : vp_in (nI i) 60 := vp_in_nI (by omega) (by decide)
    have c : (nI i).toNatClampNeg = i := nI_clamp (by omega)
    have v0 : vp_in (nI (4 * i)) 240 := vp_in_nI (by omega) (by decide)
    have v1 : vp_in (nI (4 * i + 1)) 240 := vp_in_nI (by omega) (by decide)
    have v2 : vp_in (nI (4 * i + 2)) 240 := vp_in_nI (by omega) (by decide)
    have c0 : (nI (4 * i)).toNatClampNeg = 4 * i := nI_clamp (by omega)
    have c1 : (nI (4 * i + 1)).toNatClampNeg = 4 * i + 1 := nI_clamp (by omega)
    have c2 : (nI (4 * i + 2)).toNatClampNeg = 4 * i + 2 := nI_clamp (by omega)
    obtain ⟨⟨y1, _, y20, y21, y22, _, ys⟩, ye, _⟩ := hY i hi
    rw [tl_fs_g (Nat.le_refl i)] at ys
    have skip : ¬ tl_Du tr (nI T) st i → ∀ z, z = nI (i + 1) → wY_pass_37 post N (nI (tl_cn tr (nI T) st i)) z yA (nI T) (nI n) yC yL ybo su yki yid ynu s yen yho yca ylK ylI ylN ykS ykT := by
      rintro hd2 _ rfl
      rw [← tl_cn_f hd2]
      exact ih (i + 1) N su s (by omega) (by omega) (tl_SF_c hS (fun p w _ _ => tl_SM_c n (fun _ _ => rfl) (fun t _ => tl_fs_n hd2 t))) (tl_YB_c hY (fun _ _ => rfl) (fun t ht => ((hY t ht).1.2.2.2.2.2.2).trans (tl_fs_n hd2 t)))
    rw [wY_pass_37]
    dsimp only
    rw [tl_j1, tl_j2, tl_j0, c, c0, c1, c2, y1, ys, ye, nI_1 i]
    refine br_f (nI_ge (by omega) (by omega)) ⟨v, br_c (fun k1 => ⟨v, br_c (fun k2 => ⟨v, ?_⟩) (fun k2 => skip (fun z => k2 z.2.1))⟩) (fun k1 => skip (fun z => k1 z.1))⟩
    by_cases k5 : tr i 5 ≤ 0
    · rw [tl_wt_n k5]
      exact br_t (by decide) (skip (fun z => z.2.2.1 k5))
    · rw [tl_wt_y k1 k5]
      refine br_f (tl_wt_p hT (hV i hi) k1 k5) ⟨v, br_c (fun k6 => skip (fun z => Int32.not_lt.mpr z.2.2.2 k6)) (fun k6 => ⟨v0, v1, v2, ?_⟩)⟩
      have du : tl_Du tr (nI T) st i := ⟨k1, k2, k5, Int32.not_lt.mp k6⟩
      obtain ⟨_, ⟨a, b, m, ha, hb, hab, ea, eb, hm1, hm2, em⟩, _⟩ := tl_V_mv (hV i hi) k1
      have k12 : ¬ tr i 1 = 2 := by rw [k1]; decide
      rw [tl_n1_n k12] at y21
      rw [tl_n2_n k12] at y22
      rw [y20, y21, y22]
      refine tl_yadd (w := 0) ea eb (by omega) (by omega) (by decide) ⟨v, ?_⟩
      rintro _ rfl
      rw [nI_1 (tl_cn tr (nI T) st i), ← tl_cn_t du]
      rintro _ rfl _ rfl
      refine ih (i + 1) N _ _ (by omega) (by omega) ?_ ?_
      · refine tl_SF_c (tl_SF_ad (d := a) (c := b) (w0 := 0) hS (by omega) (by omega) (by decide) (tl_on (tr i 4))) (fun p w _ _ => ?_)
        have e1 : tl_SM tr (tl_fs tr (nI T) st (i + 1)) n p w = tl_SM tr (upd (tl_fs tr (nI T) st i) i 3) n p w := tl_SM_c n (fun _ _ => rfl) (fun t _ => (tl_fs_s du t).symm)
        rw [e1, tl_SM_un (s := 3) k1 (by rw [tl_fs_g (Nat.le_refl i)]; exact k2) (by decide) n hi, tl_dl_neg, ea, eb]
        omega
      · refine tl_YB_c hY (fun _ _ => rfl) (fun t ht => ?_)
        show upd s i 3 t = _
        rw [← tl_fs_s du t]
        by_cases z : t = i
        · rw [z, pk_us, pk_us]
        · rw [pk_un z, pk_un z]; exact (hY t ht).1.2.2.2.2.2.2
end
section
variable {xA xT xN xH xC xL : Int32} {xbo xsu xid xki xon xtw xam xli xca xst xla xpl xfe xle xne xpe xhp xlI xlK xlO xlT xlA xlL : Nat → Int32}
theorem tl_xpass {A : Nat} {bd : Nat → Int32} {T n : Nat} {tr : Nat → Nat → Int32} {sF : Nat → Int32} {ch : Int32} {l : Nat} {lk : Nat → Nat → Int32} {R : Nat} {post : Int32 → SX → Prop} (hA : A ≤ 10) (hT : T ≤ 4000000) (hn : n ≤ 60) (hV : tl_Vs A T tr n) (hP : tl_PL n tr xpl) (hE0 : tl_EN 0 (fun t => tr t 9) n xfe xle xne xpe) (hE1 : tl_EN 1 (fun t => tr t 10) n xfe xle xne xpe) (hL : tl_XL l lk xlI xlK xlO xlT xlA xlL)
    (K : ∀ u', tl_RX True A bd T n tr sF ch l lk u' → post (nI R) u') :
    ∀ (D c N m : Nat) (st s su h : Nat → Int32), c + D = R → D < N → tl_cn tr (nI T) st n = D → (∀ t, t < n → tl_fs tr (nI T) st n t = sF t) → tl_XB n tr st xid xki xon xtw xam xli xca s xla → tl_SF (tl_SM tr st n) su → tl_HP n tr st xla xid m h → tl_TP n tr st m h →
    wX_pass_39 post N (nI c) (nI A) (nI T) (nI n) (nI m) ch (nI l) bd su xid xki xon xtw xam xli xca s xla xpl xfe xle xne xpe h xlI xlK xlO xlT xlA xlL := by
  intro D
  induction D with
  | zero =>
    intro c N m st s su h hc hN hD hF hB hS hH hTP
    obtain ⟨N, rfl⟩ : ∃ N', N = N' + 1 := ⟨N - 1, by omega⟩
    have hm60 : m ≤ 60 := by have := hH.1; omega
    have nd : ∀ t, t < n → ¬ tl_Du tr (nI T) st t := fun t ht z => by
      have := tl_cn_u z n ht
      omega
    have hB' : tl_XB n tr sF xid xki xon xtw xam xli xca s xla := tl_XB_c hB (fun _ _ => rfl) (fun t ht => by rw [← hF t ht, tl_fs_f (nd t ht)]; exact (hB t ht).1.2.2.2.2.2.2.2)
    have est : ∀ t, t < n → st t = sF t := fun t ht => by rw [← hF t ht, tl_fs_f (nd t ht)]
    have Kc : post (nI c) (nI A, nI T, nI n, nI m, ch, nI l, bd, su, xid, xki, xon, xtw, xam, xli, xca, s, xla, xpl, xfe, xle, xne, xpe, h, xlI, xlK, xlO, xlT, xlA, xlL) := by
      rw [show c = R by omega]
      exact K _ ⟨⟨rfl, rfl, rfl, rfl, rfl, rfl⟩, hB', hP, tl_SF_c hS (fun p w _ _ => tl_SM_c n (fun _ _ => rfl) est), hE0, hE1, hL, fun _ => ⟨m, rfl, tl_HP_c hH (by omega) (fun _ _ => rfl) (fun _ _ => rfl) (fun _ _ => rfl) (fun t ht z => (est t ht).trans z)⟩⟩
    rw [wX_pass_39]
    dsimp only
    rcases hTP with rfl | ⟨hm, t, ht, et, k1, k5, ks0⟩
    · exact br_t (by decide) Kc
    · have ct : (h 0).toNatClampNeg = t := by rw [et]; exact nI_clamp (by omega)
      rw [ct, (hB t ht).2 k1]
      refine br_f (nI_nle hm (by omega)) ⟨by rw [et]; exact vp_in_nI (by omega) (by decide), br_t ?_ Kc⟩
      exact Int32.not_le.mp (fun z => nd t ht ⟨k1, ks0, k5, z⟩)
  | succ D ih =>
    intro c N m st s su h hc hN hD hF hB hS hH hTP
    obtain ⟨N, rfl⟩ : ∃ N', N = N' + 1 := ⟨N - 1, by omega⟩
    have hm60 : m ≤ 60 := by have := hH.1; omega
    have ex : ∃ q, q < n ∧ tl_Du tr (nI T) st q := by
      by_cases z : ∃ q, q < n ∧ tl_Du tr (nI T) st q
      · exact z
      · have := tl_cn_0 (tr := tr) (x := nI T) (st := st) n (fun t ht d => z ⟨t, ht, d⟩)
        omega
    obtain ⟨q, hq, dq⟩ := ex
    obtain ⟨j, hj, ej⟩ := hH.2.2.2 q hq dq.1 dq.2.1 dq.2.2.1
    rw [wX_pass_39]
    dsimp only
    rcases hTP with rfl | ⟨hm, t, ht, et, k1, k5, ks0⟩
    · omega
    · have ct : (h 0).toNatClampNeg = t := by rw [et]; exact nI_clamp (by omega)
      have le1 : ¬ nI T < tr t 6 := by
        have g1 := tl_HO_min (tl_le_tot xla xid) (tl_le_trn xla xid) hH.2.2.1 j hj
        rw [et, ej] at g1
        unfold tl_le at g1
        rw [tl_bfN (by omega) (by omega), (hB q hq).2 dq.1, (hB t ht).2 k1] at g1
        have g2 := dq.2.2.2
        intro z
        apply g1
        left
        rw [Int32.lt_iff_toInt_lt] at z ⊢
        rw [Int32.le_iff_toInt_le] at g2
        omega
      have du : tl_Du tr (nI T) st t := ⟨k1, ks0, k5, Int32.not_lt.mp le1⟩
      obtain ⟨_, ⟨a, b, mm, ha, hb, hab, ea, eb, hm1, hm2, em⟩, _⟩ := tl_V_mv (hV t ht) k1
      obtain ⟨⟨_, _, x2, x3, x4, _⟩, _⟩ := hB t ht
      rw [ct, (hB t ht).2 k1, nI_1 c]
      refine br_f (nI_nle hm (by omega)) ⟨by rw [et]; exact vp_in_nI (by omega) (by decide), br_f le1 ?_⟩
      rw [et]
      refine tl_xunhold (by omega) (by omega) (by omega) (x2.trans ea) (x3.trans eb) x4 ?_
      dsimp only
      rintro _ rfl
      have hB2 : tl_XB n tr (upd st t 3) xid xki xon xtw xam xli xca (upd s t 3) xla := tl_XB_st hB
      refine tl_xclean (n := n) (tr := tr) (st := upd st t 3) hn (fun p hp => (hB2 p hp).1.2.2.2.2.2.2.2) (tl_HP_c hH (by omega) (fun _ _ => rfl) (fun _ _ => rfl) (fun _ _ => rfl) (fun p hp z => ?_)) (fun m' h' hH' hTP' => ?_)
      · by_cases e : p = t
        · rw [e]; exact ks0
        · rw [pk_un e] at z; exact z
      · have hcn := tl_cn_u du n ht
        refine ih (c + 1) N m' (upd st t 3) _ _ h' (by omega) (by omega) (by omega) (fun p hp => (tl_fs_u du ht p hp).trans (hF p hp)) hB2 ?_ hH' hTP'
        refine tl_SF_c (tl_SF_ad (d := a) (c := b) (w0 := 0) hS (by omega) (by omega) (by decide) (tl_on (tr t 4))) (fun p w _ _ => ?_)
        rw [tl_SM_un (s := 3) k1 ks0 (by decide) n ht, tl_dl_neg, ea, eb]
        omega
end
theorem i_vc_pass {k : Nat} {u : SX} {v : SY} (I : i_Rel k u v) (hk : k + 6 ≤ 3072) (v1 : Int32) : wpX_pass (fun r u' => wpY_pass (fun r' v' => r' = r ∧ i_Rel (k + 6) u' v') v v1) u v1 := by
  have I' := i_up I
  obtain ⟨A, bd, T, n, tr, st, ch, l, lk, ks, kt, hT, hI, hX, hY⟩ := I
  obtain ⟨xA, xT, xN, xH, xC, xL, xbo, xsu, xid, xki, xon, xtw, xam, xli, xca, xst, xla, xpl, xfe, xle, xne, xpe, xhp, xlI, xlK, xlO, xlT, xlA, xlL⟩ := u
  obtain ⟨yA, yT, yN, yC, yL, ybo, ysu, yki, yid, ynu, yst, yen, yho, yca, ylK, ylI, ylN, ykS, ykT⟩ := v
  obtain ⟨⟨rfl, rfl, rfl, a4, rfl, rfl⟩, hB, hP, hS, hE0, hE1, hL, hH0⟩ := hX
  obtain ⟨m, rfl, hH⟩ := hH0 trivial
  obtain ⟨⟨rfl, rfl, rfl, b4, rfl, rfl⟩, hBY, hSY, hLY, rfl, rfl⟩ := hY
  obtain ⟨hA, hT2, hn, hl, hSS, hV, hN, hLW⟩ := hI
  unfold wpX_pass
  dsimp only
  refine br_c (fun z => br_t z ⟨rfl, I'⟩) (fun z => br_c (fun z2 => ?_) (fun z2 => br_f z (br_f z2 ⟨rfl, I'⟩)))
  by_cases hc : ch = 0
  · obtain ⟨q, hq, eq⟩ := tl_rng0 z z2
    have eT : nI T + v1 = nI (T + q) := by rw [eq, nI_add]
    have hV' : tl_Vs A (T + q) tr n := fun t ht => tl_V_up (Nat.le_refl A) (by omega) (hV t ht)
    refine br_t (a4.trans hc) ?_
    rw [eT]
    rintro _ rfl
    refine tl_xclean (n := n) (tr := tr) (st := st) hn (fun t ht => (hB t ht).1.2.2.2.2.2.2.2) hH (fun m' h' hH' hTP => ?_)
    refine ⟨tl_cn tr (nI (T + q)) st n + 1, ?_⟩
    refine tl_xpass (ch := xC) (sF := tl_fs tr (nI (T + q)) st n) (R := tl_cn tr (nI (T + q)) st n) hA (by omega) hn hV' hP hE0 hE1 hL (fun u' hu' => ?_) (tl_cn tr (nI (T + q)) st n) 0 (tl_cn tr (nI (T + q)) st n + 1) m' st xst xsu h' (by omega) (by omega) rfl (fun _ _ => rfl) hB hS hH' hTP
    unfold wpY_pass
    dsimp only
    refine br_f z (br_t z2 (br_t (b4.trans hc) ?_))
    rw [eT]
    rintro _ rfl
    refine ⟨n + 1, ?_⟩
    refine tl_ypass (st := st) hA (by omega) hn hV' (fun su s hsu hs => ?_) n 0 (n + 1) ysu yst (by omega) (by omega) (tl_SF_c hSY (fun p w _ _ => tl_SM_c n (fun _ _ => rfl) (fun t ht => (tl_fs_g (Nat.zero_le t)).symm))) (tl_YB_c hBY (fun _ _ => rfl) (fun t ht => ((hBY t ht).1.2.2.2.2.2.2).trans (tl_fs_g (Nat.zero_le t)).symm))
    refine ⟨rfl, A, ybo, T + q, n, tr, tl_fs tr (nI (T + q)) st n, xC, l, lk, ykS, ykT, by omega, ⟨hA, by omega, hn, hl, fun t ht => ?_, hV', tl_NB_fs hV' hN n (Nat.le_refl n), hLW⟩, hu', ⟨⟨rfl, rfl, rfl, b4.trans a4.symm, rfl, rfl⟩, hs, hsu, hLY, rfl, rfl⟩⟩
    by_cases d : tl_Du tr (nI (T + q)) st t
    · rw [tl_fs_t ht d]; exact Or.inr (Or.inr (Or.inr rfl))
    · rw [tl_fs_f d]; exact hSS t ht
  · refine br_f (fun w => hc (a4.symm.trans w)) ?_
    unfold wpY_pass
    exact br_f z (br_t z2 (br_f (fun w => hc (b4.symm.trans w)) ⟨rfl, I'⟩))
end
