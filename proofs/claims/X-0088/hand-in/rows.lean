section
theorem pk_us {f : Nat → Int32} {k : Nat} {x : Int32} : upd f k x k = x := if_pos rfl
theorem pk_un {f : Nat → Int32} {k j : Nat} {x : Int32} (h : j ≠ k) : upd f k x j = f j := if_neg h
theorem pk_sub {a b : Nat} (h : b ≤ a) : nI a - nI b = nI (a - b) := by
  obtain ⟨c, rfl⟩ : ∃ c, a = c + b := ⟨a - b, by omega⟩
  rw [← nI_add, Int32.add_sub_cancel, Nat.add_sub_cancel]
theorem pk_m1 (n : Nat) : nI (n + 1) + (-1) = nI n := by
  rw [← nI_1, Int32.add_assoc, show (1 : Int32) + (-1) = 0 from rfl, Int32.add_zero]
theorem pk_mul (a b : Nat) : nI a * nI b = nI (a * b) := (Int32.ofNat_mul a b).symm
theorem pk_sub_toInt {a b : Nat} (ha : a < 2 ^ 30) (hb : b < 2 ^ 30) : (nI a - nI b).toInt = (a : Int) - b := by
  rw [Int32.toInt_sub, nI_toInt (by omega), nI_toInt (by omega)]
  exact Int.bmod_eq_of_le (by omega) (by omega)
theorem pk_sneg {a b : Nat} (hb : b < 2 ^ 30) (h : a < b) : nI a - nI b < 0 := by
  rw [Int32.lt_iff_toInt_lt, pk_sub_toInt (by omega) hb, show (0 : Int32).toInt = 0 from by decide]
  omega
theorem pk_ix (x : Int32) {n : Nat} (hn : n < 2 ^ 31) : x < 0 ∨ nI n ≤ x ∨ ∃ j : Nat, j < n ∧ x = nI j := by
  by_cases h : x < 0
  · exact Or.inl h
  · obtain ⟨j, hj, rfl⟩ := nI_of h
    by_cases h2 : j < n
    · exact Or.inr (Or.inr ⟨j, h2, rfl⟩)
    · exact Or.inr (Or.inl (nI_le (by omega) hj))
theorem pk_le {x y : Int32} {A B : Prop} (a b : Nat) (f : a ≤ b → A) (g : b < a → B) (hx : x = nI a := by rfl) (hy : y = nI b := by rfl) (ha : a < 2 ^ 31 := by omega) (hb : b < 2 ^ 31 := by omega) : (x ≤ y → A) ∧ (¬ x ≤ y → B) := by
  subst hx hy
  rw [nI_leI ha hb]
  exact ⟨f, fun z => g (by omega)⟩
theorem pk_lt {x y : Int32} {A B : Prop} (a b : Nat) (f : a < b → A) (g : b ≤ a → B) (hx : x = nI a := by rfl) (hy : y = nI b := by rfl) (ha : a < 2 ^ 31 := by omega) (hb : b < 2 ^ 31 := by omega) : (x < y → A) ∧ (¬ x < y → B) := by
  subst hx hy
  rw [nI_ltI ha hb]
  exact ⟨f, fun z => g (by omega)⟩
theorem pk_eq {x y : Int32} {A B : Prop} (a b : Nat) (f : a = b → A) (g : a ≠ b → B) (hx : x = nI a := by rfl) (hy : y = nI b := by rfl) (ha : a < 2 ^ 31 := by omega) (hb : b < 2 ^ 31 := by omega) : (x = y → A) ∧ (¬ x = y → B) := by
  subst hx hy
  rw [nI_eq ha hb]
  exact ⟨f, g⟩
theorem pk_in {x : Int32} (n N : Nat) (h : n < N) (hx : x = nI n := by rfl) (hN : N < 2 ^ 31 := by omega) : vp_in x N := by
  subst hx
  exact vp_in_nI h hN
theorem pk_cl {x : Int32} (n : Nat) (hx : x = nI n := by rfl) (h : n < 2 ^ 31 := by omega) : x.toNatClampNeg = n := by
  subst hx
  exact nI_clamp h
end
section
/-- a walk over the edges of L, edge e from A e to B e -/
def wk_W (A B : Nat → Nat) (L : List Nat) : List Nat → Nat → Nat → Prop
  | [], a, b => a = b
  | e :: p, a, b => e ∈ L ∧ A e = a ∧ wk_W A B L p (B e) b
/-- the sum of a weight along a list -/
def wk_S (c : Nat → Int) : List Nat → Int
  | [] => 0
  | e :: p => c e + wk_S c p
/-- every closed walk costs at least a fifth of its length -/
def wk_I (A B : Nat → Nat) (c : Nat → Int) (L : List Nat) : Prop :=
  ∀ p a, wk_W A B L p a a → (p.length : Int) ≤ 5 * wk_S c p
/-- no node twice -/
def wk_N (B : Nat → Nat) (p : List Nat) (a : Nat) : Prop := (a :: p.map B).Nodup
theorem wk_S_app (c : Nat → Int) (p q : List Nat) : wk_S c (p ++ q) = wk_S c p + wk_S c q := by
  induction p with
  | nil => simp [wk_S]
  | cons e p ih => simp only [List.cons_append, wk_S, ih]; omega
theorem wk_S_rev (c : Nat → Int) (p : List Nat) : wk_S c p.reverse = wk_S c p := by
  induction p with
  | nil => rfl
  | cons e p ih => rw [List.reverse_cons, wk_S_app, ih]; simp only [wk_S]; omega
theorem wk_S_lin (c w : Nat → Int) (k j : Int) (h : ∀ e, w e = k * c e + j) (p : List Nat) : wk_S w p = k * wk_S c p + j * (p.length : Int) := by
  induction p with
  | nil => simp [wk_S]
  | cons e p ih =>
    simp only [wk_S, ih, h, List.length_cons]
    grind
theorem wk_S_bd (w : Nat → Int) (L : List Nat) (M : Int) (h : ∀ e, e ∈ L → -M ≤ w e ∧ w e ≤ M) (p : List Nat) (hp : ∀ e, e ∈ p → e ∈ L) :
    -(M * (p.length : Int)) ≤ wk_S w p ∧ wk_S w p ≤ M * (p.length : Int) := by
  induction p with
  | nil => simp [wk_S]
  | cons e p ih =>
    have h1 := ih (fun x hx => hp x (List.mem_cons_of_mem _ hx))
    have h2 := h e (hp e List.mem_cons_self)
    have h3 : M * ((e :: p).length : Int) = M + M * (p.length : Int) := by
      rw [List.length_cons]; grind
    rw [h3]
    simp only [wk_S]
    omega
theorem wk_mem {A B : Nat → Nat} {L : List Nat} : ∀ {p : List Nat} {a b : Nat}, wk_W A B L p a b → ∀ e, e ∈ p → e ∈ L := by
  intro p
  induction p with
  | nil => intro a b _ e he; cases he
  | cons x p ih =>
    intro a b h e he
    cases he with
    | head => exact h.1
    | tail _ he => exact ih h.2.2 e he
theorem wk_mono {A B : Nat → Nat} {L L' : List Nat} (hL : ∀ e, e ∈ L → e ∈ L') : ∀ {p : List Nat} {a b : Nat}, wk_W A B L p a b → wk_W A B L' p a b := by
  intro p
  induction p with
  | nil => intro a b h; exact h
  | cons x p ih => intro a b h; exact ⟨hL _ h.1, h.2.1, ih h.2.2⟩
theorem wk_app {A B : Nat → Nat} {L : List Nat} : ∀ {p q : List Nat} {a b : Nat}, wk_W A B L (p ++ q) a b ↔ ∃ m, wk_W A B L p a m ∧ wk_W A B L q m b := by
  intro p
  induction p with
  | nil =>
    intro q a b
    constructor
    · intro h; exact ⟨a, rfl, h⟩
    · intro h; obtain ⟨m, h1, h2⟩ := h; cases h1; exact h2
  | cons x p ih =>
    intro q a b
    constructor
    · intro h
      obtain ⟨m, h1, h2⟩ := ih.mp h.2.2
      exact ⟨m, ⟨h.1, h.2.1, h1⟩, h2⟩
    · intro h
      obtain ⟨m, h1, h2⟩ := h
      exact ⟨h1.1, h1.2.1, ih.mpr ⟨m, h1.2.2, h2⟩⟩
theorem wk_rev {A B : Nat → Nat} {L : List Nat} : ∀ {p : List Nat} {a b : Nat}, wk_W A B L p a b → wk_W B A L p.reverse b a := by
  intro p
  induction p with
  | nil => intro a b h; exact h.symm
  | cons x p ih =>
    intro a b h
    rw [List.reverse_cons]
    exact wk_app.mpr ⟨B x, ih h.2.2, h.1, rfl, h.2.1⟩
theorem wk_I_rev {A B : Nat → Nat} {c : Nat → Int} {L : List Nat} (I : wk_I A B c L) : wk_I B A c L := by
  intro p a h
  have := I p.reverse a (wk_rev h)
  rw [wk_S_rev, List.length_reverse] at this
  exact this
theorem wk_I_mono {A B : Nat → Nat} {c : Nat → Int} {L L' : List Nat} (hL : ∀ e, e ∈ L' → e ∈ L) (I : wk_I A B c L) : wk_I A B c L' :=
  fun p a h => I p a (wk_mono hL h)
theorem wk_cut {A B : Nat → Nat} {L : List Nat} (a b : Nat) : ∀ (q : List Nat) (u : Nat), wk_W A B L q u b → a ∈ (u :: q.map B) →
    ∃ r s, q = r ++ s ∧ wk_W A B L r u a ∧ wk_W A B L s a b ∧ (wk_N B q u → wk_N B s a) := by
  intro q
  induction q with
  | nil =>
    intro u h ha
    have e : a = u := by simpa using ha
    subst e
    exact ⟨[], [], rfl, rfl, h, fun x => x⟩
  | cons x t ih =>
    intro u h ha
    by_cases e : a = u
    · subst e
      exact ⟨[], x :: t, rfl, rfl, h, fun x => x⟩
    · have ha' : a ∈ (B x :: t.map B) := by
        cases ha with
        | head => exact absurd rfl e
        | tail _ ha => exact ha
      obtain ⟨r, s, e1, h1, h2, h3⟩ := ih (B x) h.2.2 ha'
      refine ⟨x :: r, s, by rw [e1]; rfl, ⟨h.1, h.2.1, h1⟩, h2, fun hn => h3 ?_⟩
      exact (List.nodup_cons.mp hn).2
theorem wk_simp {A B : Nat → Nat} {c : Nat → Int} {L : List Nat} (I : wk_I A B c L) (b : Nat) : ∀ (p : List Nat) (a : Nat), wk_W A B L p a b →
    ∃ q, wk_W A B L q a b ∧ wk_N B q a ∧ (q = p ∨ q.length < p.length) ∧ (p.length : Int) - q.length ≤ 5 * (wk_S c p - wk_S c q) := by
  intro p
  induction p with
  | nil =>
    intro a h
    exact ⟨[], h, by simp [wk_N], Or.inl rfl, by simp⟩
  | cons e t ih =>
    intro a h
    obtain ⟨q, h1, h2, h3, h4⟩ := ih (B e) h.2.2
    have hl : q.length ≤ t.length := by
      cases h3 with
      | inl x => rw [x]; exact Nat.le_refl _
      | inr x => omega
    by_cases ha : a ∈ (B e :: q.map B)
    · obtain ⟨r, s, e1, k1, k2, k3⟩ := wk_cut a b q (B e) h1 ha
      have hc := I (e :: r) a ⟨h.1, h.2.1, k1⟩
      have e2 : wk_S c q = wk_S c r + wk_S c s := by rw [e1, wk_S_app]
      have e3 : q.length = r.length + s.length := by rw [e1, List.length_append]
      refine ⟨s, k2, k3 h2, Or.inr ?_, ?_⟩
      · rw [List.length_cons]; omega
      · simp only [wk_S, List.length_cons] at hc ⊢
        omega
    · refine ⟨e :: q, ⟨h.1, h.2.1, h1⟩, ?_, ?_, ?_⟩
      · exact List.nodup_cons.mpr ⟨ha, h2⟩
      · cases h3 with
        | inl x => exact Or.inl (by rw [x])
        | inr x => exact Or.inr (by rw [List.length_cons, List.length_cons]; omega)
      · simp only [wk_S, List.length_cons]
        omega
theorem wk_lt {A B : Nat → Nat} {L : List Nat} {n : Nat} (hB : ∀ e, e ∈ L → B e < n) {p : List Nat} {a b : Nat} (ha : a < n) (h : wk_W A B L p a b) : ∀ x, x ∈ (a :: p.map B) → x < n := by
  intro x hx
  cases hx with
  | head => exact ha
  | tail _ hx =>
    obtain ⟨e, he, rfl⟩ := List.mem_map.mp hx
    exact hB e (wk_mem h e he)
theorem wk_end {A B : Nat → Nat} {L : List Nat} {n : Nat} (hB : ∀ e, e ∈ L → B e < n) : ∀ {p : List Nat} {a b : Nat}, a < n → wk_W A B L p a b → b < n := by
  intro p
  induction p with
  | nil => intro a b ha h; cases h; exact ha
  | cons e p ih => intro a b _ h; exact ih (hB e h.1) h.2.2
theorem wk_len {A B : Nat → Nat} {L : List Nat} (hB : ∀ e, e ∈ L → B e < 5) {p : List Nat} {a b : Nat} (ha : a < 5) (h : wk_W A B L p a b) (hn : wk_N B p a) : p.length ≤ 4 := by
  have h1 : (a :: p.map B).length ≤ (List.range 5).length :=
    List.Nodup.length_le_of_subset hn (fun x hx => List.mem_range.mpr (wk_lt hB ha h x hx))
  rw [List.length_cons, List.length_map, List.length_range] at h1
  omega
/-- a new edge m, when every old walk from its end to its start costs enough -/
theorem wk_add1 {A B : Nat → Nat} {c : Nat → Int} {L : List Nat} {m : Nat}
    (F : ∀ q, wk_W A B L q (B m) (A m) → 0 ≤ (5 * wk_S c q - q.length) + (5 * c m - 1)) :
    ∀ (p : List Nat) (a : Nat), wk_W A B (L ++ [m]) p a (A m) → ∃ q, wk_W A B L q a (A m) ∧ 5 * wk_S c q - q.length ≤ 5 * wk_S c p - p.length := by
  intro p
  induction p with
  | nil => intro a h; exact ⟨[], h, by simp⟩
  | cons e t ih =>
    intro a h
    obtain ⟨q, h1, h2⟩ := ih (B e) h.2.2
    have he : e ∈ L ∨ e = m := by simpa using h.1
    cases he with
    | inl he =>
      refine ⟨e :: q, ⟨he, h.2.1, h1⟩, ?_⟩
      simp only [wk_S, List.length_cons]
      omega
    | inr he =>
      subst he
      have := F q h1
      refine ⟨[], h.2.1.symm, ?_⟩
      simp only [wk_S, List.length_cons, List.length_nil]
      omega
theorem wk_add {A B : Nat → Nat} {c : Nat → Int} {L : List Nat} {m : Nat} (I : wk_I A B c L)
    (F : ∀ q, wk_W A B L q (B m) (A m) → 0 ≤ (5 * wk_S c q - q.length) + (5 * c m - 1)) : wk_I A B c (L ++ [m]) := by
  intro p a h
  by_cases hm : m ∈ p
  · obtain ⟨s, t, rfl⟩ := List.append_of_mem hm
    obtain ⟨z, h1, h2⟩ := wk_app.mp h
    have hz : A m = z := h2.2.1
    subst hz
    have h3 : wk_W A B (L ++ [m]) (m :: t ++ s) (A m) (A m) := wk_app.mpr ⟨a, h2, h1⟩
    obtain ⟨q, k1, k2⟩ := wk_add1 F _ _ h3
    have k3 := I q _ k1
    rw [wk_S_app, List.length_append] at k2
    rw [wk_S_app, List.length_append]
    omega
  · refine I p a ?_
    clear I F
    have key : ∀ (p : List Nat) (a b : Nat), m ∉ p → wk_W A B (L ++ [m]) p a b → wk_W A B L p a b := by
      intro p
      induction p with
      | nil => intro a b _ h; exact h
      | cons e p ih =>
        intro a b hm h
        have he : e ∈ L ∨ e = m := by simpa using h.1
        refine ⟨?_, h.2.1, ih _ _ (fun x => hm (List.mem_cons_of_mem _ x)) h.2.2⟩
        cases he with
        | inl x => exact x
        | inr x => subst x; exact absurd List.mem_cons_self hm
    exact key p a a hm h
end
section
/-- one relaxation over the integers -/
def bf_r (A B : Nat → Nat) (w : Nat → Int) (d : Nat → Int) (e : Nat) : Nat → Int :=
  if d (B e) ≠ 1000000000 ∧ d (B e) + w e < d (A e) then (fun v => if v = A e then d (B e) + w e else d v) else d
def bf_R (A B : Nat → Nat) (w : Nat → Int) (l : List Nat) (d : Nat → Int) : Nat → Int := l.foldl (bf_r A B w) d
/-- each value is the weight of a walk, or the great number -/
def bf_I (A B : Nat → Nat) (w : Nat → Int) (L : List Nat) (T : Nat → Prop) (M : Int) (d : Nat → Int) : Prop :=
  ∀ v, v < 5 → d v ≤ M ∧ (d v = 1000000000 ∨ ∃ p s, wk_W A B L p v s ∧ T s ∧ d v = wk_S w p)
/-- below every walk of at most k edges -/
def bf_U (A B : Nat → Nat) (w : Nat → Int) (L : List Nat) (T : Nat → Prop) (k : Nat) (d : Nat → Int) : Prop :=
  ∀ p v s, v < 5 → wk_W A B L p v s → T s → p.length ≤ k → d v ≤ wk_S w p
section
variable {A B : Nat → Nat} {w : Nat → Int} {L : List Nat} {T : Nat → Prop} {M : Int}
theorem bf_r_le (d : Nat → Int) (e v : Nat) : bf_r A B w d e v ≤ d v := by
  unfold bf_r
  split
  · rename_i h
    by_cases hv : v = A e
    · subst hv
      simp only [if_true]
      omega
    · simp only [if_neg hv]
      exact Int.le_refl _
  · exact Int.le_refl _
theorem bf_R_le (l : List Nat) : ∀ (d : Nat → Int) (v : Nat), bf_R A B w l d v ≤ d v := by
  induction l with
  | nil => intro d v; exact Int.le_refl _
  | cons e l ih => intro d v; exact Int.le_trans (ih (bf_r A B w d e) v) (bf_r_le d e v)
theorem bf_r_at (d : Nat → Int) (e : Nat) (h : d (B e) ≠ 1000000000) : bf_r A B w d e (A e) ≤ d (B e) + w e := by
  unfold bf_r
  split
  · simp only [if_true]
    exact Int.le_refl _
  · rename_i h2
    have : ¬ d (B e) + w e < d (A e) := fun z => h2 ⟨h, z⟩
    omega
theorem bf_I_step (hAB : ∀ e, e ∈ L → A e < 5 ∧ B e < 5) {d : Nat → Int} {e : Nat} (he : e ∈ L) (I : bf_I A B w L T M d) : bf_I A B w L T M (bf_r A B w d e) := by
  intro v hv
  unfold bf_r
  split
  · rename_i h
    by_cases hva : v = A e
    · subst hva
      simp only [if_true]
      have h1 := (I (A e) hv).1
      have h2 := (I (B e) (hAB e he).2).2
      cases h2 with
      | inl h2 => exact absurd h2 h.1
      | inr h2 =>
        obtain ⟨p, s, k1, k2, k3⟩ := h2
        refine ⟨by omega, Or.inr ⟨e :: p, s, ⟨he, rfl, k1⟩, k2, ?_⟩⟩
        simp only [wk_S]
        omega
    · simp only [if_neg hva]
      exact I v hv
  · exact I v hv
theorem bf_round (hAB : ∀ e, e ∈ L → A e < 5 ∧ B e < 5) (hw : ∀ e, e ∈ L → -8000 ≤ w e ∧ w e ≤ 8000) {d : Nat → Int} {k : Nat} (hk : k ≤ 5) (U : bf_U A B w L T k d) :
    bf_U A B w L T (k + 1) (bf_R A B w L d) := by
  intro p v s hv h hs hl
  cases p with
  | nil => exact Int.le_trans (bf_R_le L d v) (U [] v s hv h hs (Nat.zero_le _))
  | cons e t =>
    have hl' : t.length ≤ k := by simpa using hl
    have h1 := U t (B e) s (hAB e h.1).2 h.2.2 hs hl'
    have hb := (wk_S_bd w L 8000 hw t (wk_mem h.2.2)).2
    have he := h.2.1
    obtain ⟨l1, l2, hL⟩ := List.append_of_mem h.1
    have h2 : bf_R A B w l1 d (B e) ≤ d (B e) := bf_R_le l1 d (B e)
    have h3 := bf_r_at (A := A) (w := w) (B := B) (bf_R A B w l1 d) e (by omega)
    have h4 := bf_R_le (A := A) (w := w) (B := B) l2 (bf_r A B w (bf_R A B w l1 d) e) (A e)
    have h5 : bf_R A B w L d = bf_R A B w l2 (bf_r A B w (bf_R A B w l1 d) e) := by
      unfold bf_R
      conv => lhs; rw [hL]
      rw [List.foldl_append, List.foldl_cons]
    rw [h5, ← he]
    simp only [wk_S]
    omega
theorem bf_U_le {d : Nat → Int} {k j : Nat} (h : j ≤ k) (U : bf_U A B w L T k d) : bf_U A B w L T j d :=
  fun p v s hv hp hs hl => U p v s hv hp hs (Nat.le_trans hl h)
theorem bf_fix (hAB : ∀ e, e ∈ L → A e < 5 ∧ B e < 5) (hw : ∀ e, e ∈ L → -8000 ≤ w e ∧ w e ≤ 8000) {d : Nat → Int} {k : Nat} (U : bf_U A B w L T k d) (h : bf_R A B w L d = d) :
    ∀ m, m ≤ 5 → bf_U A B w L T m d := by
  intro m
  induction m with
  | zero => intro _; exact bf_U_le (Nat.zero_le _) U
  | succ m ih =>
    intro hm
    have := bf_round hAB hw (by omega) (ih (by omega))
    rw [h] at this
    exact this
end
/-- one relaxation as the program does it: a flag and an array -/
def bf_k (cn : (Nat → Int32) → Nat → Bool) (va : (Nat → Int32) → Nat → Int32) (A : Nat → Nat) (s : Int32 × (Nat → Int32)) (e : Nat) : Int32 × (Nat → Int32) :=
  if cn s.2 e = true then s else (1, upd s.2 (A e) (va s.2 e))
def bf_t (a : Nat → Int32) : Nat → Int := fun v => (a v).toInt
/-- up to k rounds, while something changes -/
def bf_O (cn : (Nat → Int32) → Nat → Bool) (va : (Nat → Int32) → Nat → Int32) (A : Nat → Nat) (L : List Nat) : Nat → Int32 × (Nat → Int32) → (Nat → Int32)
  | 0, s => s.2
  | k + 1, s => if s.1 = 0 then s.2 else bf_O cn va A L k (L.foldl (bf_k cn va A) (0, s.2))
section
variable {A B : Nat → Nat} {w : Nat → Int} {L : List Nat} {T : Nat → Prop} {M : Int} {cn : (Nat → Int32) → Nat → Bool} {va : (Nat → Int32) → Nat → Int32}
theorem bf_flag (l : List Nat) : ∀ s, (l.foldl (bf_k cn va A) s).1 = 1 ∨ l.foldl (bf_k cn va A) s = s := by
  induction l with
  | nil => intro s; exact Or.inr rfl
  | cons e l ih =>
    intro s
    rw [List.foldl_cons]
    by_cases h : cn s.2 e = true
    · have e1 : bf_k cn va A s e = s := if_pos h
      rw [e1]
      exact ih s
    · have e1 : bf_k cn va A s e = (1, upd s.2 (A e) (va s.2 e)) := if_neg h
      rw [e1]
      cases ih (1, upd s.2 (A e) (va s.2 e)) with
      | inl h2 => exact Or.inl h2
      | inr h2 => exact Or.inl (by rw [h2])
theorem bf_01 (l : List Nat) : ∀ s, (s.1 = 0 ∨ s.1 = 1) → (l.foldl (bf_k cn va A) s).1 = 0 ∨ (l.foldl (bf_k cn va A) s).1 = 1 := by
  intro s h
  cases bf_flag (cn := cn) (va := va) (A := A) l s with
  | inl h2 => exact Or.inr h2
  | inr h2 => rw [h2]; exact h
theorem bf_fold (hAB : ∀ e, e ∈ L → A e < 5 ∧ B e < 5)
    (hst : ∀ a e, e ∈ L → bf_I A B w L T M (bf_t a) → bf_t (if cn a e = true then a else upd a (A e) (va a e)) = bf_r A B w (bf_t a) e) (l : List Nat) :
    ∀ s, (∀ e, e ∈ l → e ∈ L) → bf_I A B w L T M (bf_t s.2) →
      bf_t (l.foldl (bf_k cn va A) s).2 = bf_R A B w l (bf_t s.2) ∧ bf_I A B w L T M (bf_t (l.foldl (bf_k cn va A) s).2) := by
  induction l with
  | nil => intro s _ I; exact ⟨rfl, I⟩
  | cons e l ih =>
    intro s hl I
    have he := hl e List.mem_cons_self
    have e1 : (bf_k cn va A s e).2 = (if cn s.2 e = true then s.2 else upd s.2 (A e) (va s.2 e)) := by
      unfold bf_k
      split <;> rfl
    have e2 := hst s.2 e he I
    rw [← e1] at e2
    have I2 := bf_I_step hAB he I
    rw [← e2] at I2
    have := ih (bf_k cn va A s e) (fun x hx => hl x (List.mem_cons_of_mem _ hx)) I2
    rw [List.foldl_cons]
    refine ⟨?_, this.2⟩
    rw [this.1, e2]
    rfl
theorem bf_O_ok (hAB : ∀ e, e ∈ L → A e < 5 ∧ B e < 5) (hw : ∀ e, e ∈ L → -8000 ≤ w e ∧ w e ≤ 8000)
    (hst : ∀ a e, e ∈ L → bf_I A B w L T M (bf_t a) → bf_t (if cn a e = true then a else upd a (A e) (va a e)) = bf_r A B w (bf_t a) e) :
    ∀ k j s, j + k = 5 → bf_U A B w L T j (bf_t s.2) → (s.1 = 0 → bf_U A B w L T 5 (bf_t s.2)) → bf_I A B w L T M (bf_t s.2) →
      bf_U A B w L T 5 (bf_t (bf_O cn va A L k s)) ∧ bf_I A B w L T M (bf_t (bf_O cn va A L k s)) := by
  intro k
  induction k with
  | zero =>
    intro j s hj U _ I
    have : j = 5 := by omega
    subst this
    exact ⟨U, I⟩
  | succ k ih =>
    intro j s hj U U5 I
    by_cases h0 : s.1 = 0
    · have e1 : bf_O cn va A L (k + 1) s = s.2 := if_pos h0
      rw [e1]
      exact ⟨U5 h0, I⟩
    · have e1 : bf_O cn va A L (k + 1) s = bf_O cn va A L k (L.foldl (bf_k cn va A) (0, s.2)) := if_neg h0
      rw [e1]
      have hf := bf_fold hAB hst L (0, s.2) (fun _ h => h) I
      have hr := bf_round hAB hw (by omega) U
      refine ih (j + 1) _ (by omega) ?_ ?_ hf.2
      · rw [hf.1]; exact hr
      · intro hz
        cases bf_flag (cn := cn) (va := va) (A := A) L (0, s.2) with
        | inl h1 => rw [h1] at hz; exact absurd hz (by decide)
        | inr h1 =>
          rw [h1] at hf ⊢
          exact bf_fix hAB hw U hf.1.symm 5 (Nat.le_refl _)
end
/-- the weights: of the distances, of the potentials -/
def wk_w (c : Nat → Int) : Nat → Int := fun e => 8 * c e + 1
def wk_v (c : Nat → Int) : Nat → Int := fun e => 8 * c e - 1
theorem wk_Sw (c : Nat → Int) (p : List Nat) : wk_S (wk_w c) p = 8 * wk_S c p + p.length := by
  have := wk_S_lin c (wk_w c) 8 1 (fun e => rfl) p
  omega
theorem wk_Sv (c : Nat → Int) (p : List Nat) : wk_S (wk_v c) p = 8 * wk_S c p - p.length := by
  have := wk_S_lin c (wk_v c) 8 (-1) (fun e => by simp only [wk_v]; omega) p
  omega
/-- what the graph keeps -/
def gr_ok (V G : Nat → Nat) (c : Nat → Int) (L : List Nat) : Prop :=
  (∀ e, e ∈ L → V e < 5 ∧ G e < 5 ∧ -999 ≤ c e ∧ c e ≤ 999) ∧ wk_I V G c L
section
variable {V G : Nat → Nat} {c : Nat → Int} {L : List Nat}
theorem gr_rev (h : gr_ok V G c L) : gr_ok G V c L :=
  ⟨fun e he => ⟨(h.1 e he).2.1, (h.1 e he).1, (h.1 e he).2.2⟩, wk_I_rev h.2⟩
theorem gr_mono {L' : List Nat} (hL : ∀ e, e ∈ L' → e ∈ L) (h : gr_ok V G c L) : gr_ok V G c L' :=
  ⟨fun e he => h.1 e (hL e he), wk_I_mono hL h.2⟩
theorem gr_cb (h : gr_ok V G c L) {p : List Nat} {a b : Nat} (hp : wk_W V G L p a b) : -(999 * (p.length : Int)) ≤ wk_S c p ∧ wk_S c p ≤ 999 * (p.length : Int) :=
  wk_S_bd c L 999 (fun e he => (h.1 e he).2.2) p (wk_mem hp)
theorem gr_lo (h : gr_ok V G c L) {p : List Nat} {a b : Nat} (ha : a < 5) (hp : wk_W V G L p a b) : -40000 ≤ 8 * wk_S c p - p.length := by
  obtain ⟨q, h1, h2, h3, h4⟩ := wk_simp h.2 b p a hp
  have h5 := wk_len (fun e he => (h.1 e he).2.1) ha h1 h2
  have h6 := gr_cb h h1
  have h7 : q.length ≤ p.length := by
    cases h3 with
    | inl x => rw [x]; exact Nat.le_refl _
    | inr x => omega
  omega
end
/-- what the distances to t are when they are settled -/
def ds_ok (V G : Nat → Nat) (c : Nat → Int) (L : List Nat) (t : Nat) (d : Nat → Int) : Prop :=
  (∀ v, v < 5 → d v ≤ 1000000000 ∧ (d v = 1000000000 ∨ ∃ p, wk_W V G L p v t ∧ d v = wk_S (wk_w c) p)) ∧
  (∀ p v, v < 5 → wk_W V G L p v t → d v ≤ wk_S (wk_w c) p)
section
variable {V G : Nat → Nat} {c : Nat → Int} {L : List Nat} {t : Nat} {d : Nat → Int}
theorem ds_of (h : gr_ok V G c L) (U : bf_U V G (wk_w c) L (fun s => s = t) 5 d) (I : bf_I V G (wk_w c) L (fun s => s = t) 1000000000 d) : ds_ok V G c L t d := by
  constructor
  · intro v hv
    refine ⟨(I v hv).1, ?_⟩
    cases (I v hv).2 with
    | inl x => exact Or.inl x
    | inr x =>
      obtain ⟨p, s, k1, k2, k3⟩ := x
      subst k2
      exact Or.inr ⟨p, k1, k3⟩
  · intro p v hv hp
    obtain ⟨q, h1, h2, h3, h4⟩ := wk_simp h.2 t p v hp
    have h5 := wk_len (fun e he => (h.1 e he).2.1) hv h1 h2
    have h6 := U q v t hv h1 rfl (by omega)
    have h7 : q.length ≤ p.length := by
      cases h3 with
      | inl x => rw [x]; exact Nat.le_refl _
      | inr x => omega
    rw [wk_Sw] at h6 ⊢
    omega
theorem ds_q (h : gr_ok V G c L) (hd : ds_ok V G c L t d) {v : Nat} (hv : v < 5) (hf : d v ≠ 1000000000) : ∃ q, wk_W V G L q v t ∧ q.length ≤ 4 ∧ d v = 8 * wk_S c q + q.length := by
  cases (hd.1 v hv).2 with
  | inl x => exact absurd x hf
  | inr x =>
    obtain ⟨p, k1, k2⟩ := x
    obtain ⟨q, h1, h2, h3, h4⟩ := wk_simp h.2 t p v k1
    have h5 := wk_len (fun e he => (h.1 e he).2.1) hv h1 h2
    have h6 := hd.2 q v hv h1
    have h7 : q.length ≤ p.length := by
      cases h3 with
      | inl x => rw [x]; exact Nat.le_refl _
      | inr x => omega
    refine ⟨q, h1, h5, ?_⟩
    rw [wk_Sw] at h6 k2
    omega
/-- a walk bounds the value from infinity -/
theorem ds_fin (h : gr_ok V G c L) (hd : ds_ok V G c L t d) {v : Nat} (hv : v < 5) {p : List Nat} (hp : wk_W V G L p v t) : d v ≠ 1000000000 := by
  obtain ⟨q, h1, h2, h3, h4⟩ := wk_simp h.2 t p v hp
  have h5 := wk_len (fun e he => (h.1 e he).2.1) hv h1 h2
  have h6 := hd.2 q v hv h1
  have h7 := gr_cb h h1
  rw [wk_Sw] at h6
  omega
end
/-- the edge e begins a best chain at v -/
def tr_t (V G : Nat → Nat) (c : Nat → Int) (d : Nat → Int) (v e : Nat) : Prop := V e = v ∧ d (G e) ≠ 1000000000 ∧ d (G e) + wk_w c e = d v
/-- the chain that follows the first tight edge from node to node -/
def tr_P (V G : Nat → Nat) (c : Nat → Int) (L : List Nat) (t : Nat) (d : Nat → Int) : List Nat → Nat → Prop
  | [], v => v = t
  | e :: p, v => v ≠ t ∧ (∃ l1 l2, L = l1 ++ e :: l2 ∧ tr_t V G c d v e ∧ ∀ x, x ∈ l1 → ¬ tr_t V G c d v x) ∧ tr_P V G c L t d p (G e)
theorem tr_first {Q : Nat → Prop} : ∀ {L : List Nat} {e : Nat}, e ∈ L → Q e → ∃ l1 x l2, L = l1 ++ x :: l2 ∧ Q x ∧ ∀ y, y ∈ l1 → ¬ Q y := by
  intro L
  induction L with
  | nil => intro e he; cases he
  | cons a L ih =>
    intro e he hq
    by_cases ha : Q a
    · exact ⟨[], a, L, rfl, ha, fun y hy => by cases hy⟩
    · have he' : e ∈ L := by
        cases he with
        | head => exact absurd hq ha
        | tail _ h => exact h
      obtain ⟨l1, x, l2, k1, k2, k3⟩ := ih he' hq
      refine ⟨a :: l1, x, l2, by rw [k1]; rfl, k2, ?_⟩
      intro y hy
      cases hy with
      | head => exact ha
      | tail _ hy => exact k3 y hy
section
variable {V G : Nat → Nat} {c : Nat → Int} {L : List Nat} {t : Nat} {d : Nat → Int}
/-- a tight edge's value: no walk is better -/
theorem ds_edge (h : gr_ok V G c L) (hd : ds_ok V G c L t d) {e : Nat} (he : e ∈ L) (hf : d (G e) ≠ 1000000000) : d (V e) ≤ d (G e) + wk_w c e := by
  cases (hd.1 (G e) (h.1 e he).2.1).2 with
  | inl x => exact absurd x hf
  | inr x =>
    obtain ⟨p, k1, k2⟩ := x
    have := hd.2 (e :: p) (V e) (h.1 e he).1 ⟨he, rfl, k1⟩
    simp only [wk_S] at this
    omega
theorem tr_ex (h : gr_ok V G c L) (hd : ds_ok V G c L t d) : ∀ (k v : Nat), v < 5 → d v ≠ 1000000000 → (∃ C : Int, d v = 8 * C + (k : Int)) → k ≤ 4 →
    ∃ P, tr_P V G c L t d P v ∧ P.length = k ∧ wk_W V G L P v t ∧ d v = wk_S (wk_w c) P := by
  intro k
  induction k with
  | zero =>
    intro v hv hf hC _
    obtain ⟨C, hC⟩ := hC
    obtain ⟨q, h1, h2, h3⟩ := ds_q h hd hv hf
    cases q with
    | nil => exact ⟨[], h1, rfl, h1, by rw [h3]; rfl⟩
    | cons x q =>
      rw [List.length_cons] at h2 h3
      exact absurd h3 (by omega)
  | succ k ih =>
    intro v hv hf hC hk
    obtain ⟨C, hC⟩ := hC
    obtain ⟨q, h1, h2, h3⟩ := ds_q h hd hv hf
    cases q with
    | nil =>
      rw [List.length_nil] at h3
      exact absurd h3 (by omega)
    | cons x q =>
      have hx : V x = v := h1.2.1
      have hvt : v ≠ t := by
        intro hvt
        subst hvt
        have k1 := h.2 (x :: q) v h1
        have k2 := hd.2 [] v hv rfl
        simp only [wk_S] at k2
        rw [List.length_cons] at k1 h3
        omega
      have hfx : d (G x) ≠ 1000000000 := ds_fin h hd (h.1 x h1.1).2.1 h1.2.2
      have htx : tr_t V G c d v x := by
        refine ⟨hx, hfx, ?_⟩
        have k1 := ds_edge h hd h1.1 hfx
        have k2 := hd.2 q (G x) (h.1 x h1.1).2.1 h1.2.2
        rw [hx] at k1
        rw [wk_Sw] at k2
        simp only [wk_S, List.length_cons] at h3
        simp only [wk_w] at k1 ⊢
        omega
      obtain ⟨l1, y, l2, m1, m2, m3⟩ := tr_first (Q := tr_t V G c d v) h1.1 htx
      have hy : y ∈ L := by rw [m1]; simp
      obtain ⟨P, n1, n2, n3, n4⟩ := ih (G y) (h.1 y hy).2.1 m2.2.1 ⟨C - c y, by
        have := m2.2.2
        simp only [wk_w] at this
        omega⟩ (by omega)
      refine ⟨y :: P, ⟨hvt, ⟨l1, l2, m1, m2, m3⟩, n1⟩, by rw [List.length_cons, n2], ⟨hy, m2.1, n3⟩, ?_⟩
      have := m2.2.2
      simp only [wk_S]
      omega
/-- the traced chain is simple -/
theorem tr_N (h : gr_ok V G c L) (hd : ds_ok V G c L t d) {v : Nat} (hv : v < 5) {P : List Nat} (hP : wk_W V G L P v t) (he : d v = wk_S (wk_w c) P) : wk_N G P v := by
  obtain ⟨q, h1, h2, h3, h4⟩ := wk_simp h.2 t P v hP
  cases h3 with
  | inl x => rw [x] at h2; exact h2
  | inr x =>
    have := hd.2 q v hv h1
    rw [wk_Sw] at this he
    omega
end
end
section
/-- the chains that a visit reaches through the edges l behind the legs pre, in order; z: the node reached -/
def df_g (V G : Nat → Nat) (x y : Nat) (ch : Nat → List Nat → List (List Nat)) (z : Nat) (pre l : List Nat) : List (List Nat) :=
  l.flatMap (fun e => if V e = z ∧ G e ≠ x ∧ (∀ i, i ∈ pre → G i ≠ G e) then (if G e = y then [pre ++ [e]] else ch (G e) (pre ++ [e])) else [])
def df_D (V G : Nat → Nat) (L : List Nat) (x y : Nat) : Nat → Nat → List Nat → List (List Nat)
  | 0 => fun _ _ => []
  | f + 1 => fun z pre => df_g V G x y (df_D V G L x y f) z pre L
section
variable {V G : Nat → Nat} {c : Nat → Int} {L : List Nat} {x y : Nat}
theorem df_app (ch : Nat → List Nat → List (List Nat)) (z : Nat) (pre l m : List Nat) :
    df_g V G x y ch z pre (l ++ m) = df_g V G x y ch z pre l ++ df_g V G x y ch z pre m := List.flatMap_append
theorem df_cons (ch : Nat → List Nat → List (List Nat)) (z : Nat) (pre m : List Nat) (e : Nat) :
    df_g V G x y ch z pre (e :: m) = (if V e = z ∧ G e ≠ x ∧ (∀ i, i ∈ pre → G i ≠ G e) then (if G e = y then [pre ++ [e]] else ch (G e) (pre ++ [e])) else []) ++ df_g V G x y ch z pre m := List.flatMap_cons
/-- what a visit reaches are walks to y -/
theorem df_gm {ch : Nat → List Nat → List (List Nat)} {f : Nat}
    (hch : ∀ z pre C, C ∈ ch z pre → ∃ r, C = pre ++ r ∧ wk_W V G L r z y ∧ r ≠ [] ∧ r.length ≤ f) {z : Nat} {pre l : List Nat} (hl : ∀ e, e ∈ l → e ∈ L) {C : List Nat}
    (hC : C ∈ df_g V G x y ch z pre l) : ∃ e r, e ∈ l ∧ C = pre ++ e :: r ∧ V e = z ∧ wk_W V G L r (G e) y ∧ r.length ≤ f := by
  obtain ⟨e, he, h⟩ := List.mem_flatMap.mp hC
  split at h
  · rename_i hc
    split at h
    · rename_i hy
      have : C = pre ++ [e] := by simpa using h
      exact ⟨e, [], he, this, hc.1, hy, Nat.zero_le _⟩
    · obtain ⟨r, h1, h2, h3, h4⟩ := hch _ _ _ h
      exact ⟨e, r, he, by rw [h1, List.append_assoc]; rfl, hc.1, h2, h4⟩
  · cases h
theorem df_m (f : Nat) : ∀ z pre C, C ∈ df_D V G L x y f z pre → ∃ r, C = pre ++ r ∧ wk_W V G L r z y ∧ r ≠ [] ∧ r.length ≤ f := by
  induction f with
  | zero => intro z pre C hC; cases hC
  | succ f ih =>
    intro z pre C hC
    obtain ⟨e, r, h1, h2, h3, h4, h5⟩ := df_gm ih (fun _ h => h) hC
    exact ⟨e :: r, h2, ⟨h1, h3, h4⟩, List.cons_ne_nil _ _, by rw [List.length_cons]; omega⟩
theorem wk_last {A B : Nat → Nat} {L : List Nat} : ∀ {p : List Nat} {a b : Nat}, p ≠ [] → wk_W A B L p a b → b ∈ p.map B := by
  intro p
  induction p with
  | nil => intro a b h; exact absurd rfl h
  | cons e p ih =>
    intro a b _ h
    by_cases hp : p = []
    · subst hp
      have : B e = b := h.2.2
      rw [← this]
      simp
    · exact List.mem_cons_of_mem _ (ih hp h.2.2)
/-- the visit reaches every simple chain -/
theorem df_all (f : Nat) : ∀ z pre r, r ≠ [] → r.length ≤ f → wk_W V G L r z y → (x :: (pre ++ r).map G).Nodup → pre ++ r ∈ df_D V G L x y f z pre := by
  induction f with
  | zero =>
    intro z pre r hr hl
    cases r with
    | nil => exact absurd rfl hr
    | cons e r => simp at hl
  | succ f ih =>
    intro z pre r hr hl hw hn
    cases r with
    | nil => exact absurd rfl hr
    | cons e r =>
      refine List.mem_flatMap.mpr ⟨e, hw.1, ?_⟩
      have hn1 : (pre.map G ++ G e :: r.map G).Nodup ∧ x ∉ (pre.map G ++ G e :: r.map G) := by
        have := List.nodup_cons.mp hn
        rw [List.map_append, List.map_cons] at this
        exact ⟨this.2, this.1⟩
      have hn2 := List.nodup_append.mp hn1.1
      have hc : V e = z ∧ G e ≠ x ∧ (∀ i, i ∈ pre → G i ≠ G e) := by
        refine ⟨hw.2.1, ?_, ?_⟩
        · intro hx
          exact hn1.2 (by rw [← hx]; simp)
        · intro i hi
          exact hn2.2.2 (G i) (List.mem_map.mpr ⟨i, hi, rfl⟩) (G e) List.mem_cons_self
      rw [if_pos hc]
      by_cases hr2 : r = []
      · subst hr2
        have hy : G e = y := hw.2.2
        rw [if_pos hy]
        exact List.mem_cons_self
      · have hy : G e ≠ y := by
          intro hy
          have := wk_last hr2 hw.2.2
          rw [← hy] at this
          exact (List.nodup_cons.mp hn2.2.1).1 this
        rw [if_neg hy]
        have e1 : pre ++ e :: r = (pre ++ [e]) ++ r := by rw [List.append_assoc]; rfl
        rw [e1]
        refine ih (G e) (pre ++ [e]) r hr2 (by simpa using hl) hw.2.2 ?_
        rw [← e1]
        exact hn
/-- the traced chain's place among all: those ahead of it weigh more -/
theorem df_pos {d : Nat → Int} (h : gr_ok V G c L) (hd : ds_ok V G c L y d) (f : Nat) : ∀ z pre r, r ≠ [] → r.length ≤ f → tr_P V G c L y d r z → wk_W V G L r z y →
    d z = wk_S (wk_w c) r → (x :: (pre ++ r).map G).Nodup →
    ∃ P Q, df_D V G L x y f z pre = P ++ (pre ++ r) :: Q ∧ ∀ C, C ∈ P → wk_S (wk_w c) (pre ++ r) < wk_S (wk_w c) C := by
  induction f with
  | zero =>
    intro z pre r hr hl
    cases r with
    | nil => exact absurd rfl hr
    | cons e r => simp at hl
  | succ f ih =>
    intro z pre r hr hl ht hw hz hn
    cases r with
    | nil => exact absurd rfl hr
    | cons e r =>
      obtain ⟨_, ⟨l1, l2, hL, hte, hl1⟩, htr⟩ := ht
      have hn1 : (pre.map G ++ G e :: r.map G).Nodup ∧ x ∉ (pre.map G ++ G e :: r.map G) := by
        have := List.nodup_cons.mp hn
        rw [List.map_append, List.map_cons] at this
        exact ⟨this.2, this.1⟩
      have hn2 := List.nodup_append.mp hn1.1
      have hc : V e = z ∧ G e ≠ x ∧ (∀ i, i ∈ pre → G i ≠ G e) := by
        refine ⟨hw.2.1, ?_, ?_⟩
        · intro hx
          exact hn1.2 (by rw [← hx]; simp)
        · intro i hi
          exact hn2.2.2 (G i) (List.mem_map.mpr ⟨i, hi, rfl⟩) (G e) List.mem_cons_self
      have hA : ∀ C, C ∈ df_g V G x y (df_D V G L x y f) z pre l1 → wk_S (wk_w c) (pre ++ e :: r) < wk_S (wk_w c) C := by
        intro C hC
        obtain ⟨e', r', k1, k2, k3, k4, k5⟩ := df_gm (L := L) (df_m f) (fun e he => by rw [hL]; exact List.mem_append_left _ he) hC
        have he' : e' ∈ L := by rw [hL]; exact List.mem_append_left _ k1
        have hg := (h.1 e' he').2.1
        have hf := ds_fin h hd hg k4
        have k6 := hd.2 r' (G e') hg k4
        have k7 := ds_edge h hd he' hf
        have k8 : d (G e') + wk_w c e' ≠ d z := fun z' => hl1 e' k1 ⟨k3, hf, z'⟩
        rw [k3] at k7
        rw [k2, wk_S_app, wk_S_app, ← hz]
        simp only [wk_S]
        omega
      have e0 : df_D V G L x y (f + 1) z pre = df_g V G x y (df_D V G L x y f) z pre L := rfl
      have e1 : df_D V G L x y (f + 1) z pre = df_g V G x y (df_D V G L x y f) z pre l1 ++ ((if G e = y then [pre ++ [e]] else df_D V G L x y f (G e) (pre ++ [e])) ++ df_g V G x y (df_D V G L x y f) z pre l2) := by
        rw [e0]
        generalize df_D V G L x y f = ch
        rw [hL, df_app, df_cons, if_pos hc]
      by_cases hr2 : r = []
      · subst hr2
        have hy : G e = y := hw.2.2
        rw [if_pos hy] at e1
        exact ⟨_, _, e1, hA⟩
      · have hy : G e ≠ y := by
          intro hy
          have := wk_last hr2 hw.2.2
          rw [← hy] at this
          exact (List.nodup_cons.mp hn2.2.1).1 this
        rw [if_neg hy] at e1
        have e2 : pre ++ e :: r = (pre ++ [e]) ++ r := by rw [List.append_assoc]; rfl
        have hzr : d (G e) = wk_S (wk_w c) r := by
          have := hte.2.2
          simp only [wk_S] at hz
          omega
        obtain ⟨P, Q, m1, m2⟩ := ih (G e) (pre ++ [e]) r hr2 (by simpa using hl) htr hw.2.2 hzr (by rw [← e2]; exact hn)
        refine ⟨df_g V G x y (df_D V G L x y f) z pre l1 ++ P, Q ++ df_g V G x y (df_D V G L x y f) z pre l2, ?_, ?_⟩
        · rw [e1, m1, e2]
          simp only [List.append_assoc, List.cons_append]
        · intro C hC
          cases List.mem_append.mp hC with
          | inl hC => exact hA C hC
          | inr hC => rw [e2]; exact m2 C hC
end
/-- the reference's comparison: best chain so far and least weight so far -/
def wg_f (c : Nat → Int) (b : List Nat × Int) (p : List Nat) : List Nat × Int :=
  (if b.1 = [] ∨ wk_S c p < wk_S c b.1 ∨ (wk_S c p = wk_S c b.1 ∧ p.length < b.1.length) then p else b.1, if wk_S (wk_v c) p < b.2 then wk_S (wk_v c) p else b.2)
/-- what the reference's search finds -/
def df_B (V G : Nat → Nat) (c : Nat → Int) (L : List Nat) (x y : Nat) : List Nat × Int := (df_D V G L x y 4 x []).foldl (wg_f c) ([], 0)
section
variable {c : Nat → Int}
theorem wg_A (P : List Nat) (l : List (List Nat)) : ∀ b : List Nat × Int, (b.1 = [] ∨ wk_S c P < wk_S c b.1 ∨ (wk_S c P = wk_S c b.1 ∧ P.length < b.1.length)) →
    (∀ C, C ∈ l → wk_S c P < wk_S c C ∨ (wk_S c P = wk_S c C ∧ P.length < C.length)) →
    ((l.foldl (wg_f c) b).1 = [] ∨ wk_S c P < wk_S c (l.foldl (wg_f c) b).1 ∨ (wk_S c P = wk_S c (l.foldl (wg_f c) b).1 ∧ P.length < (l.foldl (wg_f c) b).1.length)) := by
  induction l with
  | nil => intro b h _; exact h
  | cons C l ih =>
    intro b h hl
    refine ih (wg_f c b C) ?_ (fun D hD => hl D (List.mem_cons_of_mem _ hD))
    have hC := hl C List.mem_cons_self
    simp only [wg_f]
    split
    · exact Or.inr hC
    · exact h
theorem wg_B (P : List Nat) (hP : P ≠ []) (l : List (List Nat)) : ∀ b : List Nat × Int, b.1 = P →
    (∀ C, C ∈ l → ¬ (wk_S c C < wk_S c P ∨ (wk_S c C = wk_S c P ∧ C.length < P.length))) → (l.foldl (wg_f c) b).1 = P := by
  induction l with
  | nil => intro b h _; exact h
  | cons C l ih =>
    intro b h hl
    refine ih (wg_f c b C) ?_ (fun D hD => hl D (List.mem_cons_of_mem _ hD))
    have hC := hl C List.mem_cons_self
    simp only [wg_f]
    rw [h]
    refine if_neg ?_
    intro hz
    cases hz with
    | inl z => exact hP z
    | inr z => exact hC z
theorem wg_least (l : List (List Nat)) : ∀ b : List Nat × Int, (l.foldl (wg_f c) b).2 ≤ b.2 ∧ (∀ C, C ∈ l → (l.foldl (wg_f c) b).2 ≤ wk_S (wk_v c) C) ∧
    ((l.foldl (wg_f c) b).2 = b.2 ∨ ∃ C, C ∈ l ∧ (l.foldl (wg_f c) b).2 = wk_S (wk_v c) C) := by
  induction l with
  | nil => intro b; exact ⟨Int.le_refl _, fun C hC => (by cases hC), Or.inl rfl⟩
  | cons C l ih =>
    intro b
    obtain ⟨h1, h2, h3⟩ := ih (wg_f c b C)
    have e : (wg_f c b C).2 = if wk_S (wk_v c) C < b.2 then wk_S (wk_v c) C else b.2 := rfl
    rw [List.foldl_cons]
    rw [e] at h1 h3
    refine ⟨?_, ?_, ?_⟩
    · split at h1 <;> omega
    · intro D hD
      cases hD with
      | head => split at h1 <;> omega
      | tail _ hD => exact h2 D hD
    · cases h3 with
      | inl h3 =>
        split at h3
        · exact Or.inr ⟨C, List.mem_cons_self, h3⟩
        · exact Or.inl h3
      | inr h3 =>
        obtain ⟨D, hD, hE⟩ := h3
        exact Or.inr ⟨D, List.mem_cons_of_mem _ hD, hE⟩
end
section
variable {V G : Nat → Nat} {c : Nat → Int} {L : List Nat} {x y : Nat} {d : Nat → Int}
/-- no way: the reference finds nothing -/
theorem df_none (h : gr_ok V G c L) (hd : ds_ok V G c L y d) (hx : x < 5) (hf : d x = 1000000000) : (df_B V G c L x y).1 = [] := by
  have e : df_D V G L x y 4 x [] = [] := by
    cases hq : df_D V G L x y 4 x [] with
    | nil => rfl
    | cons C l =>
      obtain ⟨r, h1, h2, h3, h4⟩ := df_m (V := V) (G := G) (L := L) (x := x) (y := y) 4 x [] C (by rw [hq]; exact List.mem_cons_self)
      exact absurd hf (ds_fin h hd hx h2)
  unfold df_B
  rw [e]
  rfl
/-- the traced chain is what the reference finds -/
theorem df_some (h : gr_ok V G c L) (hd : ds_ok V G c L y d) (hx : x < 5) (hxy : x ≠ y) {P : List Nat} (ht : tr_P V G c L y d P x) (hw : wk_W V G L P x y) (hz : d x = wk_S (wk_w c) P) (hl : P.length ≤ 4) :
    P ≠ [] ∧ (df_B V G c L x y).1 = P := by
  have hP : P ≠ [] := by
    intro hP
    subst hP
    exact hxy hw
  refine ⟨hP, ?_⟩
  obtain ⟨A, B, e1, hA⟩ := df_pos (x := x) h hd 4 x [] P hP hl ht hw hz (by rw [List.nil_append]; exact tr_N h hd hx hw hz)
  rw [List.nil_append] at e1 hA
  have hall : ∀ C, C ∈ df_D V G L x y 4 x [] → wk_S (wk_w c) P ≤ wk_S (wk_w c) C ∧ C.length ≤ 4 := by
    intro C hC
    obtain ⟨r, h1, h2, h3, h4⟩ := df_m 4 x [] C hC
    rw [List.nil_append] at h1
    subst h1
    exact ⟨by rw [← hz]; exact hd.2 C x hx h2, h4⟩
  unfold df_B
  have hA' : ∀ C, C ∈ A → wk_S c P < wk_S c C ∨ (wk_S c P = wk_S c C ∧ P.length < C.length) := by
    intro C hC
    have k1 := hA C hC
    have k2 := (hall C (by rw [e1]; exact List.mem_append_left _ hC)).2
    rw [wk_Sw, wk_Sw] at k1
    omega
  have hB' : ∀ C, C ∈ B → ¬ (wk_S c C < wk_S c P ∨ (wk_S c C = wk_S c P ∧ C.length < P.length)) := by
    intro C hC
    have k2 := hall C (by rw [e1]; exact List.mem_append_right _ (List.mem_cons_of_mem _ hC))
    rw [wk_Sw, wk_Sw] at k2
    omega
  rw [e1, List.foldl_append, List.foldl_cons]
  refine wg_B P hP B _ ?_ hB'
  exact if_pos (wg_A P A ([], 0) (Or.inl rfl) hA')
end
end
section
/-- the reference's least weight over the starts below k -/
def pt_Y (V G : Nat → Nat) (c : Nat → Int) (L : List Nat) (y : Nat) : Nat → Int
  | 0 => 0
  | k + 1 => if k = y then pt_Y V G c L y k else if (df_B V G c L k y).2 < pt_Y V G c L y k then (df_B V G c L k y).2 else pt_Y V G c L y k
section
variable {V G : Nat → Nat} {c : Nat → Int} {L : List Nat} {y : Nat} {d : Nat → Int}
theorem pt_Yp (k : Nat) : pt_Y V G c L y k ≤ 0 ∧ (∀ x, x < k → x ≠ y → pt_Y V G c L y k ≤ (df_B V G c L x y).2) ∧
    (pt_Y V G c L y k = 0 ∨ ∃ x, x < k ∧ x ≠ y ∧ pt_Y V G c L y k = (df_B V G c L x y).2) := by
  induction k with
  | zero => exact ⟨Int.le_refl _, fun x hx => absurd hx (Nat.not_lt_zero _), Or.inl rfl⟩
  | succ k ih =>
    obtain ⟨h1, h2, h3⟩ := ih
    by_cases hk : k = y
    · have e : pt_Y V G c L y (k + 1) = pt_Y V G c L y k := if_pos hk
      rw [e]
      refine ⟨h1, ?_, ?_⟩
      · intro x hx hxy
        exact h2 x (by omega) hxy
      · cases h3 with
        | inl h3 => exact Or.inl h3
        | inr h3 => obtain ⟨x, k1, k2, k3⟩ := h3; exact Or.inr ⟨x, by omega, k2, k3⟩
    · have e : pt_Y V G c L y (k + 1) = if (df_B V G c L k y).2 < pt_Y V G c L y k then (df_B V G c L k y).2 else pt_Y V G c L y k := if_neg hk
      rw [e]
      split
      · rename_i hlt
        refine ⟨by omega, ?_, Or.inr ⟨k, by omega, hk, rfl⟩⟩
        intro x hx hxy
        by_cases hxk : x = k
        · rw [hxk]; exact Int.le_refl _
        · have := h2 x (by omega) hxy
          omega
      · rename_i hlt
        refine ⟨h1, ?_, ?_⟩
        · intro x hx hxy
          by_cases hxk : x = k
          · rw [hxk]; omega
          · exact h2 x (by omega) hxy
        · cases h3 with
          | inl h3 => exact Or.inl h3
          | inr h3 => obtain ⟨x, k1, k2, k3⟩ := h3; exact Or.inr ⟨x, by omega, k2, k3⟩
theorem pt_eq (h : gr_ok V G c L) (hy : y < 5) (U : bf_U G V (wk_v c) L (fun s => s < 5) 5 d) (I : bf_I G V (wk_v c) L (fun s => s < 5) 0 d) : d y = pt_Y V G c L y 5 := by
  obtain ⟨p1, p2, p3⟩ := pt_Yp (V := V) (G := G) (c := c) (L := L) (y := y) 5
  have d0 : d y ≤ 0 := U [] y y hy rfl hy (Nat.zero_le _)
  have hle : d y ≤ pt_Y V G c L y 5 := by
    cases p3 with
    | inl p3 => omega
    | inr p3 =>
      obtain ⟨x, k1, k2, k3⟩ := p3
      have hl := wg_least (c := c) (df_D V G L x y 4 x []) ([], 0)
      have e : (df_B V G c L x y).2 = (List.foldl (wg_f c) ([], 0) (df_D V G L x y 4 x [])).2 := rfl
      rw [← e] at hl
      cases hl.2.2 with
      | inl z =>
        have z' : (df_B V G c L x y).2 = 0 := z
        omega
      | inr z =>
        obtain ⟨C, hC, z⟩ := z
        obtain ⟨r, h1, h2, h3, h4⟩ := df_m 4 x [] C hC
        rw [List.nil_append] at h1
        subst h1
        have := U C.reverse y x hy (wk_rev h2) k1 (by rw [List.length_reverse]; omega)
        rw [wk_S_rev] at this
        omega
  have hge : pt_Y V G c L y 5 ≤ d y := by
    cases (I y hy).2 with
    | inl z => omega
    | inr z =>
      obtain ⟨p, s, k1, k2, k3⟩ := z
      have k4 := wk_rev k1
      obtain ⟨q, h1, h2, h3, h4⟩ := wk_simp h.2 y p.reverse s k4
      have h5 := wk_len (fun e he => (h.1 e he).2.1) k2 h1 h2
      have h7 : q.length ≤ p.reverse.length := by
        cases h3 with
        | inl x => rw [x]; exact Nat.le_refl _
        | inr x => omega
      rw [wk_S_rev, List.length_reverse] at h4
      rw [List.length_reverse] at h7
      have h8 : wk_S (wk_v c) q ≤ d y := by
        rw [k3, wk_Sv, wk_Sv]
        omega
      by_cases hs : s = y
      · subst hs
        have := h.2 q s h1
        rw [wk_Sv] at h8
        omega
      · have hq : q ≠ [] := by
          intro hq
          subst hq
          exact hs h1
        have hm := df_all (x := s) 4 s [] q hq h5 h1 (by rw [List.nil_append]; exact h2)
        rw [List.nil_append] at hm
        have hl := (wg_least (c := c) (df_D V G L s y 4 s []) ([], 0)).2.1 q hm
        have e : (df_B V G c L s y).2 = (List.foldl (wg_f c) ([], 0) (df_D V G L s y 4 s [])).2 := rfl
        rw [← e] at hl
        have := p2 s k2 hs
        omega
  omega
end
/-! the program's arrays as a graph -/
def ar_N (a : Nat → Int32) : Nat → Nat := fun e => (a e).toNatClampNeg
def ar_c (lm : Nat → Int32) : Nat → Int := fun e => -(lm e).toInt
/-- one relaxation of the distances: passed over?, the new value -/
def di_c (gt gv lm : Nat → Int32) : (Nat → Int32) → Nat → Bool := fun a e =>
  decide (a (ar_N gt e) = 1000000000) || decide (a (ar_N gv e) ≤ a (ar_N gt e) + (1 - 8 * lm e))
def di_v (gt lm : Nat → Int32) : (Nat → Int32) → Nat → Int32 := fun a e => a (ar_N gt e) + (1 - 8 * lm e)
/-- the same of the potentials -/
def po_c (gt gv lm : Nat → Int32) : (Nat → Int32) → Nat → Bool := fun a e => decide (a (ar_N gt e) ≤ (a (ar_N gv e) - 8 * lm e) - 1)
def po_v (gv lm : Nat → Int32) : (Nat → Int32) → Nat → Int32 := fun a e => (a (ar_N gv e) - 8 * lm e) - 1
theorem ar_8 {x : Int32} (h1 : -999 ≤ -x.toInt) (h2 : -x.toInt ≤ 999) : (8 * x).toInt = 8 * x.toInt := by
  have e : (8 : Int32).toInt = 8 := by decide
  rw [Jvm.Kit.i32_mul (by rw [e]; omega) (by rw [e]; omega), e]
theorem di_w {a l : Int32} (h1 : -999 ≤ -l.toInt) (h2 : -l.toInt ≤ 999) (ha : -1000000 ≤ a.toInt) (hb : a.toInt ≤ 1000000000) :
    (a + (1 - 8 * l)).toInt = a.toInt + (8 * (-l.toInt) + 1) := by
  have e8 := ar_8 h1 h2
  have e1 : (1 : Int32).toInt = 1 := by decide
  have es : (1 - 8 * l).toInt = 1 - 8 * l.toInt := by
    rw [Jvm.Kit.i32_sub (by rw [e1, e8]; omega) (by rw [e1, e8]; omega), e1, e8]
  rw [Jvm.Kit.i32_add (by rw [es]; omega) (by rw [es]; omega), es]
  omega
theorem po_w {a l : Int32} (h1 : -999 ≤ -l.toInt) (h2 : -l.toInt ≤ 999) (ha : -1000000 ≤ a.toInt) (hb : a.toInt ≤ 1000000000) :
    ((a - 8 * l) - 1).toInt = a.toInt + (8 * (-l.toInt) - 1) := by
  have e8 := ar_8 h1 h2
  have e1 : (1 : Int32).toInt = 1 := by decide
  have es : (a - 8 * l).toInt = a.toInt - 8 * l.toInt := by
    rw [Jvm.Kit.i32_sub (by rw [e8]; omega) (by rw [e8]; omega), e8]
  rw [Jvm.Kit.i32_sub (by rw [es, e1]; omega) (by rw [es, e1]; omega), es, e1]
  omega
theorem bf_tu (a : Nat → Int32) (k : Nat) (x : Int32) : bf_t (upd a k x) = fun v => if v = k then x.toInt else bf_t a v := by
  funext v
  unfold bf_t upd
  split <;> rfl
section
variable {gt gv lm : Nat → Int32} {L : List Nat}
theorem di_st (h : gr_ok (ar_N gv) (ar_N gt) (ar_c lm) L) {T : Nat → Prop} (a : Nat → Int32) (e : Nat) (he : e ∈ L)
    (I : bf_I (ar_N gv) (ar_N gt) (wk_w (ar_c lm)) L T 1000000000 (bf_t a)) :
    bf_t (if di_c gt gv lm a e = true then a else upd a (ar_N gv e) (di_v gt lm a e)) = bf_r (ar_N gv) (ar_N gt) (wk_w (ar_c lm)) (bf_t a) e := by
  obtain ⟨hv, hg, hc1, hc2⟩ := h.1 e he
  have hb := I (ar_N gt e) hg
  have hlo : -1000000 ≤ bf_t a (ar_N gt e) := by
    cases hb.2 with
    | inl z => omega
    | inr z =>
      obtain ⟨p, s, k1, k2, k3⟩ := z
      have := gr_lo h hg k1
      rw [wk_Sw] at k3
      omega
  have hw : (a (ar_N gt e) + (1 - 8 * lm e)).toInt = bf_t a (ar_N gt e) + wk_w (ar_c lm) e := di_w hc1 hc2 hlo hb.1
  have hi : (1000000000 : Int32).toInt = 1000000000 := by decide
  unfold bf_r
  by_cases hcn : di_c gt gv lm a e = true
  · rw [if_pos hcn]
    have : ¬ (bf_t a (ar_N gt e) ≠ 1000000000 ∧ bf_t a (ar_N gt e) + wk_w (ar_c lm) e < bf_t a (ar_N gv e)) := by
      intro hz
      unfold di_c at hcn
      rw [Bool.or_eq_true, decide_eq_true_eq, decide_eq_true_eq, Int32.le_iff_toInt_le, hw] at hcn
      cases hcn with
      | inl hcn => exact hz.1 (by show (a (ar_N gt e)).toInt = 1000000000; rw [hcn]; exact hi)
      | inr hcn =>
        have hz2 := hz.2
        have : bf_t a (ar_N gv e) = (a (ar_N gv e)).toInt := rfl
        omega
    rw [if_neg this]
  · rw [if_neg hcn]
    have : (bf_t a (ar_N gt e) ≠ 1000000000 ∧ bf_t a (ar_N gt e) + wk_w (ar_c lm) e < bf_t a (ar_N gv e)) := by
      unfold di_c at hcn
      rw [Bool.or_eq_true, decide_eq_true_eq, decide_eq_true_eq, Int32.le_iff_toInt_le, hw] at hcn
      constructor
      · intro hz
        exact hcn (Or.inl (Int32.toInt_inj.mp (by rw [hi]; exact hz)))
      · have h2 : ¬ (a (ar_N gv e)).toInt ≤ bf_t a (ar_N gt e) + wk_w (ar_c lm) e := fun z => hcn (Or.inr z)
        have : bf_t a (ar_N gv e) = (a (ar_N gv e)).toInt := rfl
        omega
    rw [if_pos this, bf_tu, ← hw]
    rfl
theorem po_st (h : gr_ok (ar_N gv) (ar_N gt) (ar_c lm) L) (a : Nat → Int32) (e : Nat) (he : e ∈ L)
    (I : bf_I (ar_N gt) (ar_N gv) (wk_v (ar_c lm)) L (fun s => s < 5) 0 (bf_t a)) :
    bf_t (if po_c gt gv lm a e = true then a else upd a (ar_N gt e) (po_v gv lm a e)) = bf_r (ar_N gt) (ar_N gv) (wk_v (ar_c lm)) (bf_t a) e := by
  obtain ⟨hv, hg, hc1, hc2⟩ := h.1 e he
  have hb := I (ar_N gv e) hv
  have h00 := hb.1
  have hlo : -1000000 ≤ bf_t a (ar_N gv e) := by
    cases hb.2 with
    | inl z => omega
    | inr z =>
      obtain ⟨p, s, k1, k2, k3⟩ := z
      have := gr_lo (gr_rev h) hv k1
      rw [wk_Sv] at k3
      omega
  have hw : ((a (ar_N gv e) - 8 * lm e) - 1).toInt = bf_t a (ar_N gv e) + wk_v (ar_c lm) e := po_w hc1 hc2 hlo (by have h9 : (a (ar_N gv e)).toInt ≤ 0 := hb.1; omega)
  unfold bf_r
  by_cases hcn : po_c gt gv lm a e = true
  · rw [if_pos hcn]
    have : ¬ (bf_t a (ar_N gv e) ≠ 1000000000 ∧ bf_t a (ar_N gv e) + wk_v (ar_c lm) e < bf_t a (ar_N gt e)) := by
      intro hz
      unfold po_c at hcn
      rw [decide_eq_true_eq, Int32.le_iff_toInt_le, hw] at hcn
      have hz2 := hz.2
      have : bf_t a (ar_N gt e) = (a (ar_N gt e)).toInt := rfl
      omega
    rw [if_neg this]
  · rw [if_neg hcn]
    have : (bf_t a (ar_N gv e) ≠ 1000000000 ∧ bf_t a (ar_N gv e) + wk_v (ar_c lm) e < bf_t a (ar_N gt e)) := by
      unfold po_c at hcn
      rw [decide_eq_true_eq, Int32.le_iff_toInt_le, hw] at hcn
      have : bf_t a (ar_N gt e) = (a (ar_N gt e)).toInt := rfl
      constructor
      · omega
      · omega
    rw [if_pos this, bf_tu, ← hw]
    rfl
end
end
section
/-- the array holds the numbers of the list from place i on -/
def hd_a (a : Nat → Int32) : Nat → List Nat → Prop
  | _, [] => True
  | i, e :: l => a i = nI e ∧ hd_a a (i + 1) l
theorem hd_app {a : Nat → Int32} : ∀ {l m : List Nat} {i : Nat}, hd_a a i (l ++ m) ↔ hd_a a i l ∧ hd_a a (i + l.length) m := by
  intro l
  induction l with
  | nil => intro m i; exact ⟨fun h => ⟨trivial, h⟩, fun h => h.2⟩
  | cons e l ih =>
    intro m i
    have e1 : i + (e :: l).length = i + 1 + l.length := by rw [List.length_cons]; omega
    rw [e1]
    constructor
    · intro h
      have := ih.mp h.2
      exact ⟨⟨h.1, this.1⟩, this.2⟩
    · intro h
      exact ⟨h.1.1, ih.mpr ⟨h.1.2, h.2⟩⟩
theorem hd_ext {a b : Nat → Int32} : ∀ {l : List Nat} {i : Nat}, (∀ j, i ≤ j → j < i + l.length → b j = a j) → hd_a a i l → hd_a b i l := by
  intro l
  induction l with
  | nil => intro i _ _; trivial
  | cons e l ih =>
    intro i hk h
    rw [List.length_cons] at hk
    refine ⟨(hk i (Nat.le_refl _) (by omega)).trans h.1, ih (fun j h1 h2 => hk j (by omega) (by omega)) h.2⟩
theorem hd_lo {a : Nat → Int32} {l : List Nat} {i k : Nat} {x : Int32} (hk : k < i) (h : hd_a a i l) : hd_a (upd a k x) i l :=
  hd_ext (fun j h1 _ => pk_un (by omega)) h
theorem hd_hi {a : Nat → Int32} {l : List Nat} {i k : Nat} {x : Int32} (hk : i + l.length ≤ k) (h : hd_a a i l) : hd_a (upd a k x) i l :=
  hd_ext (fun j _ h2 => pk_un (by omega)) h
theorem hd_snoc {a : Nat → Int32} {l : List Nat} {i e k : Nat} (hk : k = i + l.length) (h : hd_a a i l) : hd_a (upd a k (nI e)) i (l ++ [e]) := by
  subst hk
  exact hd_app.mpr ⟨hd_hi (Nat.le_refl _) h, pk_us, trivial⟩
theorem hd_at {a : Nat → Int32} {l m : List Nat} {e : Nat} {i : Nat} (h : hd_a a i (l ++ e :: m)) : a (i + l.length) = nI e := (hd_app.mp h).2.1
/-- the resting entries of 1 .. k, oldest first -/
def rl_L (st : Nat → Int32) : Nat → List Nat
  | 0 => []
  | k + 1 => if st (k + 1) = 1 then rl_L st k ++ [k + 1] else rl_L st k
theorem rl_mem {st : Nat → Int32} {e : Nat} : ∀ {k : Nat}, e ∈ rl_L st k ↔ 1 ≤ e ∧ e ≤ k ∧ st e = 1 := by
  intro k
  induction k with
  | zero =>
    constructor
    · intro h; cases h
    · intro h; omega
  | succ k ih =>
    by_cases hk : st (k + 1) = 1
    · have e1 : rl_L st (k + 1) = rl_L st k ++ [k + 1] := if_pos hk
      rw [e1, List.mem_append, ih]
      constructor
      · intro h
        cases h with
        | inl h => exact ⟨h.1, by omega, h.2.2⟩
        | inr h =>
          have : e = k + 1 := by simpa using h
          subst this
          exact ⟨by omega, by omega, hk⟩
      · intro h
        by_cases he : e = k + 1
        · exact Or.inr (by simp [he])
        · exact Or.inl ⟨h.1, by omega, h.2.2⟩
    · have e1 : rl_L st (k + 1) = rl_L st k := if_neg hk
      rw [e1, ih]
      constructor
      · intro h; exact ⟨h.1, by omega, h.2.2⟩
      · intro h
        have : e ≠ k + 1 := fun he => hk (by rw [← he]; exact h.2.2)
        exact ⟨h.1, by omega, h.2.2⟩
theorem rl_ext {st st' : Nat → Int32} : ∀ {k : Nat}, (∀ e, 1 ≤ e → e ≤ k → (st' e = 1 ↔ st e = 1)) → rl_L st' k = rl_L st k := by
  intro k
  induction k with
  | zero => intro _; rfl
  | succ k ih =>
    intro h
    have h1 := ih (fun e a b => h e a (by omega))
    have h2 := h (k + 1) (by omega) (Nat.le_refl _)
    unfold rl_L
    rw [h1]
    by_cases hk : st (k + 1) = 1
    · rw [if_pos hk, if_pos (h2.mpr hk)]
    · rw [if_neg hk, if_neg (fun z => hk (h2.mp z))]
theorem rl_flt {st st' : Nat → Int32} {p : Nat → Bool} : ∀ {k : Nat}, (∀ e, 1 ≤ e → e ≤ k → (st' e = 1 ↔ st e = 1 ∧ p e = true)) → rl_L st' k = (rl_L st k).filter p := by
  intro k
  induction k with
  | zero => intro _; rfl
  | succ k ih =>
    intro h
    have h1 := ih (fun e a b => h e a (by omega))
    have h2 := h (k + 1) (by omega) (Nat.le_refl _)
    unfold rl_L
    rw [h1]
    by_cases hk : st (k + 1) = 1
    · rw [if_pos hk, List.filter_append]
      by_cases hp : p (k + 1) = true
      · rw [if_pos (h2.mpr ⟨hk, hp⟩)]
        simp [hp]
      · rw [if_neg (fun z => hp (h2.mp z).2)]
        simp [hp]
    · rw [if_neg hk, if_neg (fun z => hk (h2.mp z).1)]
theorem rl_rem {st : Nat → Int32} {e k : Nat} {x : Int32} (hx : x ≠ 1) : rl_L (upd st e x) k = (rl_L st k).filter (fun y => decide (y ≠ e)) := by
  refine rl_flt ?_
  intro y _ _
  by_cases hy : y = e
  · subst hy
    rw [pk_us]
    simp [hx]
  · rw [pk_un hy]
    simp [hy]
theorem rl_lt {st : Nat → Int32} : ∀ {k : Nat}, (rl_L st k).Pairwise (fun a b => a < b) := by
  intro k
  induction k with
  | zero => exact List.Pairwise.nil
  | succ k ih =>
    unfold rl_L
    split
    · refine List.pairwise_append.mpr ⟨ih, List.pairwise_singleton _ _, ?_⟩
      intro a ha b hb
      have h1 := (rl_mem.mp ha).2.1
      have h2 : b = k + 1 := by simpa using hb
      omega
    · exact ih
theorem rl_nd {st : Nat → Int32} {k : Nat} : (rl_L st k).Nodup := (rl_lt (st := st) (k := k)).imp (fun h => Nat.ne_of_lt h)
theorem rl_len {st : Nat → Int32} {e k : Nat} (h : e ∈ rl_L st k) : ((rl_L st k).filter (fun y => decide (y ≠ e))).length < (rl_L st k).length := by
  refine List.length_filter_lt_length_iff_exists.mpr ⟨e, h, by simp⟩
/-- one entry's record is in order -/
def en_ok (gt gv lm : Nat → Int32) (e : Nat) : Prop :=
  1 ≤ e ∧ e ≤ 200 ∧ (gt e = nI (ar_N gt e) ∧ ar_N gt e < 5) ∧ (gv e = nI (ar_N gv e) ∧ ar_N gv e < 5) ∧ -999 ≤ ar_c lm e ∧ ar_c lm e ≤ 999
theorem en_of {gt gv lm : Nat → Int32} {e g v : Nat} (h1 : 1 ≤ e) (h2 : e ≤ 200) (hg : gt e = nI g) (hg5 : g < 5) (hv : gv e = nI v) (hv5 : v < 5) (hl1 : -999 ≤ (lm e).toInt) (hl2 : (lm e).toInt ≤ 999) : en_ok gt gv lm e := by
  have e1 : ar_N gt e = g := by unfold ar_N; rw [hg]; exact nI_clamp (by omega)
  have e2 : ar_N gv e = v := by unfold ar_N; rw [hv]; exact nI_clamp (by omega)
  refine ⟨h1, h2, ⟨by rw [e1]; exact hg, by rw [e1]; exact hg5⟩, ⟨by rw [e2]; exact hv, by rw [e2]; exact hv5⟩, ?_, ?_⟩
  · unfold ar_c; omega
  · unfold ar_c; omega
theorem nb_01 {f : Int32} (h : f = 0 ∨ f = 1) : narrow .boolean (.int f) = .int f := by
  cases h with
  | inl h => subst h; rfl
  | inr h => subst h; rfl
end
section
/-- the same value in the first k places -/
def in_A (x : Int32) : Nat → (Nat → Int32) → (Nat → Int32)
  | 0, a => a
  | k + 1, a => upd (in_A x k a) k x
theorem in_at (x : Int32) (a : Nat → Int32) : ∀ k v, v < k → in_A x k a v = x := by
  intro k
  induction k with
  | zero => intro v h; omega
  | succ k ih =>
    intro v h
    unfold in_A
    by_cases hv : v = k
    · subst hv; exact pk_us
    · rw [pk_un hv]; exact ih v (by omega)
def di_k (gt gv lm : Nat → Int32) : Int32 × (Nat → Int32) → Nat → Int32 × (Nat → Int32) := bf_k (di_c gt gv lm) (di_v gt lm) (ar_N gv)
section
variable {cp el ac pl ca ck m n ex un pL pC pQ : Int32} {st ow gt gv lm lf fi pd bk ho rL rO rC rE di po pa : Nat → Int32}
/-- relaxDistances: its loop -/
theorem xr_l {post : Int32 → SX → Prop} {N : Nat} (hN : N ≤ 24) : ∀ (l : List Nat) (i : Nat) (a : Nat → Int32) (f : Int32) (k : Nat),
    (∀ e, e ∈ l → en_ok gt gv lm e) → hd_a bk i l → i + l.length = N → l.length < k → (f = 0 ∨ f = 1) →
    post (l.foldl (di_k gt gv lm) (f, a)).1 (cp, el, ac, pl, ca, ck, m, nI N, ex, un, pL, pC, pQ, st, ow, gt, gv, lm, lf, fi, pd, bk, ho, rL, rO, rC, rE, (l.foldl (di_k gt gv lm) (f, a)).2, po, pa) →
    wX_relaxDistances_4 post cp el ac pl ca ck m (nI N) ex un pL pC pQ k f (nI i) st ow gt gv lm lf fi pd bk ho rL rO rC rE a po pa := by
  intro l
  induction l with
  | nil =>
    intro i a f k _ _ hi hk hf hp
    cases k with
    | zero => exact absurd hk (Nat.not_lt_zero _)
    | succ k => exact br_t (nI_le (by rw [List.length_nil] at hi; omega) (by rw [List.length_nil] at hi; omega)) ⟨nb_01 hf, hp⟩
  | cons e l ih =>
    intro i a f k hen hb hi hk hf hp
    cases k with
    | zero => exact absurd hk (Nat.not_lt_zero _)
    | succ k =>
      rw [List.length_cons] at hi hk
      obtain ⟨he1, he2, hg, hv, hc⟩ := hen e List.mem_cons_self
      have hcl : (nI e).toNatClampNeg = e := nI_clamp (by omega)
      have hil : (nI i).toNatClampNeg = i := nI_clamp (by omega)
      have he : vp_in (nI e) 201 := vp_in_nI (by omega) (by omega)
      have hgi : vp_in (gt e) 5 := by rw [hg.1]; exact vp_in_nI hg.2 (by omega)
      have hvi : vp_in (gv e) 5 := by rw [hv.1]; exact vp_in_nI hv.2 (by omega)
      have hen' : ∀ x, x ∈ l → en_ok gt gv lm x := fun x hx => hen x (List.mem_cons_of_mem _ hx)
      refine br_f (nI_ge (by omega) (by omega)) ⟨vp_in_nI (by omega) (by omega), nm_r (e' := nI e) (by rw [hil]; exact hb.1) ?_⟩
      rw [hcl]
      refine ⟨he, hgi, nm_e (And.intro he (nm_e ?_))⟩
      rw [hcl]
      rw [List.foldl_cons] at hp
      by_cases h1 : a (ar_N gt e) = 1000000000
      · have e1 : di_k gt gv lm (f, a) e = (f, a) := if_pos (by unfold di_c; simp [h1])
        rw [e1] at hp
        exact br_t h1 (nm_r (nI_1 i) (ih (i + 1) a f k hen' hb.2 (by omega) (by omega) hf hp))
      · by_cases h2 : a (ar_N gv e) ≤ a (ar_N gt e) + (1 - 8 * lm e)
        · have e1 : di_k gt gv lm (f, a) e = (f, a) := if_pos (by unfold di_c; simp [h1, h2])
          rw [e1] at hp
          exact br_f h1 ⟨he, hvi, br_t h2 (nm_r (nI_1 i) (ih (i + 1) a f k hen' hb.2 (by omega) (by omega) hf hp))⟩
        · have e1 : di_k gt gv lm (f, a) e = (1, upd a (ar_N gv e) (di_v gt lm a e)) := if_neg (by unfold di_c; simp [h1, h2])
          rw [e1] at hp
          exact br_f h1 ⟨he, hvi, br_f h2 ⟨he, hvi, nm_e (nm_r (nI_1 i) (ih (i + 1) _ 1 k hen' hb.2 (by omega) (by omega) (Or.inr rfl) hp))⟩⟩
/-- measureDistances: its rounds -/
theorem xm_o {post : SX → Prop} {L : List Nat} (hL : ∀ e, e ∈ L → en_ok gt gv lm e) (hb : hd_a bk 0 L) (hN : L.length ≤ 24) :
    ∀ (r j : Nat) (f : Int32) (a : Nat → Int32) (k : Nat), j + r = 5 → r < k →
    post (cp, el, ac, pl, ca, ck, m, nI L.length, ex, un, pL, pC, pQ, st, ow, gt, gv, lm, lf, fi, pd, bk, ho, rL, rO, rC, rE, bf_O (di_c gt gv lm) (di_v gt lm) (ar_N gv) L r (f, a), po, pa) →
    wX_measureDistances_32 post k f (nI j) cp el ac pl ca ck m (nI L.length) ex un pL pC pQ st ow gt gv lm lf fi pd bk ho rL rO rC rE a po pa := by
  intro r
  induction r with
  | zero =>
    intro j f a k hj hk hp
    cases k with
    | zero => exact absurd hk (Nat.not_lt_zero _)
    | succ k => exact br_t (nI_le (a := 5) (by omega) (by omega)) hp
  | succ r ih =>
    intro j f a k hj hk hp
    cases k with
    | zero => exact absurd hk (Nat.not_lt_zero _)
    | succ k =>
      refine br_f (nI_ge (b := 5) (by omega) (by decide)) ?_
      by_cases hf : f = 0
      · have e1 : bf_O (di_c gt gv lm) (di_v gt lm) (ar_N gv) L (r + 1) (f, a) = a := if_pos hf
        rw [e1] at hp
        exact br_t hf hp
      · have e1 : bf_O (di_c gt gv lm) (di_v gt lm) (ar_N gv) L (r + 1) (f, a) = bf_O (di_c gt gv lm) (di_v gt lm) (ar_N gv) L r (L.foldl (di_k gt gv lm) (0, a)) := if_neg hf
        rw [e1] at hp
        refine br_f hf (Exists.intro (L.length + 1) (xr_l hN L 0 a 0 (L.length + 1) hL hb (by omega) (by omega) (Or.inl rfl) ?_))
        exact nm_r (nI_1 j) (ih (j + 1) _ _ k (by omega) (by omega) hp)
/-- measureDistances: the clearing loop -/
theorem xm_c {post : SX → Prop} {x1 : Int32} : ∀ (r j : Nat) (k : Nat), j + r = 5 → r < k →
    (∀ k, wX_measureDistances_2 post x1 cp el ac pl ca ck m n ex un pL pC pQ (k + 1) (nI 5) st ow gt gv lm lf fi pd bk ho rL rO rC rE (in_A 1000000000 5 di) po pa) →
    wX_measureDistances_2 post x1 cp el ac pl ca ck m n ex un pL pC pQ k (nI j) st ow gt gv lm lf fi pd bk ho rL rO rC rE (in_A 1000000000 j di) po pa := by
  intro r
  induction r with
  | zero =>
    intro j k hj hk hp
    have : j = 5 := by omega
    subst this
    cases k with
    | zero => exact absurd hk (Nat.not_lt_zero _)
    | succ k => exact hp k
  | succ r ih =>
    intro j k hj hk hp
    cases k with
    | zero => exact absurd hk (Nat.not_lt_zero _)
    | succ k =>
      have hil : (nI j).toNatClampNeg = j := nI_clamp (by omega)
      refine br_f (nI_ge (b := 5) (by omega) (by decide)) ⟨vp_in_nI (by omega) (by omega), ?_⟩
      rw [hil]
      exact nm_e (nm_r (nI_1 j) (ih (j + 1) k (by omega) (by omega) hp))
/-- measureDistances -/
theorem xm_d {L : List Nat} {t : Nat} (ht : t < 5) (hL : ∀ e, e ∈ L → en_ok gt gv lm e) (hb : hd_a bk 0 L) (hN : L.length ≤ 24) (hg : gr_ok (ar_N gv) (ar_N gt) (ar_c lm) L) :
    ∃ a, ds_ok (ar_N gv) (ar_N gt) (ar_c lm) L t (bf_t a) ∧ ∀ post : SX → Prop, post (cp, el, ac, pl, ca, ck, m, nI L.length, ex, un, pL, pC, pQ, st, ow, gt, gv, lm, lf, fi, pd, bk, ho, rL, rO, rC, rE, a, po, pa) → wpX_measureDistances post (cp, el, ac, pl, ca, ck, m, nI L.length, ex, un, pL, pC, pQ, st, ow, gt, gv, lm, lf, fi, pd, bk, ho, rL, rO, rC, rE, di, po, pa) (nI t) := by
  refine ⟨bf_O (di_c gt gv lm) (di_v gt lm) (ar_N gv) L 5 (1, upd (in_A 1000000000 5 di) t 0), ?_, ?_⟩
  · have hi : (1000000000 : Int32).toInt = 1000000000 := by decide
    have h0 : bf_t (upd (in_A 1000000000 5 di) t 0) t = 0 := by
      show (upd (in_A 1000000000 5 di) t 0 t).toInt = 0
      rw [pk_us]; decide
    have h1 : ∀ v, v < 5 → v ≠ t → bf_t (upd (in_A 1000000000 5 di) t 0) v = 1000000000 := by
      intro v hv hvt
      show (upd (in_A 1000000000 5 di) t 0 v).toInt = 1000000000
      rw [pk_un hvt, in_at _ _ 5 v hv]; exact hi
    have hw : ∀ e, e ∈ L → -8000 ≤ wk_w (ar_c lm) e ∧ wk_w (ar_c lm) e ≤ 8000 := by
      intro e he
      have := (hg.1 e he).2.2
      unfold wk_w
      omega
    have hU : bf_U (ar_N gv) (ar_N gt) (wk_w (ar_c lm)) L (fun s => s = t) 0 (bf_t (upd (in_A 1000000000 5 di) t 0)) := by
      intro p v s hv hp hs hl
      cases p with
      | nil =>
        have : v = s := hp
        subst this
        have : v = t := hs
        subst this
        rw [h0]
        exact Int.le_refl _
      | cons e p => simp at hl
    have hI : bf_I (ar_N gv) (ar_N gt) (wk_w (ar_c lm)) L (fun s => s = t) 1000000000 (bf_t (upd (in_A 1000000000 5 di) t 0)) := by
      intro v hv
      by_cases hvt : v = t
      · subst hvt
        rw [h0]
        exact ⟨by decide, Or.inr ⟨[], v, rfl, rfl, rfl⟩⟩
      · rw [h1 v hv hvt]
        exact ⟨Int.le_refl _, Or.inl rfl⟩
    have := bf_O_ok (T := fun s => s = t) (fun e he => ⟨(hg.1 e he).1, (hg.1 e he).2.1⟩) hw (fun a e he I => di_st hg a e he I) 5 0 (1, upd (in_A 1000000000 5 di) t 0) rfl hU (fun h => absurd h (show ¬ (1 : Int32) = 0 by decide)) hI
    exact ds_of hg this.1 this.2
  · intro post hp
    refine Exists.intro 6 (xm_c 5 0 6 rfl (by decide) ?_)
    intro k
    have hil : (nI t).toNatClampNeg = t := nI_clamp (by omega)
    refine br_t (nI_le (a := 5) (b := 5) (by omega) (by decide)) ⟨vp_in_nI ht (by decide), ?_⟩
    rw [hil]
    exact nm_e (Exists.intro 6 (xm_o hL hb hN 5 0 1 _ 6 rfl (by decide) hp))
end
end
section
/-- the edge begins a best chain, as the program asks it -/
def to_t (gt gv lm di : Nat → Int32) (v x : Nat) : Prop := gv x = nI v ∧ di (ar_N gt x) ≠ 1000000000 ∧ di (ar_N gt x) + (1 - 8 * lm x) = di v
/-- the lots of a chain -/
def lo_I (lf : Nat → Int32) : Int32 → List Nat → Int32
  | q, [] => q
  | q, e :: P => lo_I lf (if q ≤ lf e then q else lf e) P
/-- its cost -/
def cs_I (lm : Nat → Int32) : Int32 → List Nat → Int32
  | q, [] => q
  | q, e :: P => cs_I lm (q - lm e) P
theorem cs_of (lm : Nat → Int32) : ∀ (P : List Nat) (z : Int), cs_I lm (Int32.ofInt z) P = Int32.ofInt (z + wk_S (ar_c lm) P) := by
  intro P
  induction P with
  | nil => intro z; simp only [cs_I, wk_S, Int.add_zero]
  | cons e P ih =>
    intro z
    have e1 : Int32.ofInt z - lm e = Int32.ofInt (z + ar_c lm e) := by
      unfold ar_c
      rw [Int32.ofInt_add, Int32.ofInt_neg, Int32.ofInt_toInt, Int32.sub_eq_add_neg]
    simp only [cs_I, wk_S]
    rw [e1, ih, Int.add_assoc]
theorem cs_0 (lm : Nat → Int32) (P : List Nat) : cs_I lm 0 P = Int32.ofInt (wk_S (ar_c lm) P) := by
  have := cs_of lm P 0
  rw [Int.zero_add] at this
  exact this
/-- the writes of a chain into the path -/
def wr_P : (Nat → Int32) → Nat → List Nat → (Nat → Int32)
  | a, _, [] => a
  | a, j, e :: P => wr_P (upd a j (nI e)) (j + 1) P
theorem wr_hd : ∀ (P : List Nat) (j : Nat) (a : Nat → Int32), hd_a (wr_P a j P) j P ∧ ∀ i, i < j → wr_P a j P i = a i := by
  intro P
  induction P with
  | nil => intro j a; exact ⟨trivial, fun _ _ => rfl⟩
  | cons e P ih =>
    intro j a
    have h := ih (j + 1) (upd a j (nI e))
    exact ⟨⟨(h.2 j (by omega)).trans pk_us, h.1⟩, fun i hi => (h.2 i (by omega)).trans (pk_un (by omega))⟩
section
variable {cp el ac pl ca ck m n ex un pL pC pQ : Int32} {st ow gt gv lm lf fi pd bk ho rL rO rC rE di po pa : Nat → Int32}
theorem to_iff {L : List Nat} {t v x : Nat} (hL : ∀ e, e ∈ L → en_ok gt gv lm e) (hg : gr_ok (ar_N gv) (ar_N gt) (ar_c lm) L) (hd : ds_ok (ar_N gv) (ar_N gt) (ar_c lm) L t (bf_t di))
    (hv : v < 5) (hx : x ∈ L) : to_t gt gv lm di v x ↔ tr_t (ar_N gv) (ar_N gt) (ar_c lm) (bf_t di) v x := by
  obtain ⟨he1, he2, hgx, hvx, hc⟩ := hL x hx
  have hi : (1000000000 : Int32).toInt = 1000000000 := by decide
  have hb := hd.1 (ar_N gt x) hgx.2
  have hlo : -1000000 ≤ bf_t di (ar_N gt x) := by
    cases hb.2 with
    | inl z => omega
    | inr z =>
      obtain ⟨p, k1, k3⟩ := z
      have := gr_lo hg hgx.2 k1
      rw [wk_Sw] at k3
      omega
  have hw : (di (ar_N gt x) + (1 - 8 * lm x)).toInt = bf_t di (ar_N gt x) + wk_w (ar_c lm) x := di_w hc.1 hc.2 hlo hb.1
  have e1 : gv x = nI v ↔ ar_N gv x = v := by
    rw [hvx.1, nI_eq (by omega) (by omega)]
  have e2 : di (ar_N gt x) ≠ 1000000000 ↔ bf_t di (ar_N gt x) ≠ 1000000000 := by
    constructor
    · intro h z; exact h (Int32.toInt_inj.mp (by rw [hi]; exact z))
    · intro h z; exact h (by show (di (ar_N gt x)).toInt = _; rw [z]; exact hi)
  have e3 : di (ar_N gt x) + (1 - 8 * lm x) = di v ↔ bf_t di (ar_N gt x) + wk_w (ar_c lm) x = bf_t di v := by
    rw [← hw, ← Int32.toInt_inj]
    exact Iff.rfl
  unfold to_t tr_t
  rw [e1, e2, e3]
/-- oldestTight: its loop -/
theorem xo_l {post : Int32 → Prop} {N v e : Nat} {l2 : List Nat} (hN : N ≤ 24) (hv : v < 5) (ht : to_t gt gv lm di v e) (hp : post (nI e)) : ∀ (l1 : List Nat) (i k : Nat),
    (∀ x, x ∈ l1 ++ e :: l2 → en_ok gt gv lm x) → hd_a bk i (l1 ++ e :: l2) → i + (l1 ++ e :: l2).length = N → l1.length < k → (∀ x, x ∈ l1 → ¬ to_t gt gv lm di v x) →
    wX_oldestTight_2 post (nI v) cp el ac pl ca ck m (nI N) ex un pL pC pQ st ow gt gv lm lf fi pd bk ho rL rO rC rE di po pa k (nI i) := by
  intro l1
  induction l1 with
  | nil =>
    intro i k hen hb hi hk _
    cases k with
    | zero => exact absurd hk (Nat.not_lt_zero _)
    | succ k =>
      rw [List.nil_append] at hen hb hi
      rw [List.length_cons] at hi
      obtain ⟨he1, he2, hg, hv', hc⟩ := hen e List.mem_cons_self
      have hcl : (nI e).toNatClampNeg = e := nI_clamp (by omega)
      have hvl : (nI v).toNatClampNeg = v := nI_clamp (by omega)
      have hil : (nI i).toNatClampNeg = i := nI_clamp (by omega)
      have he : vp_in (nI e) 201 := vp_in_nI (by omega) (by omega)
      have hgi : vp_in (gt e) 5 := by rw [hg.1]; exact vp_in_nI hg.2 (by omega)
      refine br_f (nI_ge (by omega) (by omega)) ⟨vp_in_nI (by omega) (by omega), nm_r (e' := nI e) (by rw [hil]; exact hb.1) ?_⟩
      rw [hcl]
      refine ⟨he, br_t ht.1 ⟨he, hgi, nm_e (And.intro he (nm_e ?_))⟩⟩
      rw [hcl, hvl]
      exact br_f ht.2.1 ⟨vp_in_nI hv (by decide), br_t ht.2.2 hp⟩
  | cons x l1 ih =>
    intro i k hen hb hi hk hn
    cases k with
    | zero => exact absurd hk (Nat.not_lt_zero _)
    | succ k =>
      rw [List.cons_append] at hen hb hi
      rw [List.length_cons] at hi hk
      obtain ⟨he1, he2, hg, hv', hc⟩ := hen x List.mem_cons_self
      have hcl : (nI x).toNatClampNeg = x := nI_clamp (by omega)
      have hvl : (nI v).toNatClampNeg = v := nI_clamp (by omega)
      have hil : (nI i).toNatClampNeg = i := nI_clamp (by omega)
      have he : vp_in (nI x) 201 := vp_in_nI (by omega) (by omega)
      have hgi : vp_in (gt x) 5 := by rw [hg.1]; exact vp_in_nI hg.2 (by omega)
      have hr := ih (i + 1) k (fun y hy => hen y (List.mem_cons_of_mem _ hy)) hb.2 (by omega) (by omega) (fun y hy => hn y (List.mem_cons_of_mem _ hy))
      have hx := hn x List.mem_cons_self
      refine br_f (nI_ge (by omega) (by omega)) ⟨vp_in_nI (by omega) (by omega), nm_r (e' := nI x) (by rw [hil]; exact hb.1) ?_⟩
      rw [hcl]
      by_cases h1 : gv x = nI v
      · refine ⟨he, br_t h1 ⟨he, hgi, nm_e (And.intro he (nm_e ?_))⟩⟩
        rw [hcl, hvl]
        by_cases h2 : di (ar_N gt x) = 1000000000
        · exact br_t h2 (nm_r (nI_1 i) hr)
        · exact br_f h2 ⟨vp_in_nI hv (by decide), br_f (fun h3 => hx ⟨h1, h2, h3⟩) (nm_r (nI_1 i) hr)⟩
      · exact ⟨he, br_f h1 (nm_r (nI_1 i) hr)⟩
/-- tracePath: its loop, along the traced chain -/
theorem xt_l {L : List Nat} {t : Nat} (ht : t < 5) (hL : ∀ e, e ∈ L → en_ok gt gv lm e) (hb : hd_a bk 0 L) (hN : L.length ≤ 24) (hg : gr_ok (ar_N gv) (ar_N gt) (ar_c lm) L)
    (hd : ds_ok (ar_N gv) (ar_N gt) (ar_c lm) L t (bf_t di)) {post : Int32 → SX → Prop} : ∀ (P : List Nat) (v j k : Nat) (pC pQ : Int32) (pa : Nat → Int32),
    tr_P (ar_N gv) (ar_N gt) (ar_c lm) L t (bf_t di) P v → v < 5 → j + P.length ≤ 4 → P.length < k →
    post 1 (cp, el, ac, pl, ca, ck, m, nI L.length, ex, un, nI (j + P.length), cs_I lm pC P, lo_I lf pQ P, st, ow, gt, gv, lm, lf, fi, pd, bk, ho, rL, rO, rC, rE, di, po, wr_P pa j P) →
    wX_tracePath_16 post (nI t) cp el ac pl ca ck m (nI L.length) ex un k (nI v) (nI j) (nI j) pC pQ st ow gt gv lm lf fi pd bk ho rL rO rC rE di po pa := by
  intro P
  induction P with
  | nil =>
    intro v j k pC pQ pa htr hv hj hk hp
    cases k with
    | zero => exact absurd hk (Nat.not_lt_zero _)
    | succ k =>
      have hvt : v = t := htr
      subst hvt
      exact br_c (fun _ => br_t rfl hp) (fun _ => br_t rfl (br_t rfl hp))
  | cons e P ih =>
    intro v j k pC pQ pa htr hv hj hk hp
    cases k with
    | zero => exact absurd hk (Nat.not_lt_zero _)
    | succ k =>
      rw [List.length_cons] at hj hk
      obtain ⟨hvt, ⟨l1, l2, hLe, hte, hn⟩, htr'⟩ := htr
      have heL : e ∈ L := by rw [hLe]; simp
      obtain ⟨he1, he2, hge, hve, hc⟩ := hL e heL
      have hcl : (nI e).toNatClampNeg = e := nI_clamp (by omega)
      have hjl : (nI j).toNatClampNeg = j := nI_clamp (by omega)
      have he : vp_in (nI e) 201 := vp_in_nI (by omega) (by omega)
      refine br_f (nI_ge (b := 4) (by omega) (by decide)) (br_f (fun z => hvt ((nI_eq (by omega) (by omega)).mp z)) ?_)
      have hto : to_t gt gv lm di v e := (to_iff hL hg hd hv heL).mpr hte
      refine Exists.intro (l1.length + 1) (xo_l (e := e) (l2 := l2) hN hv hto ?_ l1 0 (l1.length + 1) (by rw [← hLe]; exact hL) (by rw [← hLe]; exact hb) (by rw [← hLe]; omega) (by omega) ?_)
      · refine br_f (nI_ne0 (by omega) (by omega)) ⟨vp_in_nI (by omega) (by decide), ?_⟩
        rw [hcl, hjl]
        have hr : ∀ q, q = (if pQ ≤ lf e then pQ else lf e) → wX_tracePath_16 post (nI t) cp el ac pl ca ck m (nI L.length) ex un k (gt e) (nI (j + 1)) (nI (j + 1)) (pC - lm e) q st ow gt gv lm lf fi pd bk ho rL rO rC rE di po (upd pa j (nI e)) := by
          intro q hq
          rw [hge.1]
          refine ih (ar_N gt e) (j + 1) k _ _ _ htr' hge.2 (by omega) (by omega) ?_
          rw [List.length_cons] at hp
          have e4 : j + (P.length + 1) = j + 1 + P.length := by omega
          rw [e4] at hp
          rw [hq]
          exact hp
        by_cases hq : pQ ≤ lf e
        · exact nm_e (nm_r (nI_1 j) ⟨he, nm_e ⟨he, br_t hq ⟨he, nm_e (nm_r (nI_1 j) (hr _ (if_pos hq).symm))⟩⟩⟩)
        · exact nm_e (nm_r (nI_1 j) ⟨he, nm_e ⟨he, br_f hq ⟨he, nm_e ⟨he, nm_e (nm_r (nI_1 j) (hr _ (if_neg hq).symm))⟩⟩⟩⟩)
      · intro x hx z
        exact hn x hx ((to_iff hL hg hd hv (by rw [hLe]; exact List.mem_append_left _ hx)).mp z)
end
/-- what the best chain P from x to y is -/
def fb_ok (V G : Nat → Nat) (c : Nat → Int) (L : List Nat) (x y : Nat) (P : List Nat) : Prop :=
  (P = [] ∧ ∀ q, ¬ wk_W V G L q x y) ∨ (P ≠ [] ∧ P.length ≤ 4 ∧ wk_W V G L P x y ∧ wk_N G P x ∧ ∀ q, wk_W V G L q x y → wk_S (wk_w c) P ≤ wk_S (wk_w c) q)
section
variable {cp el ac pl ca ck m n ex un pL pC pQ : Int32} {st ow gt gv lm lf fi pd bk ho rL rO rC rE di po pa : Nat → Int32}
/-- findBest finds what the reference's search finds -/
theorem xf_ok {L : List Nat} {x y : Nat} (hx : x < 5) (hy : y < 5) (hxy : x ≠ y) (hL : ∀ e, e ∈ L → en_ok gt gv lm e) (hb : hd_a bk 0 L) (hN : L.length ≤ 24) (hg : gr_ok (ar_N gv) (ar_N gt) (ar_c lm) L) :
    fb_ok (ar_N gv) (ar_N gt) (ar_c lm) L x y (df_B (ar_N gv) (ar_N gt) (ar_c lm) L x y).1 ∧
    ∃ (r pL' pC' pQ' : Int32) (di' pa' : Nat → Int32), (∀ post : Int32 → SX → Prop, post r (cp, el, ac, pl, ca, ck, m, nI L.length, ex, un, pL', pC', pQ', st, ow, gt, gv, lm, lf, fi, pd, bk, ho, rL, rO, rC, rE, di', po, pa') → wpX_findBest post (cp, el, ac, pl, ca, ck, m, nI L.length, ex, un, pL, pC, pQ, st, ow, gt, gv, lm, lf, fi, pd, bk, ho, rL, rO, rC, rE, di, po, pa) (nI x) (nI y)) ∧
      (((df_B (ar_N gv) (ar_N gt) (ar_c lm) L x y).1 = [] ∧ r = 0) ∨
       ((df_B (ar_N gv) (ar_N gt) (ar_c lm) L x y).1 ≠ [] ∧ r = 1 ∧ pL' = nI (df_B (ar_N gv) (ar_N gt) (ar_c lm) L x y).1.length ∧
         pC' = Int32.ofInt (wk_S (ar_c lm) (df_B (ar_N gv) (ar_N gt) (ar_c lm) L x y).1) ∧ pQ' = lo_I lf 99 (df_B (ar_N gv) (ar_N gt) (ar_c lm) L x y).1 ∧
         hd_a pa' 0 (df_B (ar_N gv) (ar_N gt) (ar_c lm) L x y).1)) := by
  obtain ⟨a, hd, hm⟩ := xm_d (cp := cp) (el := el) (ac := ac) (pl := pl) (ca := ca) (ck := ck) (m := m) (ex := ex) (un := un) (pL := 0) (pC := pC) (pQ := pQ) (st := st) (ow := ow) (lf := lf) (fi := fi) (pd := pd) (ho := ho) (rL := rL) (rO := rO) (rC := rC) (rE := rE) (di := di) (po := po) (pa := pa) hy hL hb hN hg
  have hxl : (nI x).toNatClampNeg = x := nI_clamp (by omega)
  have hi : (1000000000 : Int32).toInt = 1000000000 := by decide
  by_cases hf : a x = 1000000000
  · have hf' : bf_t a x = 1000000000 := by show (a x).toInt = _; rw [hf]; exact hi
    have hP := df_none hg hd hx hf'
    refine ⟨Or.inl ⟨hP, fun q hq => ds_fin hg hd hx hq hf'⟩, 0, 0, pC, pQ, a, pa, ?_, Or.inl ⟨hP, rfl⟩⟩
    intro post hp
    refine hm _ (And.intro (vp_in_nI hx (by decide)) ?_)
    rw [hxl]
    exact br_t hf hp
  · have hf' : bf_t a x ≠ 1000000000 := by
      intro z
      exact hf (Int32.toInt_inj.mp (by rw [hi]; exact z))
    obtain ⟨q, q1, q2, q3⟩ := ds_q hg hd hx hf'
    obtain ⟨P, t1, t2, t3, t4⟩ := tr_ex hg hd q.length x hx hf' ⟨_, q3⟩ q2
    obtain ⟨hP, hB⟩ := df_some hg hd hx hxy t1 t3 t4 (by omega)
    rw [hB]
    refine ⟨Or.inr ⟨hP, by omega, t3, tr_N hg hd hx t3 t4, fun q hq => by rw [← t4]; exact hd.2 q x hx hq⟩, 1, nI P.length, Int32.ofInt (wk_S (ar_c lm) P), lo_I lf 99 P, a, wr_P pa 0 P, ?_, Or.inr ⟨hP, rfl, rfl, rfl, rfl, (wr_hd P 0 pa).1⟩⟩
    intro post hp
    refine hm _ (And.intro (vp_in_nI hx (by decide)) ?_)
    rw [hxl]
    refine br_f hf (Exists.intro (P.length + 1) (xt_l hy hL hb hN hg hd P x 0 (P.length + 1) 0 99 pa t1 hx (by omega) (by omega) ?_))
    rw [cs_0, Nat.zero_add]
    exact And.intro (nb_01 (Or.inr rfl)) hp
end
end
section
def po_k (gt gv lm : Nat → Int32) : Int32 × (Nat → Int32) → Nat → Int32 × (Nat → Int32) := bf_k (po_c gt gv lm) (po_v gv lm) (ar_N gt)
section
variable {cp el ac pl ca ck m n ex un pL pC pQ : Int32} {st ow gt gv lm lf fi pd bk ho rL rO rC rE di po pa : Nat → Int32}
/-- relaxPotentials: its loop -/
theorem xp_l {post : Int32 → SX → Prop} {N : Nat} (hN : N ≤ 24) : ∀ (l : List Nat) (i : Nat) (a : Nat → Int32) (f : Int32) (k : Nat),
    (∀ e, e ∈ l → en_ok gt gv lm e) → hd_a bk i l → i + l.length = N → l.length < k → (f = 0 ∨ f = 1) →
    post (l.foldl (po_k gt gv lm) (f, a)).1 (cp, el, ac, pl, ca, ck, m, nI N, ex, un, pL, pC, pQ, st, ow, gt, gv, lm, lf, fi, pd, bk, ho, rL, rO, rC, rE, di, (l.foldl (po_k gt gv lm) (f, a)).2, pa) →
    wX_relaxPotentials_4 post cp el ac pl ca ck m (nI N) ex un pL pC pQ k f (nI i) st ow gt gv lm lf fi pd bk ho rL rO rC rE di a pa := by
  intro l
  induction l with
  | nil =>
    intro i a f k _ _ hi hk hf hp
    cases k with
    | zero => exact absurd hk (Nat.not_lt_zero _)
    | succ k => exact br_t (nI_le (by rw [List.length_nil] at hi; omega) (by rw [List.length_nil] at hi; omega)) ⟨nb_01 hf, hp⟩
  | cons e l ih =>
    intro i a f k hen hb hi hk hf hp
    cases k with
    | zero => exact absurd hk (Nat.not_lt_zero _)
    | succ k =>
      rw [List.length_cons] at hi hk
      obtain ⟨he1, he2, hg, hv, hc⟩ := hen e List.mem_cons_self
      have hcl : (nI e).toNatClampNeg = e := nI_clamp (by omega)
      have hil : (nI i).toNatClampNeg = i := nI_clamp (by omega)
      have he : vp_in (nI e) 201 := vp_in_nI (by omega) (by omega)
      have hgi : vp_in (gt e) 5 := by rw [hg.1]; exact vp_in_nI hg.2 (by omega)
      have hvi : vp_in (gv e) 5 := by rw [hv.1]; exact vp_in_nI hv.2 (by omega)
      have hen' : ∀ x, x ∈ l → en_ok gt gv lm x := fun x hx => hen x (List.mem_cons_of_mem _ hx)
      refine br_f (nI_ge (by omega) (by omega)) ⟨vp_in_nI (by omega) (by omega), nm_r (e' := nI e) (by rw [hil]; exact hb.1) ?_⟩
      rw [hcl]
      refine ⟨he, hvi, he, nm_e ⟨he, hgi, ?_⟩⟩
      rw [List.foldl_cons] at hp
      by_cases h2 : a (ar_N gt e) ≤ (a (ar_N gv e) - 8 * lm e) - 1
      · have e1 : po_k gt gv lm (f, a) e = (f, a) := if_pos (by unfold po_c; simp [h2])
        rw [e1] at hp
        exact br_t h2 (nm_r (nI_1 i) (ih (i + 1) a f k hen' hb.2 (by omega) (by omega) hf hp))
      · have e1 : po_k gt gv lm (f, a) e = (1, upd a (ar_N gt e) (po_v gv lm a e)) := if_neg (by unfold po_c; simp [h2])
        rw [e1] at hp
        exact br_f h2 ⟨he, hgi, nm_e (nm_r (nI_1 i) (ih (i + 1) _ 1 k hen' hb.2 (by omega) (by omega) (Or.inr rfl) hp))⟩
/-- potential: its rounds -/
theorem xp_o {post : Int32 → SX → Prop} {L : List Nat} {y : Nat} (hy : y < 5) (hL : ∀ e, e ∈ L → en_ok gt gv lm e) (hb : hd_a bk 0 L) (hN : L.length ≤ 24) :
    ∀ (r j : Nat) (f : Int32) (a : Nat → Int32) (k : Nat), j + r = 5 → r < k →
    post (bf_O (po_c gt gv lm) (po_v gv lm) (ar_N gt) L r (f, a) y) (cp, el, ac, pl, ca, ck, m, nI L.length, ex, un, pL, pC, pQ, st, ow, gt, gv, lm, lf, fi, pd, bk, ho, rL, rO, rC, rE, di, bf_O (po_c gt gv lm) (po_v gv lm) (ar_N gt) L r (f, a), pa) →
    wX_potential_35 post (nI y) k f (nI j) cp el ac pl ca ck m (nI L.length) ex un pL pC pQ st ow gt gv lm lf fi pd bk ho rL rO rC rE di a pa := by
  have hyl : (nI y).toNatClampNeg = y := nI_clamp (by omega)
  have hyi : vp_in (nI y) 5 := vp_in_nI hy (by decide)
  intro r
  induction r with
  | zero =>
    intro j f a k hj hk hp
    cases k with
    | zero => exact absurd hk (Nat.not_lt_zero _)
    | succ k =>
      refine br_t (nI_le (a := 5) (by omega) (by omega)) ⟨hyi, ?_⟩
      rw [hyl]
      exact hp
  | succ r ih =>
    intro j f a k hj hk hp
    cases k with
    | zero => exact absurd hk (Nat.not_lt_zero _)
    | succ k =>
      refine br_f (nI_ge (b := 5) (by omega) (by decide)) ?_
      by_cases hf : f = 0
      · have e1 : bf_O (po_c gt gv lm) (po_v gv lm) (ar_N gt) L (r + 1) (f, a) = a := if_pos hf
        rw [e1] at hp
        refine br_t hf ⟨hyi, ?_⟩
        rw [hyl]
        exact hp
      · have e1 : bf_O (po_c gt gv lm) (po_v gv lm) (ar_N gt) L (r + 1) (f, a) = bf_O (po_c gt gv lm) (po_v gv lm) (ar_N gt) L r (L.foldl (po_k gt gv lm) (0, a)) := if_neg hf
        rw [e1] at hp
        refine br_f hf (Exists.intro (L.length + 1) (xp_l hN L 0 a 0 (L.length + 1) hL hb (by omega) (by omega) (Or.inl rfl) ?_))
        exact nm_r (nI_1 j) (ih (j + 1) _ _ k (by omega) (by omega) hp)
/-- potential: the clearing loop -/
theorem xp_c {post : Int32 → SX → Prop} {x1 : Int32} : ∀ (r j : Nat) (k : Nat), j + r = 5 → r < k →
    (∀ k, wX_potential_13 post x1 cp el ac pl ca ck m n ex un pL pC pQ (k + 1) (nI 5) st ow gt gv lm lf fi pd bk ho rL rO rC rE di (in_A 0 5 po) pa) →
    wX_potential_13 post x1 cp el ac pl ca ck m n ex un pL pC pQ k (nI j) st ow gt gv lm lf fi pd bk ho rL rO rC rE di (in_A 0 j po) pa := by
  intro r
  induction r with
  | zero =>
    intro j k hj hk hp
    have : j = 5 := by omega
    subst this
    cases k with
    | zero => exact absurd hk (Nat.not_lt_zero _)
    | succ k => exact hp k
  | succ r ih =>
    intro j k hj hk hp
    cases k with
    | zero => exact absurd hk (Nat.not_lt_zero _)
    | succ k =>
      have hil : (nI j).toNatClampNeg = j := nI_clamp (by omega)
      refine br_f (nI_ge (b := 5) (by omega) (by decide)) ⟨vp_in_nI (by omega) (by omega), ?_⟩
      rw [hil]
      exact nm_e (nm_r (nI_1 j) (ih (j + 1) k (by omega) (by omega) hp))
/-- potential, of a node -/
theorem xp_ok {L : List Nat} {y : Nat} (hy : y < 5) (hL : ∀ e, e ∈ L → en_ok gt gv lm e) (hb : hd_a bk 0 L) (hN : L.length ≤ 24) (hg : gr_ok (ar_N gv) (ar_N gt) (ar_c lm) L) :
    ∃ a, (a y).toInt = pt_Y (ar_N gv) (ar_N gt) (ar_c lm) L y 5 ∧ ∀ post : Int32 → SX → Prop, post (a y) (cp, el, ac, pl, ca, ck, m, nI L.length, ex, un, pL, pC, pQ, st, ow, gt, gv, lm, lf, fi, pd, bk, ho, rL, rO, rC, rE, di, a, pa) → wpX_potential post (cp, el, ac, pl, ca, ck, m, nI L.length, ex, un, pL, pC, pQ, st, ow, gt, gv, lm, lf, fi, pd, bk, ho, rL, rO, rC, rE, di, po, pa) (nI y) := by
  refine ⟨bf_O (po_c gt gv lm) (po_v gv lm) (ar_N gt) L 5 (1, in_A 0 5 po), ?_, ?_⟩
  · have h0 : ∀ v, v < 5 → bf_t (in_A 0 5 po) v = 0 := by
      intro v hv
      show (in_A 0 5 po v).toInt = 0
      rw [in_at _ _ 5 v hv]; decide
    have hw : ∀ e, e ∈ L → -8000 ≤ wk_v (ar_c lm) e ∧ wk_v (ar_c lm) e ≤ 8000 := by
      intro e he
      have := (hg.1 e he).2.2
      unfold wk_v
      omega
    have hU : bf_U (ar_N gt) (ar_N gv) (wk_v (ar_c lm)) L (fun s => s < 5) 0 (bf_t (in_A 0 5 po)) := by
      intro p v s hv hp hs hl
      cases p with
      | nil => rw [h0 v hv]; exact Int.le_refl _
      | cons e p => simp at hl
    have hI : bf_I (ar_N gt) (ar_N gv) (wk_v (ar_c lm)) L (fun s => s < 5) 0 (bf_t (in_A 0 5 po)) := by
      intro v hv
      rw [h0 v hv]
      exact ⟨Int.le_refl _, Or.inr ⟨[], v, rfl, hv, rfl⟩⟩
    have := bf_O_ok (T := fun s => s < 5) (fun e he => ⟨(hg.1 e he).2.1, (hg.1 e he).1⟩) hw (fun a e he I => po_st hg a e he I) 5 0 (1, in_A 0 5 po) rfl hU (fun h => absurd h (show ¬ (1 : Int32) = 0 by decide)) hI
    exact pt_eq hg hy this.1 this.2
  · intro post hp
    refine br_f (nI_pos (by omega)) (br_f (nI_nlt (a := 4) (b := y) (by omega) (by decide)) (br_f (by decide) (Exists.intro 6 (xp_c 5 0 6 rfl (by decide) ?_))))
    intro k
    exact br_t (nI_le (a := 5) (b := 5) (by omega) (by decide)) (Exists.intro 6 (xp_o hy hL hb hN 5 0 1 _ 6 rfl (by decide) hp))
end
end
section
/-- the weight of a chain as the reference sums it -/
def ws_I (lm : Nat → Int32) : Int32 → List Nat → Int32
  | q, [] => q
  | q, e :: P => ws_I lm (q + ((-8) * lm e - 1)) P
theorem ws_of (lm : Nat → Int32) : ∀ (P : List Nat) (z : Int), ws_I lm (Int32.ofInt z) P = Int32.ofInt (z + wk_S (wk_v (ar_c lm)) P) := by
  intro P
  induction P with
  | nil => intro z; simp only [ws_I, wk_S, Int.add_zero]
  | cons e P ih =>
    intro z
    have e1 : Int32.ofInt z + ((-8) * lm e - 1) = Int32.ofInt (z + wk_v (ar_c lm) e) := by
      unfold wk_v ar_c
      have e2 : z + (8 * -(lm e).toInt - 1) = z + ((-8) * (lm e).toInt - 1) := by omega
      rw [e2, Int32.ofInt_add, Int32.ofInt_sub, Int32.ofInt_mul, Int32.ofInt_toInt]
      rfl
    simp only [ws_I, wk_S]
    rw [e1, ih, Int.add_assoc]
theorem ws_0 (lm : Nat → Int32) (P : List Nat) : ws_I lm 0 P = Int32.ofInt (wk_S (wk_v (ar_c lm)) P) := by
  have := ws_of lm P 0
  rw [Int.zero_add] at this
  exact this
theorem oi_T {z : Int} (h1 : -1000000 ≤ z) (h2 : z ≤ 1000000) : (Int32.ofInt z).toInt = z := Int32.toInt_ofInt_of_le (by omega) (by omega)
theorem oi_le {a b : Int} (h1 : -1000000 ≤ a) (h2 : a ≤ 1000000) (h3 : -1000000 ≤ b) (h4 : b ≤ 1000000) : Int32.ofInt a ≤ Int32.ofInt b ↔ a ≤ b := by
  rw [Int32.le_iff_toInt_le, oi_T h1 h2, oi_T h3 h4]
theorem oi_lt {a b : Int} (h1 : -1000000 ≤ a) (h2 : a ≤ 1000000) (h3 : -1000000 ≤ b) (h4 : b ≤ 1000000) : Int32.ofInt a < Int32.ofInt b ↔ a < b := by
  rw [Int32.lt_iff_toInt_lt, oi_T h1 h2, oi_T h3 h4]
theorem oi_eq {a b : Int} (h1 : -1000000 ≤ a) (h2 : a ≤ 1000000) (h3 : -1000000 ≤ b) (h4 : b ≤ 1000000) : Int32.ofInt a = Int32.ofInt b ↔ a = b := by
  rw [← Int32.toInt_inj, oi_T h1 h2, oi_T h3 h4]
/-- a found chain and a least weight are small -/
def ac_ok (c : Nat → Int) (b : List Nat × Int) : Prop := b.1.length ≤ 4 ∧ (-4000 ≤ wk_S c b.1 ∧ wk_S c b.1 ≤ 4000) ∧ (-40000 ≤ b.2 ∧ b.2 ≤ 40000)
theorem ac_ch {gt gv lm : Nat → Int32} {C : List Nat} (hC : ∀ e, e ∈ C → en_ok gt gv lm e) (hl : C.length ≤ 4) : (-4000 ≤ wk_S (ar_c lm) C ∧ wk_S (ar_c lm) C ≤ 4000) ∧ (-40000 ≤ wk_S (wk_v (ar_c lm)) C ∧ wk_S (wk_v (ar_c lm)) C ≤ 40000) := by
  have h1 := wk_S_bd (ar_c lm) C 999 (fun e he => (hC e he).2.2.2.2) C (fun _ h => h)
  rw [wk_Sv]
  omega
theorem ac_wg {gt gv lm : Nat → Int32} {C : List Nat} {b : List Nat × Int} (hC : ∀ e, e ∈ C → en_ok gt gv lm e) (hl : C.length ≤ 4) (hb : ac_ok (ar_c lm) b) : ac_ok (ar_c lm) (wg_f (ar_c lm) b C) := by
  have h1 := ac_ch hC hl
  unfold wg_f ac_ok
  refine ⟨?_, ?_, ?_⟩
  · dsimp only; split
    · exact hl
    · exact hb.1
  · dsimp only; split
    · exact h1.1
    · exact hb.2.1
  · dsimp only; split
    · exact h1.2
    · exact hb.2.2
section
variable {cp el ac pl ca ck m ex bL bC lW : Int32} {st ow gt gv lm lf fi pd rL rO rC rE yb nx yp be : Nat → Int32}
/-- weigh: the copy of the path -/
theorem yw_c {post : SY → Prop} {D : Nat} (hD : D ≤ 4) : ∀ (l p0 : List Nat) (k : Nat) (be : Nat → Int32), hd_a yp p0.length l → hd_a be 0 p0 → p0.length + l.length = D → l.length < k →
    (∀ be', hd_a be' 0 (p0 ++ l) → post (cp, el, ac, pl, ca, ck, m, ex, bL, bC, lW, st, ow, gt, gv, lm, lf, fi, pd, rL, rO, rC, rE, yb, nx, yp, be')) → wY_weigh_111 post (nI D) cp el ac pl ca ck m ex bL bC lW k (nI p0.length) st ow gt gv lm lf fi pd rL rO rC rE yb nx yp be := by
  intro l
  induction l with
  | nil =>
    intro p0 k be hb hc hi hk hp
    cases k with
    | zero => exact absurd hk (Nat.not_lt_zero _)
    | succ k =>
      rw [List.length_nil] at hi
      exact br_t (nI_le (by omega) (by omega)) (hp be (by rw [List.append_nil]; exact hc))
  | cons e l ih =>
    intro p0 k be hb hc hi hk hp
    cases k with
    | zero => exact absurd hk (Nat.not_lt_zero _)
    | succ k =>
      rw [List.length_cons] at hi hk
      have hil : (nI p0.length).toNatClampNeg = p0.length := nI_clamp (by omega)
      have hin : vp_in (nI p0.length) 4 := vp_in_nI (by omega) (by decide)
      refine br_f (nI_ge (by omega) (by omega)) ⟨hin, hin, ?_⟩
      rw [hil, hb.1]
      have e1 : (p0 ++ [e]).length = p0.length + 1 := by rw [List.length_append]; rfl
      have := ih (p0 ++ [e]) k (upd be p0.length (nI e)) (by rw [e1]; exact hb.2) (hd_snoc (Nat.zero_add _).symm hc) (by rw [e1]; omega) (by omega) (fun be' h => hp be' (by rw [List.append_assoc] at h; exact h))
      rw [e1] at this
      exact nm_e (nm_r (nI_1 _) this)
/-- weigh: the sums -/
theorem yw_s {post : SY → Prop} {D : Nat} (hD : D ≤ 4) : ∀ (l : List Nat) (i k : Nat) (x2 x3 : Int32), (∀ e, e ∈ l → en_ok gt gv lm e) → hd_a yp i l → i + l.length = D → l.length < k →
    (∀ k, wY_weigh_7 post (nI D) cp el ac pl ca ck m ex bL bC lW st ow gt gv lm lf fi pd rL rO rC rE yb nx yp be (k + 1) (cs_I lm x2 l) (ws_I lm x3 l) (nI D)) → wY_weigh_7 post (nI D) cp el ac pl ca ck m ex bL bC lW st ow gt gv lm lf fi pd rL rO rC rE yb nx yp be k x2 x3 (nI i) := by
  intro l
  induction l with
  | nil =>
    intro i k x2 x3 _ _ hi hk hp
    cases k with
    | zero => exact absurd hk (Nat.not_lt_zero _)
    | succ k =>
      rw [List.length_nil] at hi
      have : i = D := by omega
      subst this
      exact hp k
  | cons e l ih =>
    intro i k x2 x3 hen hb hi hk hp
    cases k with
    | zero => exact absurd hk (Nat.not_lt_zero _)
    | succ k =>
      rw [List.length_cons] at hi hk
      obtain ⟨he1, he2, hg, hv, hc⟩ := hen e List.mem_cons_self
      have hcl : (nI e).toNatClampNeg = e := nI_clamp (by omega)
      have hil : (nI i).toNatClampNeg = i := nI_clamp (by omega)
      have he : vp_in (nI e) 201 := vp_in_nI (by omega) (by omega)
      have hin : vp_in (nI i) 4 := vp_in_nI (by omega) (by decide)
      refine br_f (nI_ge (by omega) (by omega)) ⟨hin, ?_⟩
      rw [hil, hb.1, hcl]
      exact ⟨he, nm_e ⟨hin, he, nm_e (nm_r (nI_1 i) (ih (i + 1) k _ _ (fun y hy => hen y (List.mem_cons_of_mem _ hy)) hb.2 (by omega) (by omega) hp))⟩⟩
/-- weigh -/
theorem yw_ok {post : SY → Prop} {C : List Nat} {b : List Nat × Int} (hC : ∀ e, e ∈ C → en_ok gt gv lm e) (hl : C.length ≤ 4) (hyp : hd_a yp 0 C) (hbe : hd_a be 0 b.1) (hb : ac_ok (ar_c lm) b)
    (hp : ∀ be', hd_a be' 0 (wg_f (ar_c lm) b C).1 → post (cp, el, ac, pl, ca, ck, m, ex, nI (wg_f (ar_c lm) b C).1.length, Int32.ofInt (wk_S (ar_c lm) (wg_f (ar_c lm) b C).1), Int32.ofInt (wg_f (ar_c lm) b C).2, st, ow, gt, gv, lm, lf, fi, pd, rL, rO, rC, rE, yb, nx, yp, be')) :
    wpY_weigh post (cp, el, ac, pl, ca, ck, m, ex, nI b.1.length, Int32.ofInt (wk_S (ar_c lm) b.1), Int32.ofInt b.2, st, ow, gt, gv, lm, lf, fi, pd, rL, rO, rC, rE, yb, nx, yp, be) (nI C.length) := by
  have h1 := ac_ch hC hl
  obtain ⟨hb1, hb2, hb3⟩ := hb
  have e0 : (0 : Int32) = nI 0 := rfl
  refine Exists.intro (C.length + 1) (yw_s hl C 0 (C.length + 1) 0 0 hC hyp (by omega) (by omega) ?_)
  intro k
  rw [cs_0, ws_0]
  refine br_t (nI_le (by omega) (by omega)) ?_
  have key : ∀ lW', lW' = Int32.ofInt (wg_f (ar_c lm) b C).2 → wY_weigh_67 post (nI C.length) (Int32.ofInt (wk_S (ar_c lm) C)) cp el ac pl ca ck m ex (nI b.1.length) (Int32.ofInt (wk_S (ar_c lm) b.1)) lW' st ow gt gv lm lf fi pd rL rO rC rE yb nx yp be := by
    intro lW' hlW
    subst hlW
    by_cases hc : b.1 = [] ∨ wk_S (ar_c lm) C < wk_S (ar_c lm) b.1 ∨ (wk_S (ar_c lm) C = wk_S (ar_c lm) b.1 ∧ C.length < b.1.length)
    · have e1 : (wg_f (ar_c lm) b C).1 = C := if_pos hc
      have hcopy : wY_weigh_98 post (nI C.length) (Int32.ofInt (wk_S (ar_c lm) C)) cp el ac pl ca ck m ex (nI b.1.length) (Int32.ofInt (wk_S (ar_c lm) b.1)) (Int32.ofInt (wg_f (ar_c lm) b C).2) st ow gt gv lm lf fi pd rL rO rC rE yb nx yp be := by
        refine Exists.intro (C.length + 1) (yw_c hl C [] (C.length + 1) be hyp trivial (by simp) (by omega) ?_)
        intro be' h
        rw [List.nil_append] at h
        rw [e1] at hp
        exact hp be' h
      by_cases h0 : b.1 = []
      · exact br_t (by rw [h0]; rfl) hcopy
      · have hb0 : 0 < b.1.length := List.length_pos_iff.mpr h0
        refine br_f (nI_ne0 hb0 (by omega)) ?_
        by_cases h2 : wk_S (ar_c lm) C < wk_S (ar_c lm) b.1
        · exact br_t ((oi_lt (by omega) (by omega) (by omega) (by omega)).mpr h2) hcopy
        · refine br_f (fun z => h2 ((oi_lt (by omega) (by omega) (by omega) (by omega)).mp z)) ?_
          have h3 : wk_S (ar_c lm) C = wk_S (ar_c lm) b.1 ∧ C.length < b.1.length := by
            cases hc with
            | inl z => exact absurd z h0
            | inr z =>
              cases z with
              | inl z => exact absurd z h2
              | inr z => exact z
          exact br_t (by rw [h3.1]) (br_f (nI_ge h3.2 (by omega)) hcopy)
    · have e1 : (wg_f (ar_c lm) b C).1 = b.1 := if_neg hc
      have hkeep := hp be (by rw [e1]; exact hbe)
      rw [e1] at hkeep
      have h0 : b.1 ≠ [] := fun z => hc (Or.inl z)
      have hb0 : 0 < b.1.length := List.length_pos_iff.mpr h0
      have h2 : ¬ wk_S (ar_c lm) C < wk_S (ar_c lm) b.1 := fun z => hc (Or.inr (Or.inl z))
      refine br_f (nI_ne0 hb0 (by omega)) (br_f (fun z => h2 ((oi_lt (by omega) (by omega) (by omega) (by omega)).mp z)) ?_)
      by_cases h3 : wk_S (ar_c lm) C = wk_S (ar_c lm) b.1
      · have h4 : ¬ C.length < b.1.length := fun z => hc (Or.inr (Or.inr ⟨h3, z⟩))
        exact br_t (by rw [h3]) (br_t (nI_le (by omega) (by omega)) hkeep)
      · exact br_f (fun z => h3 ((oi_eq (by omega) (by omega) (by omega) (by omega)).mp z)) hkeep
  by_cases h5 : wk_S (wk_v (ar_c lm)) C < b.2
  · exact br_f (fun z => absurd ((oi_le (by omega) (by omega) (by omega) (by omega)).mp z) (by omega)) (key _ (by rw [show (wg_f (ar_c lm) b C).2 = wk_S (wk_v (ar_c lm)) C from if_pos h5]))
  · exact br_t ((oi_le (by omega) (by omega) (by omega) (by omega)).mpr (by omega)) (key _ (by rw [show (wg_f (ar_c lm) b C).2 = b.2 from if_neg h5]))
/-- canFollow: its loop -/
theorem yc_l {post : Int32 → Prop} {D e : Nat} (hD : D ≤ 4) (he : en_ok gt gv lm e) : ∀ (l : List Nat) (i k : Nat), (∀ x, x ∈ l → en_ok gt gv lm x) → hd_a yp i l → i + l.length = D → l.length < k →
    ((∀ x, x ∈ l → ar_N gt x ≠ ar_N gt e) → post 1) → (¬ (∀ x, x ∈ l → ar_N gt x ≠ ar_N gt e) → post 0) →
    wY_canFollow_49 post (nI e) (nI D) cp el ac pl ca ck m ex bL bC lW st ow gt gv lm lf fi pd rL rO rC rE yb nx yp be k (nI i) := by
  intro l
  induction l with
  | nil =>
    intro i k _ _ hi hk h1 h0
    cases k with
    | zero => exact absurd hk (Nat.not_lt_zero _)
    | succ k =>
      rw [List.length_nil] at hi
      exact br_t (nI_le (by omega) (by omega)) (h1 (fun x hx => by cases hx))
  | cons x l ih =>
    intro i k hen hb hi hk h1 h0
    cases k with
    | zero => exact absurd hk (Nat.not_lt_zero _)
    | succ k =>
      rw [List.length_cons] at hi hk
      obtain ⟨hx1, hx2, hxg, hxv, hxc⟩ := hen x List.mem_cons_self
      obtain ⟨he1, he2, hg, hv, hc⟩ := he
      have hcl : (nI e).toNatClampNeg = e := nI_clamp (by omega)
      have hcx : (nI x).toNatClampNeg = x := nI_clamp (by omega)
      have hil : (nI i).toNatClampNeg = i := nI_clamp (by omega)
      refine br_f (nI_ge (by omega) (by omega)) ⟨vp_in_nI (by omega) (by decide), ?_⟩
      rw [hil, hb.1, hcx, hcl]
      refine ⟨vp_in_nI (by omega) (by decide), vp_in_nI (by omega) (by decide), ?_⟩
      by_cases hq : ar_N gt x = ar_N gt e
      · refine br_t (by rw [hxg.1, hg.1, hq]) (h0 (fun z => z x List.mem_cons_self hq))
      · refine br_f (fun z => hq (by unfold ar_N; rw [z])) (nm_r (nI_1 i) ?_)
        refine ih (i + 1) k (fun y hy => hen y (List.mem_cons_of_mem _ hy)) hb.2 (by omega) (by omega) ?_ ?_
        · intro h
          refine h1 (fun y hy => ?_)
          cases hy with
          | head => exact hq
          | tail _ hy => exact h y hy
        · intro h
          exact h0 (fun z => h (fun y hy => z y (List.mem_cons_of_mem _ hy)))
/-- the node where the legs have come to -/
def yd_z (gt : Nat → Int32) (x : Nat) (pre : List Nat) (z : Nat) : Prop := (pre = [] ∧ z = x) ∨ ∃ p0 e, pre = p0 ++ [e] ∧ z = ar_N gt e
/-- canFollow -/
theorem yc_ok {post : Int32 → Prop} {e x z : Nat} {pre : List Nat} (hx : x < 5) (he : en_ok gt gv lm e) (hpre : ∀ i, i ∈ pre → en_ok gt gv lm i) (hyp : hd_a yp 0 pre) (hl : pre.length ≤ 3) (hz : yd_z gt x pre z)
    (h1 : (ar_N gv e = z ∧ ar_N gt e ≠ x ∧ (∀ i, i ∈ pre → ar_N gt i ≠ ar_N gt e)) → post 1) (h0 : ¬ (ar_N gv e = z ∧ ar_N gt e ≠ x ∧ (∀ i, i ∈ pre → ar_N gt i ≠ ar_N gt e)) → post 0) :
    wpY_canFollow post (cp, el, ac, pl, ca, ck, m, ex, bL, bC, lW, st, ow, gt, gv, lm, lf, fi, pd, rL, rO, rC, rE, yb, nx, yp, be) (nI e) (nI x) (nI pre.length) := by
  have he' := he
  obtain ⟨he1, he2, hg, hv, hc⟩ := he
  have hcl : (nI e).toNatClampNeg = e := nI_clamp (by omega)
  have hei : vp_in (nI e) 201 := vp_in_nI (by omega) (by decide)
  have key : ∀ z0, z0 = nI z → z < 5 → wY_canFollow_21 post (nI e) (nI x) (nI pre.length) z0 cp el ac pl ca ck m ex bL bC lW st ow gt gv lm lf fi pd rL rO rC rE yb nx yp be := by
    intro z0 hz0 hz5
    subst hz0
    refine ⟨hei, ?_⟩
    rw [hcl]
    by_cases hq : ar_N gv e = z
    · refine br_t (by rw [hv.1, hq]) ⟨hei, ?_⟩
      by_cases hq2 : ar_N gt e = x
      · exact br_t (by rw [hg.1, hq2]) (h0 (fun w => w.2.1 hq2))
      · refine br_f (fun w => hq2 ?_) (Exists.intro (pre.length + 1) (yc_l (by omega) he' pre 0 (pre.length + 1) hpre hyp (by omega) (by omega) (fun w => h1 ⟨hq, hq2, w⟩) (fun w => h0 (fun w2 => w w2.2.2))))
        rw [hg.1] at w
        exact (nI_eq (by omega) (by omega)).mp w
    · refine br_f (fun w => hq ?_) (h0 (fun w => hq w.1))
      rw [hv.1] at w
      exact (nI_eq (by omega) (by omega)).mp w
  cases hz with
  | inl hz =>
    obtain ⟨ha, hb⟩ := hz
    subst ha
    exact br_t rfl (key _ (by rw [hb]) (by omega))
  | inr hz =>
    obtain ⟨p0, e0, ha, hb⟩ := hz
    have hlen : pre.length = p0.length + 1 := by rw [ha, List.length_append]; rfl
    have hat : yp p0.length = nI e0 := by
      rw [ha] at hyp
      have := hd_at hyp
      rw [Nat.zero_add] at this
      exact this
    obtain ⟨hx1, hx2, hxg, hxv, hxc⟩ := hpre e0 (by rw [ha]; simp)
    have hc0 : (nI e0).toNatClampNeg = e0 := nI_clamp (by omega)
    have hp0 : nI pre.length - 1 = nI p0.length := by rw [hlen]; exact nI_pred _
    have hpl : (nI p0.length).toNatClampNeg = p0.length := nI_clamp (by omega)
    refine br_f (nI_ne0 (by omega) (by omega)) ?_
    rw [hp0, hpl, hat, hc0]
    exact ⟨vp_in_nI (by omega) (by decide), vp_in_nI (by omega) (by decide), key _ (by rw [hxg.1, hb]) (by rw [hb]; exact hxg.2)⟩
end
end
section
/-- a bound on the steps of a visit below a leg, f more legs allowed -/
def yd_T : Nat → Nat
  | 0 => 0
  | f + 1 => 24 * (1 + yd_T f) + 1
/-- the reference's state while it searches: what it has found is b -/
theorem ac_fold {gt gv lm : Nat → Int32} (l : List (List Nat)) : ∀ b, (∀ C, C ∈ l → C.length ≤ 4 ∧ ∀ e, e ∈ C → en_ok gt gv lm e) → ac_ok (ar_c lm) b → ac_ok (ar_c lm) (l.foldl (wg_f (ar_c lm)) b) := by
  induction l with
  | nil => intro b _ h; exact h
  | cons C l ih =>
    intro b hl h
    have hC := hl C List.mem_cons_self
    exact ih _ (fun D hD => hl D (List.mem_cons_of_mem _ hD)) (ac_wg hC.2 hC.1 h)
section
variable {cp el ac pl ca ck m ex bL bC lW : Int32} {st ow gt gv lm lf fi pd rL rO rC rE yb nx yp be : Nat → Int32}
theorem yw_q {post : SY → Prop} {C : List Nat} {b : List Nat × Int} {q : Int32} (hq : q = nI C.length) (hC : ∀ e, e ∈ C → en_ok gt gv lm e) (hl : C.length ≤ 4) (hyp : hd_a yp 0 C) (hbe : hd_a be 0 b.1) (hb : ac_ok (ar_c lm) b)
    (hp : ∀ be', hd_a be' 0 (wg_f (ar_c lm) b C).1 → post (cp, el, ac, pl, ca, ck, m, ex, nI (wg_f (ar_c lm) b C).1.length, Int32.ofInt (wk_S (ar_c lm) (wg_f (ar_c lm) b C).1), Int32.ofInt (wg_f (ar_c lm) b C).2, st, ow, gt, gv, lm, lf, fi, pd, rL, rO, rC, rE, yb, nx, yp, be')) :
    wpY_weigh post (cp, el, ac, pl, ca, ck, m, ex, nI b.1.length, Int32.ofInt (wk_S (ar_c lm) b.1), Int32.ofInt b.2, st, ow, gt, gv, lm, lf, fi, pd, rL, rO, rC, rE, yb, nx, yp, be) q := by
  subst hq
  exact yw_ok hC hl hyp hbe hb hp
theorem yd_v {post : SY → Prop} {x y : Nat} {L : List Nat} (hx : x < 5) (hy : y < 5) (hL : ∀ e, e ∈ L → en_ok gt gv lm e) (hN : L.length ≤ 24) (hyb : hd_a yb 0 L) : ∀ (f : Nat) (pre : List Nat) (z : Nat),
    f + pre.length = 3 → (∀ e, e ∈ pre → en_ok gt gv lm e) → yd_z gt x pre z → ∀ (l : List Nat) (i k s : Nat) (b : List Nat × Int) (nx yp be : Nat → Int32),
    (∀ e, e ∈ l → e ∈ L) → hd_a yb i l → i + l.length = L.length → hd_a yp 0 pre → nx pre.length = nI i → hd_a be 0 b.1 → ac_ok (ar_c lm) b →
    k + s = 400001 → s + l.length * (1 + yd_T f) + 1 ≤ 400000 →
    (∀ (k' s' : Nat) (nx' yp' be' : Nat → Int32), k' + s' = 400001 → s' ≤ s + l.length * (1 + yd_T f) + 1 → (∀ j, j < pre.length → nx' j = nx j) → (∀ j, j < pre.length → yp' j = yp j) →
      hd_a be' 0 ((df_g (ar_N gv) (ar_N gt) x y (df_D (ar_N gv) (ar_N gt) L x y f) z pre l).foldl (wg_f (ar_c lm)) b).1 →
      wY_search_76 post (nI x) (nI y) (nI L.length) k' (nI pre.length + (-1)) (nI s') cp el ac pl ca ck m ex (nI ((df_g (ar_N gv) (ar_N gt) x y (df_D (ar_N gv) (ar_N gt) L x y f) z pre l).foldl (wg_f (ar_c lm)) b).1.length) (Int32.ofInt (wk_S (ar_c lm) ((df_g (ar_N gv) (ar_N gt) x y (df_D (ar_N gv) (ar_N gt) L x y f) z pre l).foldl (wg_f (ar_c lm)) b).1)) (Int32.ofInt ((df_g (ar_N gv) (ar_N gt) x y (df_D (ar_N gv) (ar_N gt) L x y f) z pre l).foldl (wg_f (ar_c lm)) b).2) st ow gt gv lm lf fi pd rL rO rC rE yb nx' yp' be') →
    wY_search_76 post (nI x) (nI y) (nI L.length) k (nI pre.length) (nI s) cp el ac pl ca ck m ex (nI b.1.length) (Int32.ofInt (wk_S (ar_c lm) b.1)) (Int32.ofInt b.2) st ow gt gv lm lf fi pd rL rO rC rE yb nx yp be := by
  intro f
  induction f with
  | zero =>
    intro pre z hf hpre hz l
    have hd3 : pre.length = 3 := by omega
    have hdl : (nI pre.length).toNatClampNeg = pre.length := nI_clamp (by omega)
    have hdi : vp_in (nI pre.length) 4 := vp_in_nI (by omega) (by decide)
    induction l with
    | nil =>
      intro i k s b nx yp be hlL hb hi hyp hnx hbe hac hk hs hcont
      rw [List.length_nil] at hi hs
      cases k with
      | zero => exact absurd hk (by omega)
      | succ k =>
        refine br_f (nI_ge (b := 400000) (by omega) (by decide)) (br_f (nI_pos (by omega)) ⟨hdi, ?_⟩)
        rw [hdl, hnx]
        refine br_f (nI_nlt (by omega) (by omega)) (nm_e (nm_r (nI_1 s) ?_))
        exact hcont k (s + 1) nx yp be (by omega) (by omega) (fun _ _ => rfl) (fun _ _ => rfl) hbe
    | cons e l ih =>
      intro i k s b nx yp be hlL hb hi hyp hnx hbe hac hk hs hcont
      rw [List.length_cons] at hi
      rw [List.length_cons, Nat.succ_mul] at hs hcont
      have heL := hlL e List.mem_cons_self
      have hen := hL e heL
      obtain ⟨he1, he2, hg, hv, hc⟩ := hL e heL
      have hcl : (nI e).toNatClampNeg = e := nI_clamp (by omega)
      have hil : (nI i).toNatClampNeg = i := nI_clamp (by omega)
      have hei : vp_in (nI e) 201 := vp_in_nI (by omega) (by decide)
      cases k with
      | zero => exact absurd hk (by omega)
      | succ k =>
        refine br_f (nI_ge (b := 400000) (by omega) (by decide)) (br_f (nI_pos (by omega)) ⟨hdi, ?_⟩)
        rw [hdl, hnx, hil]
        refine br_t (nI_lt (by omega) (by omega)) ⟨hdi, vp_in_nI (by omega) (by decide), nm_r hb.1 ⟨hdi, hdi, nm_r (by rw [nI_1]) ?_⟩⟩
        have hnx1 : ∀ j, j < pre.length → upd nx pre.length (nI (i + 1)) j = nx j := fun j hj => pk_un (by omega)
        have hyp1 : ∀ j, j < pre.length → upd yp pre.length (nI e) j = yp j := fun j hj => pk_un (by omega)
        have hlL' : ∀ x, x ∈ l → x ∈ L := fun x hx => hlL x (List.mem_cons_of_mem _ hx)
        rw [df_cons] at hcont
        refine yc_ok hx hen hpre hyp (by omega) hz ?_ ?_
        · intro hcond
          rw [if_pos hcond] at hcont
          refine br_f (by decide) ⟨hdi, ?_⟩
          refine nm_e (br_f (by decide) ⟨hei, ?_⟩)
          rw [hcl]
          by_cases hgy : ar_N gt e = y
          · rw [if_pos hgy] at hcont
            refine br_t (by rw [hg.1, hgy]) ?_
            have hC : ∀ a, a ∈ pre ++ [e] → en_ok gt gv lm a := by
              intro a ha
              cases List.mem_append.mp ha with
              | inl h => exact hpre a h
              | inr h =>
                have : a = e := by simpa using h
                rw [this]; exact hen
            have hCl : (pre ++ [e]).length = pre.length + 1 := by rw [List.length_append]; rfl
            refine yw_q (C := pre ++ [e]) (b := b) (by rw [hCl, nI_1]) hC (by omega) (hd_snoc (Nat.zero_add _).symm hyp) hbe hac ?_
            · intro be' hbe'
              refine nm_r (nI_1 s) (ih (i + 1) k (s + 1) (wg_f (ar_c lm) b (pre ++ [e])) _ _ be' hlL' hb.2 (by omega) (hd_hi (by omega) hyp) pk_us hbe' (ac_wg hC (by omega) hac) (by omega) (by omega) ?_)
              intro k' s' nx' yp' be'' a1 a2 a3 a4 a5
              exact hcont k' s' nx' yp' be'' a1 (by omega) (fun j hj => (a3 j hj).trans (hnx1 j hj)) (fun j hj => (a4 j hj).trans (hyp1 j hj)) a5
          · rw [if_neg hgy] at hcont
            refine br_f (fun w => hgy (by rw [hg.1] at w; exact (nI_eq (by omega) (by omega)).mp w)) (br_f (by decide) ?_)
            refine br_t (nI_le (a := 3) (by omega) (by omega)) (nm_r (nI_1 s) ?_)
            refine ih (i + 1) k (s + 1) b _ _ be hlL' hb.2 (by omega) (hd_hi (by omega) hyp) pk_us hbe hac (by omega) (by omega) ?_
            intro k' s' nx' yp' be'' a1 a2 a3 a4 a5
            exact hcont k' s' nx' yp' be'' a1 (by omega) (fun j hj => (a3 j hj).trans (hnx1 j hj)) (fun j hj => (a4 j hj).trans (hyp1 j hj)) a5
        · intro hcond
          rw [if_neg hcond] at hcont
          refine br_t rfl (br_t rfl (br_t rfl (nm_r (nI_1 s) ?_)))
          refine ih (i + 1) k (s + 1) b _ _ be hlL' hb.2 (by omega) hyp pk_us hbe hac (by omega) (by omega) ?_
          intro k' s' nx' yp' be'' a1 a2 a3 a4 a5
          exact hcont k' s' nx' yp' be'' a1 (by omega) (fun j hj => (a3 j hj).trans (hnx1 j hj)) a4 a5
  | succ f ihf =>
    intro pre z hf hpre hz l
    have hdl : (nI pre.length).toNatClampNeg = pre.length := nI_clamp (by omega)
    have hdi : vp_in (nI pre.length) 4 := vp_in_nI (by omega) (by decide)
    induction l with
    | nil =>
      intro i k s b nx yp be hlL hb hi hyp hnx hbe hac hk hs hcont
      rw [List.length_nil] at hi hs
      cases k with
      | zero => exact absurd hk (by omega)
      | succ k =>
        refine br_f (nI_ge (b := 400000) (by omega) (by decide)) (br_f (nI_pos (by omega)) ⟨hdi, ?_⟩)
        rw [hdl, hnx]
        refine br_f (nI_nlt (by omega) (by omega)) (nm_e (nm_r (nI_1 s) ?_))
        exact hcont k (s + 1) nx yp be (by omega) (by omega) (fun _ _ => rfl) (fun _ _ => rfl) hbe
    | cons e l ih =>
      intro i k s b nx yp be hlL hb hi hyp hnx hbe hac hk hs hcont
      rw [List.length_cons] at hi
      rw [List.length_cons, Nat.succ_mul] at hs hcont
      have hT : yd_T (f + 1) = 24 * (1 + yd_T f) + 1 := rfl
      have hTL : L.length * (1 + yd_T f) ≤ 24 * (1 + yd_T f) := Nat.mul_le_mul_right _ hN
      have heL := hlL e List.mem_cons_self
      have hen := hL e heL
      obtain ⟨he1, he2, hg, hv, hc⟩ := hL e heL
      have hcl : (nI e).toNatClampNeg = e := nI_clamp (by omega)
      have hil : (nI i).toNatClampNeg = i := nI_clamp (by omega)
      have hei : vp_in (nI e) 201 := vp_in_nI (by omega) (by decide)
      cases k with
      | zero => exact absurd hk (by omega)
      | succ k =>
        refine br_f (nI_ge (b := 400000) (by omega) (by decide)) (br_f (nI_pos (by omega)) ⟨hdi, ?_⟩)
        rw [hdl, hnx, hil]
        refine br_t (nI_lt (by omega) (by omega)) ⟨hdi, vp_in_nI (by omega) (by decide), nm_r hb.1 ⟨hdi, hdi, nm_r (by rw [nI_1]) ?_⟩⟩
        have hnx1 : ∀ j, j < pre.length → upd nx pre.length (nI (i + 1)) j = nx j := fun j hj => pk_un (by omega)
        have hyp1 : ∀ j, j < pre.length → upd yp pre.length (nI e) j = yp j := fun j hj => pk_un (by omega)
        have hlL' : ∀ x, x ∈ l → x ∈ L := fun x hx => hlL x (List.mem_cons_of_mem _ hx)
        have hC : ∀ a, a ∈ pre ++ [e] → en_ok gt gv lm a := by
          intro a ha
          cases List.mem_append.mp ha with
          | inl h => exact hpre a h
          | inr h =>
            have : a = e := by simpa using h
            rw [this]; exact hen
        have hCl : (pre ++ [e]).length = pre.length + 1 := by rw [List.length_append]; rfl
        rw [df_cons] at hcont
        refine yc_ok hx hen hpre hyp (by omega) hz ?_ ?_
        · intro hcond
          rw [if_pos hcond] at hcont
          refine br_f (by decide) ⟨hdi, ?_⟩
          refine nm_e (br_f (by decide) ⟨hei, ?_⟩)
          rw [hcl]
          by_cases hgy : ar_N gt e = y
          · rw [if_pos hgy] at hcont
            refine br_t (by rw [hg.1, hgy]) ?_
            refine yw_q (C := pre ++ [e]) (b := b) (by rw [hCl, nI_1]) hC (by omega) (hd_snoc (Nat.zero_add _).symm hyp) hbe hac ?_
            · intro be' hbe'
              refine nm_r (nI_1 s) (ih (i + 1) k (s + 1) (wg_f (ar_c lm) b (pre ++ [e])) _ _ be' hlL' hb.2 (by omega) (hd_hi (by omega) hyp) pk_us hbe' (ac_wg hC (by omega) hac) (by omega) (by omega) ?_)
              intro k' s' nx' yp' be'' a1 a2 a3 a4 a5
              exact hcont k' s' nx' yp' be'' a1 (by omega) (fun j hj => (a3 j hj).trans (hnx1 j hj)) (fun j hj => (a4 j hj).trans (hyp1 j hj)) a5
          · rw [if_neg hgy] at hcont
            refine br_f (fun w => hgy (by rw [hg.1] at w; exact (nI_eq (by omega) (by omega)).mp w)) (br_f (by decide) ?_)
            refine br_f (nI_ge (b := 3) (by omega) (by decide)) (nm_r (nI_1 _) ⟨vp_in_nI (by omega) (by decide), ?_⟩)
            have hdl1 : (nI (pre.length + 1)).toNatClampNeg = pre.length + 1 := nI_clamp (by omega)
            rw [hdl1]
            refine nm_e (nm_r (nI_1 s) ?_)
            have hdfs := ihf (pre ++ [e]) (ar_N gt e) (by omega) hC (Or.inr ⟨pre, e, rfl, rfl⟩) L 0 k (s + 1) b (upd (upd nx pre.length (nI (i + 1))) (pre.length + 1) 0) (upd yp pre.length (nI e)) be
              (fun _ h => h) hyb (by omega) (hd_snoc (Nat.zero_add _).symm hyp) (by rw [hCl]; exact pk_us) hbe hac (by omega) (by omega) ?_
            · rw [hCl] at hdfs
              exact hdfs
            · intro k1 s1 nx1 yp1 be1 b1 b2 b3 b4 b5
              rw [hCl] at b3 b4 ⊢
              rw [pk_m1]
              refine ih (i + 1) k1 s1 _ nx1 yp1 be1 hlL' hb.2 (by omega) ?_ ?_ b5 ?_ b1 (by omega) ?_
              · exact hd_ext (fun j h1 h2 => (b4 j (by omega)).trans (hyp1 j (by omega))) hyp
              · exact (b3 pre.length (by omega)).trans ((pk_un (by omega)).trans pk_us)
              · refine ac_fold (gt := gt) (gv := gv) _ b ?_ hac
                intro D hD
                obtain ⟨e', r', c1, c2, c3, c4, c5⟩ := df_gm (L := L) (df_m f) (fun _ h => h) hD
                constructor
                · rw [c2, List.length_append, hCl, List.length_cons]
                  omega
                · intro a ha
                  rw [c2] at ha
                  cases List.mem_append.mp ha with
                  | inl h => exact hC a h
                  | inr h =>
                    cases h with
                    | head => exact hL e' c1
                    | tail _ h => exact hL a (wk_mem c4 a h)
              · intro k' s' nx' yp' be'' a1 a2 a3 a4 a5
                rw [List.foldl_append] at hcont
                exact hcont k' s' nx' yp' be'' a1 (by omega) (fun j hj => (a3 j hj).trans ((b3 j (by omega)).trans ((pk_un (by omega)).trans (hnx1 j hj)))) (fun j hj => (a4 j hj).trans ((b4 j (by omega)).trans (hyp1 j hj))) a5
        · intro hcond
          rw [if_neg hcond] at hcont
          refine br_t rfl (br_t rfl (br_t rfl (nm_r (nI_1 s) ?_)))
          refine ih (i + 1) k (s + 1) b _ _ be hlL' hb.2 (by omega) hyp pk_us hbe hac (by omega) (by omega) ?_
          intro k' s' nx' yp' be'' a1 a2 a3 a4 a5
          exact hcont k' s' nx' yp' be'' a1 (by omega) (fun j hj => (a3 j hj).trans (hnx1 j hj)) a4 a5
end
end
section
theorem ac_0 (c : Nat → Int) : ac_ok c ([], 0) := ⟨by decide, ⟨show (-4000 : Int) ≤ 0 by decide, show (0 : Int) ≤ 4000 by decide⟩, by decide⟩
section
variable {cp el ac pl ca ck m ex bL bC lW : Int32} {st ow gt gv lm lf fi pd rL rO rC rE yb nx yp be : Nat → Int32}
/-- countResting -/
theorem yr_l {post : Int32 → Prop} {M : Nat} (hM : M ≤ 200) (hp : post (nI (rl_L st M).length)) : ∀ (r j k : Nat), j + r = M → r < k →
    wY_countResting_4 post cp el ac pl ca ck (nI M) ex bL bC lW st ow gt gv lm lf fi pd rL rO rC rE yb nx yp be k (nI (rl_L st j).length) (nI (j + 1)) := by
  intro r
  induction r with
  | zero =>
    intro j k hj hk
    cases k with
    | zero => exact absurd hk (Nat.not_lt_zero _)
    | succ k =>
      have : j = M := by omega
      subst this
      exact br_t (nI_lt (by omega) (by omega)) hp
  | succ r ih =>
    intro j k hj hk
    cases k with
    | zero => exact absurd hk (Nat.not_lt_zero _)
    | succ k =>
      have hil : (nI (j + 1)).toNatClampNeg = j + 1 := nI_clamp (by omega)
      have hr := ih (j + 1) k (by omega) (by omega)
      refine br_f (nI_nlt (by omega) (by omega)) ⟨vp_in_nI (by omega) (by decide), ?_⟩
      rw [hil]
      by_cases h1 : st (j + 1) = 1
      · have e1 : rl_L st (j + 1) = rl_L st j ++ [j + 1] := if_pos h1
        rw [e1, List.length_append] at hr
        exact br_t h1 (nm_r (nI_1 _) (nm_r (nI_1 _) hr))
      · have e1 : rl_L st (j + 1) = rl_L st j := if_neg h1
        rw [e1] at hr
        exact br_f h1 (nm_r (nI_1 _) hr)
theorem yr_ok {post : Int32 → Prop} {M : Nat} (hM : M ≤ 200) (hp : post (nI (rl_L st M).length)) : wpY_countResting post (cp, el, ac, pl, ca, ck, nI M, ex, bL, bC, lW, st, ow, gt, gv, lm, lf, fi, pd, rL, rO, rC, rE, yb, nx, yp, be) :=
  Exists.intro (M + 1) (yr_l hM hp M 0 (M + 1) (by omega) (by omega))
theorem rl_sub {j M : Nat} (h : j ≤ M) : (rl_L st j).length ≤ (rl_L st M).length := by
  induction M with
  | zero =>
    have : j = 0 := by omega
    rw [this]
    exact Nat.le_refl _
  | succ M ih =>
    by_cases hj : j = M + 1
    · rw [hj]; exact Nat.le_refl _
    · have h2 := ih (by omega)
      have h3 : (rl_L st M).length ≤ (rl_L st (M + 1)).length := by
        by_cases h1 : st (M + 1) = 1
        · rw [show rl_L st (M + 1) = rl_L st M ++ [M + 1] from if_pos h1, List.length_append]
          omega
        · rw [show rl_L st (M + 1) = rl_L st M from if_neg h1]
          exact Nat.le_refl _
      omega
/-- search: the book loop -/
theorem ys_b {post : SY → Prop} {M : Nat} {x1 x2 x4 : Int32} (hM : M ≤ 200) (hN : (rl_L st M).length ≤ 24)
    (hp : ∀ yb', hd_a yb' 0 (rl_L st M) → ∃ k, wY_search_76 post x1 x2 (nI (rl_L st M).length) k x4 0 cp el ac pl ca ck (nI M) ex bL bC lW st ow gt gv lm lf fi pd rL rO rC rE yb' (upd nx 0 0) yp be) : ∀ (r j k : Nat) (yb : Nat → Int32), j + r = M → r < k → hd_a yb 0 (rl_L st j) →
    wY_search_23 post x1 x2 x4 cp el ac pl ca ck (nI M) ex bL bC lW k (nI (rl_L st j).length) (nI (j + 1)) st ow gt gv lm lf fi pd rL rO rC rE yb nx yp be := by
  intro r
  induction r with
  | zero =>
    intro j k yb hj hk hb
    cases k with
    | zero => exact absurd hk (Nat.not_lt_zero _)
    | succ k =>
      have : j = M := by omega
      subst this
      exact br_t (nI_lt (by omega) (by omega)) (nm_e (hp yb hb))
  | succ r ih =>
    intro j k yb hj hk hb
    cases k with
    | zero => exact absurd hk (Nat.not_lt_zero _)
    | succ k =>
      have hil : (nI (j + 1)).toNatClampNeg = j + 1 := nI_clamp (by omega)
      refine br_f (nI_nlt (by omega) (by omega)) ⟨vp_in_nI (by omega) (by decide), ?_⟩
      rw [hil]
      by_cases h1 : st (j + 1) = 1
      · have e1 : rl_L st (j + 1) = rl_L st j ++ [j + 1] := if_pos h1
        have e2 : (rl_L st (j + 1)).length = (rl_L st j).length + 1 := by rw [e1, List.length_append]; rfl
        have h2 : (rl_L st (j + 1)).length ≤ (rl_L st M).length := rl_sub (by omega)
        have hll : (nI (rl_L st j).length).toNatClampNeg = (rl_L st j).length := nI_clamp (by omega)
        have hr := ih (j + 1) k (upd yb (rl_L st j).length (nI (j + 1))) (by omega) (by omega) (by rw [e1]; exact hd_snoc (Nat.zero_add _).symm hb)
        rw [e2] at hr
        refine br_t h1 (br_f (nI_ge (b := 24) (by omega) (by decide)) (nm_r (nI_1 _) ⟨vp_in_nI (by omega) (by decide), ?_⟩))
        rw [hll]
        exact nm_e (nm_r (nI_1 _) hr)
      · have e1 : rl_L st (j + 1) = rl_L st j := if_neg h1
        have hr := ih (j + 1) k yb (by omega) (by omega) (by rw [e1]; exact hb)
        rw [e1] at hr
        exact br_f h1 (nm_r (nI_1 _) hr)
/-- search -/
theorem ys_ok {post : SY → Prop} {M x y : Nat} (hM : M ≤ 200) (hx : x < 5) (hy : y < 5) (hN : (rl_L st M).length ≤ 24) (hL : ∀ e, e ∈ rl_L st M → en_ok gt gv lm e)
    (hp : ∀ yb' nx' yp' be', hd_a be' 0 (df_B (ar_N gv) (ar_N gt) (ar_c lm) (rl_L st M) x y).1 →
      post (cp, el, ac, pl, ca, ck, nI M, ex, nI (df_B (ar_N gv) (ar_N gt) (ar_c lm) (rl_L st M) x y).1.length, Int32.ofInt (wk_S (ar_c lm) (df_B (ar_N gv) (ar_N gt) (ar_c lm) (rl_L st M) x y).1), Int32.ofInt (df_B (ar_N gv) (ar_N gt) (ar_c lm) (rl_L st M) x y).2, st, ow, gt, gv, lm, lf, fi, pd, rL, rO, rC, rE, yb', nx', yp', be')) :
    wpY_search post (cp, el, ac, pl, ca, ck, nI M, ex, bL, bC, lW, st, ow, gt, gv, lm, lf, fi, pd, rL, rO, rC, rE, yb, nx, yp, be) (nI x) (nI y) := by
  refine Exists.intro (M + 1) (ys_b hM hN ?_ M 0 (M + 1) yb (by omega) (by omega) trivial)
  intro yb' hb
  refine ⟨400001, ?_⟩
  have hT : yd_T 3 = 15025 := by decide
  have hmul : (rl_L st M).length * (1 + yd_T 3) ≤ 24 * (1 + yd_T 3) := Nat.mul_le_mul_right _ hN
  refine yd_v (b := ([], 0)) hx hy hL hN hb 3 [] x rfl (fun e he => by cases he) (Or.inl ⟨rfl, rfl⟩) (rl_L st M) 0 400001 0 _ yp be (fun _ h => h) hb (by omega) trivial pk_us trivial (ac_0 _) rfl (by omega) ?_
  intro k' s' nx' yp' be' a1 a2 a3 a4 a5
  cases k' with
  | zero => exact absurd a1 (by omega)
  | succ k' =>
    have := hp yb' nx' yp' be' a5
    exact br_c (fun _ => this) (fun _ => br_t (by decide) this)
/-- chainLots -/
theorem yl_l {post : Int32 → Prop} {D : Nat} (hD : D ≤ 4) : ∀ (l : List Nat) (i k : Nat) (q : Int32), (∀ e, e ∈ l → en_ok gt gv lm e) → hd_a be i l → i + l.length = D → l.length < k →
    post (lo_I lf q l) → wY_chainLots_5 post cp el ac pl ca ck m ex (nI D) bC lW st ow gt gv lm lf fi pd rL rO rC rE yb nx yp be k q (nI i) := by
  intro l
  induction l with
  | nil =>
    intro i k q _ _ hi hk hp
    cases k with
    | zero => exact absurd hk (Nat.not_lt_zero _)
    | succ k =>
      rw [List.length_nil] at hi
      exact br_t (nI_le (by omega) (by omega)) hp
  | cons e l ih =>
    intro i k q hen hb hi hk hp
    cases k with
    | zero => exact absurd hk (Nat.not_lt_zero _)
    | succ k =>
      rw [List.length_cons] at hi hk
      obtain ⟨he1, he2, hg, hv, hc⟩ := hen e List.mem_cons_self
      have hcl : (nI e).toNatClampNeg = e := nI_clamp (by omega)
      have hil : (nI i).toNatClampNeg = i := nI_clamp (by omega)
      have he : vp_in (nI e) 201 := vp_in_nI (by omega) (by omega)
      have hin : vp_in (nI i) 4 := vp_in_nI (by omega) (by decide)
      have hen' : ∀ x, x ∈ l → en_ok gt gv lm x := fun x hx => hen x (List.mem_cons_of_mem _ hx)
      refine br_f (nI_ge (by omega) (by omega)) ⟨hin, ?_⟩
      rw [hil, hb.1, hcl]
      by_cases hq : q ≤ lf e
      · have e1 : lo_I lf q (e :: l) = lo_I lf q l := by simp only [lo_I, if_pos hq]
        rw [e1] at hp
        exact ⟨he, br_t hq (nm_r (nI_1 i) (ih (i + 1) k q hen' hb.2 (by omega) (by omega) hp))⟩
      · have e1 : lo_I lf q (e :: l) = lo_I lf (lf e) l := by simp only [lo_I, if_neg hq]
        rw [e1] at hp
        exact ⟨he, br_f hq ⟨hin, he, nm_e (nm_r (nI_1 i) (ih (i + 1) k _ hen' hb.2 (by omega) (by omega) hp))⟩⟩
theorem yl_ok {post : Int32 → Prop} {P : List Nat} (hP : P.length ≤ 4) (hen : ∀ e, e ∈ P → en_ok gt gv lm e) (hb : hd_a be 0 P) (hp : post (lo_I lf 99 P)) : wpY_chainLots post (cp, el, ac, pl, ca, ck, m, ex, nI P.length, bC, lW, st, ow, gt, gv, lm, lf, fi, pd, rL, rO, rC, rE, yb, nx, yp, be) :=
  Exists.intro (P.length + 1) (yl_l hP P 0 (P.length + 1) 99 hen hb (by omega) (by omega) hp)
/-- the least weight is small -/
theorem df_lb {M x y : Nat} (hL : ∀ e, e ∈ rl_L st M → en_ok gt gv lm e) : ac_ok (ar_c lm) (df_B (ar_N gv) (ar_N gt) (ar_c lm) (rl_L st M) x y) := by
  refine ac_fold (gt := gt) (gv := gv) _ _ ?_ (ac_0 _)
  intro C hC
  obtain ⟨r, h1, h2, h3, h4⟩ := df_m 4 x [] C hC
  rw [List.nil_append] at h1
  subst h1
  exact ⟨h4, fun e he => hL e (wk_mem h2 e he)⟩
theorem pt_b {M y : Nat} (hL : ∀ e, e ∈ rl_L st M → en_ok gt gv lm e) (k : Nat) : -40000 ≤ pt_Y (ar_N gv) (ar_N gt) (ar_c lm) (rl_L st M) y k ∧ pt_Y (ar_N gv) (ar_N gt) (ar_c lm) (rl_L st M) y k ≤ 0 := by
  obtain ⟨h1, h2, h3⟩ := pt_Yp (V := ar_N gv) (G := ar_N gt) (c := ar_c lm) (L := rl_L st M) (y := y) k
  refine ⟨?_, h1⟩
  cases h3 with
  | inl h => omega
  | inr h =>
    obtain ⟨x, k1, k2, k3⟩ := h
    have := (df_lb (x := x) (y := y) hL).2.2.1
    omega
/-- potential: the reference's loop -/
theorem yp_l {post : Int32 → SY → Prop} {M y : Nat} (hM : M ≤ 200) (hy : y < 5) (hN : (rl_L st M).length ≤ 24) (hL : ∀ e, e ∈ rl_L st M → en_ok gt gv lm e)
    (hp : ∀ bL' bC' lW' yb' nx' yp' be', post (Int32.ofInt (pt_Y (ar_N gv) (ar_N gt) (ar_c lm) (rl_L st M) y 5)) (cp, el, ac, pl, ca, ck, nI M, ex, bL', bC', lW', st, ow, gt, gv, lm, lf, fi, pd, rL, rO, rC, rE, yb', nx', yp', be')) :
    ∀ (r j k : Nat) (bL bC lW : Int32) (yb nx yp be : Nat → Int32), j + r = 5 → r < k →
    wY_potential_16 post (nI y) k (Int32.ofInt (pt_Y (ar_N gv) (ar_N gt) (ar_c lm) (rl_L st M) y j)) (nI j) cp el ac pl ca ck (nI M) ex bL bC lW st ow gt gv lm lf fi pd rL rO rC rE yb nx yp be := by
  intro r
  induction r with
  | zero =>
    intro j k bL bC lW yb nx yp be hj hk
    have : j = 5 := by omega
    subst this
    cases k with
    | zero => exact absurd hk (Nat.not_lt_zero _)
    | succ k => exact br_t (nI_lt (a := 4) (by omega) (by omega)) (hp _ _ _ _ _ _ _)
  | succ r ih =>
    intro j k bL bC lW yb nx yp be hj hk
    cases k with
    | zero => exact absurd hk (Nat.not_lt_zero _)
    | succ k =>
      refine br_f (nI_nlt (a := 4) (b := j) (by omega) (by decide)) ?_
      by_cases hjy : j = y
      · have e1 : pt_Y (ar_N gv) (ar_N gt) (ar_c lm) (rl_L st M) y (j + 1) = pt_Y (ar_N gv) (ar_N gt) (ar_c lm) (rl_L st M) y j := if_pos hjy
        have hr := ih (j + 1) k bL bC lW yb nx yp be (by omega) (by omega)
        rw [e1] at hr
        have hq : nI j = nI y := by rw [hjy]
        exact br_t hq (br_t hq (nm_r (nI_1 j) hr))
      · have e1 : pt_Y (ar_N gv) (ar_N gt) (ar_c lm) (rl_L st M) y (j + 1) = if (df_B (ar_N gv) (ar_N gt) (ar_c lm) (rl_L st M) j y).2 < pt_Y (ar_N gv) (ar_N gt) (ar_c lm) (rl_L st M) y j then (df_B (ar_N gv) (ar_N gt) (ar_c lm) (rl_L st M) j y).2 else pt_Y (ar_N gv) (ar_N gt) (ar_c lm) (rl_L st M) y j := if_neg hjy
        have hq : ¬ nI j = nI y := fun z => hjy ((nI_eq (by omega) (by omega)).mp z)
        have b1 := (df_lb (x := j) (y := y) hL).2.2
        have b2 := pt_b (y := y) hL j
        refine br_f hq (ys_ok hM (by omega) hy hN hL ?_)
        intro yb' nx' yp' be' hbe
        have hr := ih (j + 1) k (nI (df_B (ar_N gv) (ar_N gt) (ar_c lm) (rl_L st M) j y).1.length) (Int32.ofInt (wk_S (ar_c lm) (df_B (ar_N gv) (ar_N gt) (ar_c lm) (rl_L st M) j y).1)) (Int32.ofInt (df_B (ar_N gv) (ar_N gt) (ar_c lm) (rl_L st M) j y).2) yb' nx' yp' be' (by omega) (by omega)
        rw [e1] at hr
        refine br_f hq ?_
        by_cases hlt : (df_B (ar_N gv) (ar_N gt) (ar_c lm) (rl_L st M) j y).2 < pt_Y (ar_N gv) (ar_N gt) (ar_c lm) (rl_L st M) y j
        · rw [if_pos hlt] at hr
          exact br_f (fun z => absurd ((oi_le (by omega) (by omega) (by omega) (by omega)).mp z) (by omega)) (nm_r (nI_1 j) hr)
        · rw [if_neg hlt] at hr
          exact br_t ((oi_le (by omega) (by omega) (by omega) (by omega)).mpr (by omega)) (nm_r (nI_1 j) hr)
end
end
section
/-- one entry's share of a holding -/
def hs_1 (ow gt gv fi pd : Nat → Int32) (b j e : Nat) : Int32 :=
  if ow e = nI b then (if j = 0 then -(pd e) else (if gt e = nI j then fi e else 0) - (if gv e = nI j then fi e else 0)) else 0
def hs_S (f : Nat → Int32) : Nat → Int32
  | 0 => 0
  | k + 1 => hs_S f k + f (k + 1)
theorem hs_ext {f g : Nat → Int32} : ∀ {M : Nat}, (∀ e, 1 ≤ e → e ≤ M → g e = f e) → hs_S g M = hs_S f M := by
  intro M
  induction M with
  | zero => intro _; rfl
  | succ M ih =>
    intro h
    unfold hs_S
    rw [ih (fun e h1 h2 => h e h1 (by omega)), h (M + 1) (by omega) (Nat.le_refl _)]
theorem hs_upd {f g : Nat → Int32} {e : Nat} (h1 : 1 ≤ e) (hfg : ∀ k, k ≠ e → g k = f k) : ∀ {M : Nat}, e ≤ M → hs_S g M = hs_S f M + (g e - f e) := by
  intro M
  induction M with
  | zero => intro h; omega
  | succ M ih =>
    intro h
    unfold hs_S
    by_cases he : e = M + 1
    · rw [hs_ext (fun k _ hk => hfg k (by omega)), ← he]
      grind
    · rw [ih (by omega), hfg (M + 1) (by omega)]
      grind
/-- the entries' records -/
def co_E (A M : Nat) (st ow gt gv lm lf : Nat → Int32) : Prop :=
  ∀ e, 1 ≤ e → e ≤ M → en_ok gt gv lm e ∧ (∃ b, b < A ∧ ow e = nI b) ∧ (st e = 1 → 1 ≤ (lf e).toInt ∧ (lf e).toInt ≤ 99)
def co_H (M : Nat) (ow gt gv fi pd ho : Nat → Int32) : Prop := ∀ b j, b < 6 → j < 5 → ho (b * 5 + j) = hs_S (hs_1 ow gt gv fi pd b j) M
/-- the settings -/
def co_S (C El A P a M E : Nat) (ck : Int32) : Prop := C ≤ 24 ∧ El ≤ 200 ∧ A ≤ 6 ∧ P ≤ 999 ∧ a < A ∧ (ck = 0 ∨ ck = 1) ∧ M ≤ El ∧ E ≤ 24
/-- the book -/
def co_B (M : Nat) (st gt gv lm bk : Nat → Int32) : Prop := (rl_L st M).length ≤ 24 ∧ hd_a bk 0 (rl_L st M) ∧ wk_I (ar_N gv) (ar_N gt) (ar_c lm) (rl_L st M)
def co_R (C El A P a M E : Nat) (ck : Int32) (st ow gt gv lm lf fi pd rL bk ho : Nat → Int32) : Prop :=
  co_S C El A P a M E ck ∧ co_B M st gt gv lm bk ∧ co_E A M st ow gt gv lm lf ∧ (∀ e, M < e → st e = 0 ∧ fi e = 0 ∧ pd e = 0) ∧ (∀ i, i < E → ∃ k, k ≤ 4 ∧ rL i = nI k) ∧ co_H M ow gt gv fi pd ho
/-- the two objects hold the same records; X besides keeps the book and the holdings -/
def i_Rel (_ : Nat) (u : SX) (v : SY) : Prop := ∃ (C El A P a M E : Nat), ∃ (ck un pL pC pQ bL bC lW : Int32), ∃ (st ow gt gv lm lf fi pd bk ho rL rO rC rE di po pa yb nx yp be : Nat → Int32), u = (nI C, nI El, nI A, nI P, nI a, ck, nI M, nI (rl_L st M).length, nI E, un, pL, pC, pQ, st, ow, gt, gv, lm, lf, fi, pd, bk, ho, rL, rO, rC, rE, di, po, pa) ∧ v = (nI C, nI El, nI A, nI P, nI a, ck, nI M, nI E, bL, bC, lW, st, ow, gt, gv, lm, lf, fi, pd, rL, rO, rC, rE, yb, nx, yp, be) ∧ co_R C El A P a M E ck st ow gt gv lm lf fi pd rL bk ho
theorem i_up {k : Nat} {u : SX} {v : SY} (h : i_Rel k u v) : i_Rel (k + 5) u v := h
theorem zz_in {k : Nat} {C El A P a M E : Nat} {ck un pL pC pQ bL bC lW : Int32} {st ow gt gv lm lf fi pd bk ho rL rO rC rE di po pa yb nx yp be : Nat → Int32} (h : co_R C El A P a M E ck st ow gt gv lm lf fi pd rL bk ho) : i_Rel k (nI C, nI El, nI A, nI P, nI a, ck, nI M, nI (rl_L st M).length, nI E, un, pL, pC, pQ, st, ow, gt, gv, lm, lf, fi, pd, bk, ho, rL, rO, rC, rE, di, po, pa) (nI C, nI El, nI A, nI P, nI a, ck, nI M, nI E, bL, bC, lW, st, ow, gt, gv, lm, lf, fi, pd, rL, rO, rC, rE, yb, nx, yp, be) :=
  ⟨C, El, A, P, a, M, E, ck, un, pL, pC, pQ, bL, bC, lW, st, ow, gt, gv, lm, lf, fi, pd, bk, ho, rL, rO, rC, rE, di, po, pa, yb, nx, yp, be, rfl, rfl, h⟩
theorem zz_el {Q : SX → SY → Prop} {k : Nat} {u : SX} {v : SY} (H : ∀ (C El A P a M E : Nat) (ck un pL pC pQ bL bC lW : Int32) (st ow gt gv lm lf fi pd bk ho rL rO rC rE di po pa yb nx yp be : Nat → Int32), co_R C El A P a M E ck st ow gt gv lm lf fi pd rL bk ho → Q (nI C, nI El, nI A, nI P, nI a, ck, nI M, nI (rl_L st M).length, nI E, un, pL, pC, pQ, st, ow, gt, gv, lm, lf, fi, pd, bk, ho, rL, rO, rC, rE, di, po, pa) (nI C, nI El, nI A, nI P, nI a, ck, nI M, nI E, bL, bC, lW, st, ow, gt, gv, lm, lf, fi, pd, rL, rO, rC, rE, yb, nx, yp, be)) (h : i_Rel k u v) : Q u v :=
  Exists.elim h fun C h => Exists.elim h fun El h => Exists.elim h fun A h => Exists.elim h fun P h => Exists.elim h fun a h => Exists.elim h fun M h => Exists.elim h fun E h => Exists.elim h fun ck h => Exists.elim h fun un h => Exists.elim h fun pL h => Exists.elim h fun pC h => Exists.elim h fun pQ h => Exists.elim h fun bL h => Exists.elim h fun bC h => Exists.elim h fun lW h => Exists.elim h fun st h => Exists.elim h fun ow h => Exists.elim h fun gt h => Exists.elim h fun gv h => Exists.elim h fun lm h => Exists.elim h fun lf h => Exists.elim h fun fi h => Exists.elim h fun pd h => Exists.elim h fun bk h => Exists.elim h fun ho h => Exists.elim h fun rL h => Exists.elim h fun rO h => Exists.elim h fun rC h => Exists.elim h fun rE h => Exists.elim h fun di h => Exists.elim h fun po h => Exists.elim h fun pa h => Exists.elim h fun yb h => Exists.elim h fun nx h => Exists.elim h fun yp h => Exists.elim h fun be h => by
    rw [h.1, h.2.1]
    exact H C El A P a M E ck un pL pC pQ bL bC lW st ow gt gv lm lf fi pd bk ho rL rO rC rE di po pa yb nx yp be h.2.2
theorem co_gr {A M : Nat} {st ow gt gv lm lf bk : Nat → Int32} (hB : co_B M st gt gv lm bk) (hE : co_E A M st ow gt gv lm lf) : (∀ e, e ∈ rl_L st M → en_ok gt gv lm e) ∧ gr_ok (ar_N gv) (ar_N gt) (ar_c lm) (rl_L st M) := by
  have h1 : ∀ e, e ∈ rl_L st M → en_ok gt gv lm e := fun e he => (hE e (rl_mem.mp he).1 (rl_mem.mp he).2.1).1
  refine ⟨h1, ?_, hB.2.2⟩
  intro e he
  have := h1 e he
  exact ⟨this.2.2.2.1.2, this.2.2.1.2, this.2.2.2.2⟩
end
section
section
variable {cp el ac pl ca ck m n ex un pL pC pQ bL bC lW : Int32} {st ow gt gv lm lf fi pd bk ho rL rO rC rE di po pa yb nx yp be : Nat → Int32}
theorem cl_ok (lo hi : Nat) (hh : hi < 2 ^ 31) (hl : lo ≤ hi) (v : Int32) : ∃ C, lo ≤ C ∧ C ≤ hi ∧
    (∀ (post : Int32 → Prop) (cp el ac pl ca ck m n ex un pL pC pQ : Int32) (st ow gt gv lm lf fi pd bk ho rL rO rC rE di po pa : Nat → Int32), post (nI C) → wpX_clamp post (cp, el, ac, pl, ca, ck, m, n, ex, un, pL, pC, pQ, st, ow, gt, gv, lm, lf, fi, pd, bk, ho, rL, rO, rC, rE, di, po, pa) v (nI lo) (nI hi)) ∧ (∀ (post : Int32 → Prop) (cp el ac pl ca ck m ex bL bC lW : Int32) (st ow gt gv lm lf fi pd rL rO rC rE yb nx yp be : Nat → Int32), post (nI C) → wpY_clamp post (cp, el, ac, pl, ca, ck, m, ex, bL, bC, lW, st, ow, gt, gv, lm, lf, fi, pd, rL, rO, rC, rE, yb, nx, yp, be) v (nI lo) (nI hi)) := by
  by_cases h1 : nI lo ≤ v
  · by_cases h2 : v ≤ nI hi
    · have h0 : ¬ v < 0 := by
        have h3 := Int32.le_iff_toInt_le.mp h1
        rw [nI_toInt (by omega)] at h3
        rw [Int32.lt_iff_toInt_lt, show (0 : Int32).toInt = 0 from by decide]
        omega
      obtain ⟨j, hj, e⟩ := nI_of h0
      subst e
      exact ⟨j, (nI_leI (by omega) hj).mp h1, (nI_leI hj hh).mp h2, by
        intros; exact br_t h1 (br_t h2 (by assumption)), by
        intros; exact br_t h1 (br_t h2 (by assumption))⟩
    · exact ⟨hi, hl, Nat.le_refl _, by
        intros; exact br_t h1 (br_f h2 (by assumption)), by
        intros; exact br_t h1 (br_f h2 (by assumption))⟩
  · exact ⟨lo, Nat.le_refl _, hl, by
      intros; exact br_f h1 (by assumption), by
      intros; exact br_f h1 (by assumption)⟩
end
theorem i_vc0 (k0 : Int32) (k1 : Int32) (k2 : Int32) (k3 : Int32) : wpX_init (fun u => wpY_init (fun v => i_Rel 4 u v) k0 k1 k2 k3) k0 k1 k2 k3 := by
  obtain ⟨C, c1, c2, cx, cy⟩ := cl_ok 4 24 (by decide) (by decide) k0
  obtain ⟨El, e1, e2, ex, ey⟩ := cl_ok 16 200 (by decide) (by decide) k1
  obtain ⟨A, a1, a2, ax, ay⟩ := cl_ok 2 6 (by decide) (by decide) k2
  obtain ⟨P, p1, p2, px, py⟩ := cl_ok 10 999 (by decide) (by decide) k3
  refine cx _ _ _ _ _ _ _ _ _ _ _ _ _ _ _ _ _ _ _ _ _ _ _ _ _ _ _ _ _ _ _ (ex _ _ _ _ _ _ _ _ _ _ _ _ _ _ _ _ _ _ _ _ _ _ _ _ _ _ _ _ _ _ _ (ax _ _ _ _ _ _ _ _ _ _ _ _ _ _ _ _ _ _ _ _ _ _ _ _ _ _ _ _ _ _ _ (px _ _ _ _ _ _ _ _ _ _ _ _ _ _ _ _ _ _ _ _ _ _ _ _ _ _ _ _ _ _ _ ?_)))
  refine cy _ _ _ _ _ _ _ _ _ _ _ _ _ _ _ _ _ _ _ _ _ _ _ _ _ _ _ _ (ey _ _ _ _ _ _ _ _ _ _ _ _ _ _ _ _ _ _ _ _ _ _ _ _ _ _ _ _ (ay _ _ _ _ _ _ _ _ _ _ _ _ _ _ _ _ _ _ _ _ _ _ _ _ _ _ _ _ (py _ _ _ _ _ _ _ _ _ _ _ _ _ _ _ _ _ _ _ _ _ _ _ _ _ _ _ _ ?_)))
  refine zz_in (C := C) (El := El) (A := A) (P := P) (a := 0) (M := 0) (E := 0) ?_
  refine ⟨⟨c2, e2, a2, p2, by omega, Or.inl rfl, by omega, by decide⟩, ⟨by decide, trivial, ?_⟩, ?_, ?_, ?_, ?_⟩
  · intro p a h
    cases p with
    | nil => decide
    | cons e p => exact absurd h.1 List.not_mem_nil
  · intro e h1 h2; omega
  · intro e _; exact ⟨rfl, rfl, rfl⟩
  · intro i h; omega
  · intro b j _ _; rfl
theorem i_vc_terms {k : Nat} {u : SX} {v : SY} (I : i_Rel k u v) (hk : k + 5 ≤ 2564) (v1 : Int32) (v2 : Int32) : wpX_terms (fun r u' => wpY_terms (fun r' v' => r' = r ∧ i_Rel (k + 5) u' v') v v1 v2) u v1 v2 := by
  refine zz_el (Q := fun u v => wpX_terms (fun r u' => wpY_terms (fun r' v' => r' = r ∧ i_Rel (k + 5) u' v') v v1 v2) u v1 v2) ?_ I
  intro C El A P a M E ck un pL pC pQ bL bC lW st ow gt gv lm lf fi pd bk ho rL rO rC rE di po pa yb nx yp be h
  obtain ⟨hS, hR⟩ := h
  obtain ⟨s1, s2, s3, s4, s5, s6, s7, s8⟩ := hS
  by_cases h0 : v1 < 0
  · exact br_t h0 (br_t rfl (br_t h0 (And.intro rfl (zz_in ⟨⟨s1, s2, s3, s4, s5, s6, s7, s8⟩, hR⟩))))
  by_cases h1 : nI A ≤ v1
  · exact br_f h0 (br_t h1 (br_t rfl (br_f h0 (br_f (Int32.not_lt.mpr h1) (And.intro rfl (zz_in ⟨⟨s1, s2, s3, s4, s5, s6, s7, s8⟩, hR⟩))))))
  have h1' : v1 < nI A := Int32.not_le.mp h1
  obtain ⟨j, hj, e⟩ := nI_of h0
  subst e
  have hjA : j < A := (nI_ltI hj (by omega)).mp h1'
  by_cases h2 : v2 = 0
  · exact br_f h0 (br_f h1 (br_f (by decide) (br_t h2 (br_f h0 (br_t h1' (br_t h2 (And.intro rfl (zz_in (a := j) ⟨⟨s1, s2, s3, s4, hjA, Or.inl h2, s7, s8⟩, hR⟩))))))))
  by_cases h3 : v2 = 1
  · exact br_f h0 (br_f h1 (br_f (by decide) (br_f h2 (br_t h3 (br_f h0 (br_t h1' (br_f h2 (br_t h3 (And.intro rfl (zz_in (a := j) ⟨⟨s1, s2, s3, s4, hjA, Or.inr h3, s7, s8⟩, hR⟩))))))))))
  exact br_f h0 (br_f h1 (br_f (by decide) (br_f h2 (br_f h3 (br_f h0 (br_t h1' (br_f h2 (br_f h3 (And.intro rfl (zz_in ⟨⟨s1, s2, s3, s4, s5, s6, s7, s8⟩, hR⟩))))))))))
theorem in_of {M : Nat} (hM : M ≤ 200) {x : Int32} (h1 : ¬ x < 1) (h2 : ¬ nI M < x) : ∃ e, 1 ≤ e ∧ e ≤ M ∧ x = nI e := by
  have h3 : ¬ x < 0 := by
    rw [Int32.lt_iff_toInt_lt, show (1 : Int32).toInt = 1 from by decide] at h1
    rw [Int32.lt_iff_toInt_lt, show (0 : Int32).toInt = 0 from by decide]
    omega
  obtain ⟨e, he, rfl⟩ := nI_of h3
  refine ⟨e, ?_, ?_, rfl⟩
  · rw [show (1 : Int32) = nI 1 from rfl, nI_ltI he (by decide)] at h1
    omega
  · rw [nI_ltI (by omega) he] at h2
    omega
theorem i_vc_order {k : Nat} {u : SX} {v : SY} (I : i_Rel k u v) (hk : k + 5 ≤ 2564) (v1 : Int32) (v2 : Int32) : wpX_order (fun r => wpY_order (fun r' => r' = r ∧ i_Rel (k + 5) u v) v v1 v2) u v1 v2 := by
  refine zz_el (Q := fun u v => wpX_order (fun r => wpY_order (fun r' => r' = r ∧ i_Rel (k + 5) u v) v v1 v2) u v1 v2) ?_ I
  intro C El A P a M E ck un pL pC pQ bL bC lW st ow gt gv lm lf fi pd bk ho rL rO rC rE di po pa yb nx yp be h
  obtain ⟨s1, s2, s3, s4, s5, s6, s7, s8⟩ := h.1
  by_cases h1 : v1 < 1
  · exact br_t h1 (br_t rfl (br_t h1 (And.intro rfl (zz_in h))))
  by_cases h2 : nI M < v1
  · exact br_f h1 (br_t h2 (br_t rfl (br_f h1 (br_t h2 (And.intro rfl (zz_in h))))))
  obtain ⟨e, e1, e2, rfl⟩ := in_of (by omega) h1 h2
  have hin : vp_in (nI e) 201 := vp_in_nI (by omega) (by decide)
  refine br_f h1 (br_f h2 (br_f (by decide) ?_))
  by_cases h3 : v2 < 0
  · exact br_t h3 (br_f h1 (br_f h2 (br_t h3 (And.intro rfl (zz_in h)))))
  by_cases h4 : 7 < v2
  · exact br_f h3 (br_t h4 (br_f h1 (br_f h2 (br_f h3 (br_f (Int32.not_le.mpr h4) (And.intro rfl (zz_in h)))))))
  refine br_f h3 (br_f h4 ?_)
  have h5 : v2 ≤ 7 := Int32.not_lt.mp h4
  obtain ⟨j, hj, rfl⟩ := nI_of2 (n := 7) (M := 7) (by decide) h3 h5
  have hj8 : j = 0 ∨ j = 1 ∨ j = 2 ∨ j = 3 ∨ j = 4 ∨ j = 5 ∨ j = 6 ∨ j = 7 := by omega
  rcases hj8 with rfl | rfl | rfl | rfl | rfl | rfl | rfl | rfl
  · exact br_t rfl (And.intro hin (br_f h1 (br_f h2 (br_f h3 (br_t h5 (br_f (by decide) (br_t rfl (And.intro hin (And.intro rfl (zz_in h)))))))))) 
  · exact br_f (by decide) (br_t rfl (And.intro hin (br_f h1 (br_f h2 (br_f h3 (br_t h5 (br_f (by decide) (br_f (by decide) (br_t rfl (And.intro hin (And.intro rfl (zz_in h))))))))))))
  · exact br_f (by decide) (br_f (by decide) (br_t rfl (And.intro hin (br_f h1 (br_f h2 (br_f h3 (br_t h5 (br_f (by decide) (br_f (by decide) (br_f (by decide) (br_t rfl (And.intro hin (And.intro rfl (zz_in h))))))))))))))
  · exact br_f (by decide) (br_f (by decide) (br_f (by decide) (br_t rfl (And.intro hin (br_f h1 (br_f h2 (br_f h3 (br_t h5 (br_f (by decide) (br_f (by decide) (br_f (by decide) (br_f (by decide) (And.intro hin (And.intro rfl (zz_in h)))))))))))))))
  · exact br_f (by decide) (br_f (by decide) (br_f (by decide) (br_f (by decide) (br_t rfl (And.intro hin (br_f h1 (br_f h2 (br_f h3 (br_t h5 (br_t (by decide) (br_t rfl (And.intro hin (And.intro rfl (zz_in h))))))))))))))
  · exact br_f (by decide) (br_f (by decide) (br_f (by decide) (br_f (by decide) (br_f (by decide) (br_t rfl (And.intro hin (br_f h1 (br_f h2 (br_f h3 (br_t h5 (br_t (by decide) (br_f (by decide) (br_t rfl (And.intro hin (And.intro rfl (zz_in h))))))))))))))))
  · exact br_f (by decide) (br_f (by decide) (br_f (by decide) (br_f (by decide) (br_f (by decide) (br_f (by decide) (br_t rfl (And.intro hin (br_f h1 (br_f h2 (br_f h3 (br_t h5 (br_t (by decide) (br_f (by decide) (br_f (by decide) (br_t rfl (And.intro hin (And.intro rfl (zz_in h))))))))))))))))))
  · exact br_f (by decide) (br_f (by decide) (br_f (by decide) (br_f (by decide) (br_f (by decide) (br_f (by decide) (br_f (by decide) (br_t rfl (And.intro hin (br_f h1 (br_f h2 (br_f h3 (br_t h5 (br_t (by decide) (br_f (by decide) (br_f (by decide) (br_f (by decide) (And.intro hin (And.intro rfl (zz_in h)))))))))))))))))))
theorem i_vc_execution {k : Nat} {u : SX} {v : SY} (I : i_Rel k u v) (hk : k + 5 ≤ 2564) (v1 : Int32) (v2 : Int32) : wpX_execution (fun r => wpY_execution (fun r' => r' = r ∧ i_Rel (k + 5) u v) v v1 v2) u v1 v2 := by
  refine zz_el (Q := fun u v => wpX_execution (fun r => wpY_execution (fun r' => r' = r ∧ i_Rel (k + 5) u v) v v1 v2) u v1 v2) ?_ I
  intro C El A P a M E ck un pL pC pQ bL bC lW st ow gt gv lm lf fi pd bk ho rL rO rC rE di po pa yb nx yp be h
  obtain ⟨s1, s2, s3, s4, s5, s6, s7, s8⟩ := h.1
  by_cases h1 : v1 < 0
  · exact br_t h1 (br_t h1 (And.intro rfl (zz_in h)))
  by_cases h2 : v1 < nI E
  case neg => exact br_f h1 (br_f h2 (br_f h1 (br_t (Int32.not_lt.mp h2) (And.intro rfl (zz_in h)))))
  have h2' : ¬ nI E ≤ v1 := Int32.not_le.mpr h2
  obtain ⟨e, he, rfl⟩ := nI_of h1
  have heE : e < E := (nI_ltI he (by omega)).mp h2
  have hin : vp_in (nI e) 24 := vp_in_nI (by omega) (by decide)
  refine br_f h1 (br_t h2 ?_)
  by_cases h3 : v2 < 0
  · exact br_t h3 (br_f h1 (br_f h2' (br_t h3 (And.intro rfl (zz_in h)))))
  by_cases h4 : 2 < v2
  · exact br_f h3 (br_t h4 (br_f h1 (br_f h2' (br_f h3 (br_f (Int32.not_le.mpr h4) (And.intro rfl (zz_in h)))))))
  refine br_f h3 (br_f h4 ?_)
  have h5 : v2 ≤ 2 := Int32.not_lt.mp h4
  obtain ⟨j, hj, rfl⟩ := nI_of2 (n := 2) (M := 2) (by decide) h3 h5
  have hj8 : j = 0 ∨ j = 1 ∨ j = 2 := by omega
  rcases hj8 with rfl | rfl | rfl
  · exact br_t rfl (And.intro hin (br_f h1 (br_f h2' (br_f h3 (br_t h5 (br_t rfl (And.intro hin (And.intro rfl (zz_in h)))))))))
  · exact br_f (by decide) (br_t rfl (And.intro hin (br_f h1 (br_f h2' (br_f h3 (br_t h5 (br_f (by decide) (br_t rfl (And.intro hin (And.intro rfl (zz_in h)))))))))))
  · exact br_f (by decide) (br_f (by decide) (br_t rfl (And.intro hin (br_f h1 (br_f h2' (br_f h3 (br_t h5 (br_f (by decide) (br_f (by decide) (And.intro hin (And.intro rfl (zz_in h))))))))))))
theorem i_vc_leg {k : Nat} {u : SX} {v : SY} (I : i_Rel k u v) (hk : k + 5 ≤ 2564) (v1 : Int32) (v2 : Int32) : wpX_leg (fun r => wpY_leg (fun r' => r' = r ∧ i_Rel (k + 5) u v) v v1 v2) u v1 v2 := by
  refine zz_el (Q := fun u v => wpX_leg (fun r => wpY_leg (fun r' => r' = r ∧ i_Rel (k + 5) u v) v v1 v2) u v1 v2) ?_ I
  intro C El A P a M E ck un pL pC pQ bL bC lW st ow gt gv lm lf fi pd bk ho rL rO rC rE di po pa yb nx yp be h
  obtain ⟨s1, s2, s3, s4, s5, s6, s7, s8⟩ := h.1
  by_cases h1 : v1 < 0
  · exact br_t h1 (br_t h1 (And.intro rfl (zz_in h)))
  by_cases h2 : v1 < nI E
  case neg => exact br_f h1 (br_f h2 (br_f h1 (br_t (Int32.not_lt.mp h2) (And.intro rfl (zz_in h)))))
  have h2' : ¬ nI E ≤ v1 := Int32.not_le.mpr h2
  obtain ⟨e, he, rfl⟩ := nI_of h1
  have heE : e < E := (nI_ltI he (by omega)).mp h2
  have hin : vp_in (nI e) 24 := vp_in_nI (by omega) (by decide)
  refine br_f h1 (br_t h2 ?_)
  by_cases h3 : v2 < 0
  · exact br_t h3 (br_f h1 (br_f h2' (br_t h3 (And.intro rfl (zz_in h)))))
  have hel : (nI e).toNatClampNeg = e := nI_clamp (by omega)
  refine br_f h3 (And.intro hin ?_)
  by_cases h4 : v2 ≤ rL (nI e).toNatClampNeg
  case neg => exact br_f h4 (br_f h1 (br_f h2' (br_f h3 (And.intro hin (br_f h4 (And.intro rfl (zz_in h)))))))
  refine br_t h4 ?_
  by_cases h5 : v2 = 0
  · exact br_t h5 (br_f h1 (br_f h2' (br_f h3 (And.intro hin (br_t h4 (br_t h5 (And.intro rfl (zz_in h))))))))
  have hi2 : vp_in (((nI e * 4) + v2) - 1) 96 := by
    obtain ⟨q, q4, hq⟩ := h.2.2.2.2.1 e heE
    obtain ⟨p, hp, rfl⟩ := nI_of h3
    rw [hel, hq, nI_leI hp (by omega)] at h4
    have hp0 : p ≠ 0 := fun z => h5 (by rw [z]; rfl)
    rw [show (4 : Int32) = nI 4 from rfl, pk_mul, nI_add, show (1 : Int32) = nI 1 from rfl, pk_sub (by omega)]
    exact vp_in_nI (by omega) (by decide)
  exact br_f h5 (And.intro hi2 (br_f h1 (br_f h2' (br_f h3 (And.intro hin (br_t h4 (br_f h5 (And.intro hi2 (And.intro rfl (zz_in h)))))))))) 
theorem i_vc_status {k : Nat} {u : SX} {v : SY} (I : i_Rel k u v) (hk : k + 5 ≤ 2564) (v1 : Int32) : wpX_status (fun r => wpY_status (fun r' => r' = r ∧ i_Rel (k + 5) u v) v v1) u v1 := by
  refine zz_el (Q := fun u v => wpX_status (fun r => wpY_status (fun r' => r' = r ∧ i_Rel (k + 5) u v) v v1) u v1) ?_ I
  intro C El A P a M E ck un pL pC pQ bL bC lW st ow gt gv lm lf fi pd bk ho rL rO rC rE di po pa yb nx yp be h
  obtain ⟨s1, s2, s3, s4, s5, s6, s7, s8⟩ := h.1
  by_cases h3 : v1 < 0
  · exact br_t h3 (br_t h3 (And.intro rfl (zz_in h)))
  by_cases h4 : 8 < v1
  · exact br_f h3 (br_t h4 (br_f h3 (br_f (Int32.not_le.mpr h4) (And.intro rfl (zz_in h)))))
  refine br_f h3 (br_f h4 ?_)
  have h5 : v1 ≤ 8 := Int32.not_lt.mp h4
  obtain ⟨j, hj, rfl⟩ := nI_of2 (n := 8) (M := 8) (by decide) h3 h5
  have hj8 : j = 0 ∨ j = 1 ∨ j = 2 ∨ j = 3 ∨ j = 4 ∨ j = 5 ∨ j = 6 ∨ j = 7 ∨ j = 8 := by omega
  rcases hj8 with rfl | rfl | rfl | rfl | rfl | rfl | rfl | rfl | rfl
  · exact br_t rfl (br_f h3 (br_t h5 (br_f (by decide) (br_t rfl (yr_ok (by omega) (And.intro rfl (zz_in h)))))))
  · exact br_f (by decide) (br_t rfl (br_f h3 (br_t h5 (br_f (by decide) (br_f (by decide) (br_t rfl (And.intro rfl (zz_in h))))))))
  · exact br_f (by decide) (br_f (by decide) (br_t rfl (br_f h3 (br_t h5 (br_f (by decide) (br_f (by decide) (br_f (by decide) (And.intro rfl (zz_in h)))))))))
  · exact br_f (by decide) (br_f (by decide) (br_f (by decide) (br_t rfl (br_f h3 (br_t h5 (br_t (by decide) (br_f (by decide) (br_t rfl (And.intro rfl (zz_in h))))))))))
  · exact br_f (by decide) (br_f (by decide) (br_f (by decide) (br_f (by decide) (br_t rfl (br_f h3 (br_t h5 (br_t (by decide) (br_f (by decide) (br_f (by decide) (br_t rfl (And.intro rfl (zz_in h))))))))))))
  · exact br_f (by decide) (br_f (by decide) (br_f (by decide) (br_f (by decide) (br_f (by decide) (br_t rfl (br_f h3 (br_t h5 (br_t (by decide) (br_f (by decide) (br_f (by decide) (br_f (by decide) (And.intro rfl (zz_in h)))))))))))))
  · exact br_f (by decide) (br_f (by decide) (br_f (by decide) (br_f (by decide) (br_f (by decide) (br_f (by decide) (br_t rfl (br_f h3 (br_t h5 (br_t (by decide) (br_t (by decide) (br_t rfl (And.intro rfl (zz_in h)))))))))))))
  · exact br_f (by decide) (br_f (by decide) (br_f (by decide) (br_f (by decide) (br_f (by decide) (br_f (by decide) (br_f (by decide) (br_t rfl (br_f h3 (br_t h5 (br_t (by decide) (br_t (by decide) (br_f (by decide) (br_t rfl (And.intro rfl (zz_in h)))))))))))))))
  · exact br_f (by decide) (br_f (by decide) (br_f (by decide) (br_f (by decide) (br_f (by decide) (br_f (by decide) (br_f (by decide) (br_f (by decide) (br_t rfl (br_f h3 (br_t h5 (br_t (by decide) (br_t (by decide) (br_f (by decide) (br_f (by decide) (And.intro rfl (zz_in h))))))))))))))))
end
section
theorem i_vc_implied {k : Nat} {u : SX} {v : SY} (I : i_Rel k u v) (hk : k + 5 ≤ 2564) (v1 : Int32) (v2 : Int32) (v3 : Int32) : wpX_implied (fun r u' => wpY_implied (fun r' v' => r' = r ∧ i_Rel (k + 5) u' v') v v1 v2 v3) u v1 v2 v3 := by
  refine zz_el (Q := fun u v => wpX_implied (fun r u' => wpY_implied (fun r' v' => r' = r ∧ i_Rel (k + 5) u' v') v v1 v2 v3) u v1 v2 v3) ?_ I
  intro C El A P a M E ck un pL pC pQ bL bC lW st ow gt gv lm lf fi pd bk ho rL rO rC rE di po pa yb nx yp be h
  obtain ⟨s1, s2, s3, s4, s5, s6, s7, s8⟩ := h.1
  by_cases h1 : v1 < 0
  · exact br_t h1 (br_t rfl (br_t h1 (And.intro rfl (zz_in h))))
  by_cases h2 : 4 < v1
  · exact br_f h1 (br_t h2 (br_t rfl (br_f h1 (br_t h2 (And.intro rfl (zz_in h))))))
  refine br_f h1 (br_f h2 (br_f (by decide) ?_))
  by_cases h3 : v2 < 0
  · exact br_t h3 (br_t rfl (br_f h1 (br_f h2 (br_t h3 (And.intro rfl (zz_in h))))))
  by_cases h4 : 4 < v2
  · exact br_f h3 (br_t h4 (br_t rfl (br_f h1 (br_f h2 (br_f h3 (br_t h4 (And.intro rfl (zz_in h))))))))
  refine br_f h3 (br_f h4 (br_f (by decide) ?_))
  by_cases h5 : v1 = v2
  · exact br_t h5 (br_f h1 (br_f h2 (br_f h3 (br_f h4 (br_t h5 (And.intro rfl (zz_in h)))))))
  by_cases h6 : v3 < 0
  · exact br_f h5 (br_t h6 (br_f h1 (br_f h2 (br_f h3 (br_f h4 (br_f h5 (br_t h6 (And.intro rfl (zz_in h)))))))))
  by_cases h7 : v3 ≤ 2
  case neg => exact br_f h5 (br_f h6 (br_f h7 (br_f h1 (br_f h2 (br_f h3 (br_f h4 (br_f h5 (br_f h6 (br_f h7 (And.intro rfl (zz_in h)))))))))))
  refine br_f h5 (br_f h6 (br_t h7 ?_))
  obtain ⟨x, hx, rfl⟩ := nI_of2 (n := 4) (M := 4) (by decide) h1 (Int32.not_lt.mp h2)
  obtain ⟨y, hy, rfl⟩ := nI_of2 (n := 4) (M := 4) (by decide) h3 (Int32.not_lt.mp h4)
  have hxy : x ≠ y := fun z => h5 (by rw [z])
  obtain ⟨hL, hg⟩ := co_gr h.2.1 h.2.2.1
  obtain ⟨hfb, r, pL', pC', pQ', di', pa', hX, hcase⟩ := xf_ok (cp := nI C) (el := nI El) (ac := nI A) (pl := nI P) (ca := nI a) (ck := ck) (m := nI M) (ex := nI E) (un := un) (pL := pL) (pC := pC) (pQ := pQ) (st := st) (ow := ow) (lf := lf) (fi := fi) (pd := pd) (ho := ho) (rL := rL) (rO := rO) (rC := rC) (rE := rE) (di := di) (po := po) (pa := pa) (L := rl_L st M) (x := x) (y := y) (by omega) (by omega) hxy hL h.2.1.2.1 h.2.1.1 hg
  refine hX _ ?_
  cases hcase with
  | inl hc =>
    obtain ⟨hP, hr⟩ := hc
    subst hr
    refine br_t rfl (br_f h1 (br_f h2 (br_f h3 (br_f h4 (br_f h5 (br_f h6 (br_t h7 ?_)))))))
    refine ys_ok (by omega) (by omega) (by omega) h.2.1.1 hL ?_
    intro yb' nx' yp' be' hbe
    rw [hP]
    exact br_t rfl (And.intro rfl (zz_in h))
  | inr hc =>
    obtain ⟨hP, hr, hpL, hpC, hpQ, hpa⟩ := hc
    subst hr hpL hpC hpQ
    refine br_f (by decide) ?_
    have hlen : (df_B (ar_N gv) (ar_N gt) (ar_c lm) (rl_L st M) x y).1.length ≤ 4 := (df_lb hL).1
    have hne : ¬ nI (df_B (ar_N gv) (ar_N gt) (ar_c lm) (rl_L st M) x y).1.length = 0 := nI_ne0 (List.length_pos_iff.mpr hP) (by omega)
    have hen : ∀ e, e ∈ (df_B (ar_N gv) (ar_N gt) (ar_c lm) (rl_L st M) x y).1 → en_ok gt gv lm e := by
      intro e he
      cases hfb with
      | inl z => exact absurd z.1 hP
      | inr z => exact hL e (wk_mem z.2.2.1 e he)
    by_cases h8 : v3 = 0
    · refine br_t h8 (br_f h1 (br_f h2 (br_f h3 (br_f h4 (br_f h5 (br_f h6 (br_t h7 ?_)))))))
      refine ys_ok (by omega) (by omega) (by omega) h.2.1.1 hL ?_
      intro yb' nx' yp' be' hbe
      exact br_f hne (br_t h8 (And.intro rfl (zz_in h)))
    by_cases h9 : v3 = 1
    · refine br_f h8 (br_t h9 (br_f h1 (br_f h2 (br_f h3 (br_f h4 (br_f h5 (br_f h6 (br_t h7 ?_))))))))
      refine ys_ok (by omega) (by omega) (by omega) h.2.1.1 hL ?_
      intro yb' nx' yp' be' hbe
      exact br_f hne (br_f h8 (br_t h9 (yl_ok hlen hen hbe (And.intro rfl (zz_in h)))))
    · refine br_f h8 (br_f h9 (br_f h1 (br_f h2 (br_f h3 (br_f h4 (br_f h5 (br_f h6 (br_t h7 ?_))))))))
      refine ys_ok (by omega) (by omega) (by omega) h.2.1.1 hL ?_
      intro yb' nx' yp' be' hbe
      exact br_f hne (br_f h8 (br_f h9 (And.intro rfl (zz_in h))))
theorem i_vc_potential {k : Nat} {u : SX} {v : SY} (I : i_Rel k u v) (hk : k + 5 ≤ 2564) (v1 : Int32) : wpX_potential (fun r u' => wpY_potential (fun r' v' => r' = r ∧ i_Rel (k + 5) u' v') v v1) u v1 := by
  refine zz_el (Q := fun u v => wpX_potential (fun r u' => wpY_potential (fun r' v' => r' = r ∧ i_Rel (k + 5) u' v') v v1) u v1) ?_ I
  intro C El A P a M E ck un pL pC pQ bL bC lW st ow gt gv lm lf fi pd bk ho rL rO rC rE di po pa yb nx yp be h
  obtain ⟨s1, s2, s3, s4, s5, s6, s7, s8⟩ := h.1
  by_cases h1 : v1 < 0
  · exact br_t h1 (br_t rfl (br_t h1 (And.intro rfl (zz_in h))))
  by_cases h2 : 4 < v1
  · exact br_f h1 (br_t h2 (br_t rfl (br_f h1 (br_f (Int32.not_le.mpr h2) (And.intro rfl (zz_in h))))))
  have h2' := Int32.not_lt.mp h2
  obtain ⟨y, hy, rfl⟩ := nI_of2 (n := 4) (M := 4) (by decide) h1 h2'
  obtain ⟨hL, hg⟩ := co_gr h.2.1 h.2.2.1
  obtain ⟨po', hpo, hX⟩ := xp_ok (cp := nI C) (el := nI El) (ac := nI A) (pl := nI P) (ca := nI a) (ck := ck) (m := nI M) (ex := nI E) (un := un) (pL := pL) (pC := pC) (pQ := pQ) (st := st) (ow := ow) (lf := lf) (fi := fi) (pd := pd) (ho := ho) (rL := rL) (rO := rO) (rC := rC) (rE := rE) (di := di) (po := po) (pa := pa) (L := rl_L st M) (y := y) (by omega) hL h.2.1.2.1 h.2.1.1 hg
  refine hX _ (br_f h1 (br_t h2' (Exists.intro 6 ?_)))
  have he : Int32.ofInt (pt_Y (ar_N gv) (ar_N gt) (ar_c lm) (rl_L st M) y 5) = po' y := by rw [← hpo, Int32.ofInt_toInt]
  refine yp_l (by omega) (by omega) h.2.1.1 hL ?_ 5 0 6 bL bC lW yb nx yp be rfl (by decide)
  intro bL' bC' lW' yb' nx' yp' be'
  exact And.intro he (zz_in h)
section
variable {cp el ac pl ca ck m ex bL bC lW : Int32} {st ow gt gv lm lf fi pd rL rO rC rE yb nx yp be : Nat → Int32}
/-- holding: the reference's sum -/
theorem yh_l {post : Int32 → Prop} {M b j : Nat} (hM : M ≤ 200) (hj : j < 5) (hp : post (hs_S (hs_1 ow gt gv fi pd b j) M)) : ∀ (r i k : Nat), i + r = M → r < k →
    wY_holding_29 post (nI b) (nI j) cp el ac pl ca ck (nI M) ex bL bC lW st ow gt gv lm lf fi pd rL rO rC rE yb nx yp be k (hs_S (hs_1 ow gt gv fi pd b j) i) (nI (i + 1)) := by
  intro r
  induction r with
  | zero =>
    intro i k hi hk
    cases k with
    | zero => exact absurd hk (Nat.not_lt_zero _)
    | succ k =>
      have : i = M := by omega
      subst this
      exact br_t (nI_lt (by omega) (by omega)) hp
  | succ r ih =>
    intro i k hi hk
    cases k with
    | zero => exact absurd hk (Nat.not_lt_zero _)
    | succ k =>
      have hil : (nI (i + 1)).toNatClampNeg = i + 1 := nI_clamp (by omega)
      have hin : vp_in (nI (i + 1)) 201 := vp_in_nI (by omega) (by decide)
      have hr := ih (i + 1) k (by omega) (by omega)
      have e0 : hs_S (hs_1 ow gt gv fi pd b j) (i + 1) = hs_S (hs_1 ow gt gv fi pd b j) i + hs_1 ow gt gv fi pd b j (i + 1) := rfl
      rw [e0] at hr
      refine br_f (nI_nlt (by omega) (by omega)) ⟨hin, ?_⟩
      rw [hil]
      by_cases h1 : ow (i + 1) = nI b
      · by_cases h2 : j = 0
        · have e1 : hs_1 ow gt gv fi pd b j (i + 1) = -(pd (i + 1)) := by unfold hs_1; rw [if_pos h1, if_pos h2]
          rw [e1, ← Int32.sub_eq_add_neg] at hr
          have h2' : nI j = 0 := by rw [h2]; rfl
          refine br_t h1 (br_t h2' ⟨hin, nm_e (And.intro hin ?_)⟩)
          rw [hil]
          refine br_t h1 (br_t h2' (And.intro hin ?_))
          rw [hil]
          exact br_t h1 (br_t h2' (nm_r (nI_1 _) hr))
        · have h2' : ¬ nI j = 0 := nI_ne0 (by omega) (by omega)
          have e1 : hs_1 ow gt gv fi pd b j (i + 1) = (if gt (i + 1) = nI j then fi (i + 1) else 0) - (if gv (i + 1) = nI j then fi (i + 1) else 0) := by unfold hs_1; rw [if_pos h1, if_neg h2]
          rw [e1] at hr
          refine br_t h1 (br_f h2' (And.intro hin ?_))
          rw [hil]
          by_cases h3 : gt (i + 1) = nI j
          · rw [if_pos h3] at hr
            refine br_t h1 (br_f h2' ⟨hin, br_t h3 ⟨hin, nm_e (And.intro hin ?_)⟩⟩)
            rw [hil]
            by_cases h4 : gv (i + 1) = nI j
            · rw [if_pos h4] at hr
              exact br_t h1 (br_f h2' ⟨hin, br_t h4 ⟨hin, nm_r (by grind) (nm_r (nI_1 _) hr)⟩⟩)
            · rw [if_neg h4] at hr
              rw [Int32.sub_zero] at hr
              exact br_t h1 (br_f h2' ⟨hin, br_f h4 (nm_r (nI_1 _) hr)⟩)
          · rw [if_neg h3] at hr
            refine br_t h1 (br_f h2' ⟨hin, br_f h3 (And.intro hin ?_)⟩)
            rw [hil]
            by_cases h4 : gv (i + 1) = nI j
            · rw [if_pos h4] at hr
              exact br_t h1 (br_f h2' ⟨hin, br_t h4 ⟨hin, nm_r (by grind) (nm_r (nI_1 _) hr)⟩⟩)
            · rw [if_neg h4] at hr
              rw [Int32.sub_zero, Int32.add_zero] at hr
              exact br_t h1 (br_f h2' ⟨hin, br_f h4 (nm_r (nI_1 _) hr)⟩)
      · have e1 : hs_1 ow gt gv fi pd b j (i + 1) = 0 := by unfold hs_1; rw [if_neg h1]
        rw [e1, Int32.add_zero] at hr
        refine br_f h1 (And.intro hin ?_)
        rw [hil]
        refine br_f h1 (And.intro hin ?_)
        rw [hil]
        exact br_f h1 (nm_r (nI_1 _) hr)
end
theorem i_vc_holding {k : Nat} {u : SX} {v : SY} (I : i_Rel k u v) (hk : k + 5 ≤ 2564) (v1 : Int32) (v2 : Int32) : wpX_holding (fun r => wpY_holding (fun r' => r' = r ∧ i_Rel (k + 5) u v) v v1 v2) u v1 v2 := by
  refine zz_el (Q := fun u v => wpX_holding (fun r => wpY_holding (fun r' => r' = r ∧ i_Rel (k + 5) u v) v v1 v2) u v1 v2) ?_ I
  intro C El A P a M E ck un pL pC pQ bL bC lW st ow gt gv lm lf fi pd bk ho rL rO rC rE di po pa yb nx yp be h
  obtain ⟨s1, s2, s3, s4, s5, s6, s7, s8⟩ := h.1
  by_cases h1 : v1 < 0
  · exact br_t h1 (br_t rfl (br_t h1 (And.intro rfl (zz_in h))))
  by_cases h2 : nI A ≤ v1
  · exact br_f h1 (br_t h2 (br_t rfl (br_f h1 (br_t h2 (And.intro rfl (zz_in h))))))
  refine br_f h1 (br_f h2 (br_f (by decide) ?_))
  by_cases h3 : v2 < 0
  · exact br_t h3 (br_t rfl (br_f h1 (br_f h2 (br_t h3 (And.intro rfl (zz_in h))))))
  by_cases h4 : 4 < v2
  · exact br_f h3 (br_t h4 (br_t rfl (br_f h1 (br_f h2 (br_f h3 (br_f (Int32.not_le.mpr h4) (And.intro rfl (zz_in h))))))))
  have h4' := Int32.not_lt.mp h4
  obtain ⟨b, hb, rfl⟩ := nI_of h1
  have hbA : b < A := by
    rw [nI_leI (by omega) hb] at h2
    omega
  obtain ⟨j, hj, rfl⟩ := nI_of2 (n := 4) (M := 4) (by decide) h3 h4'
  have e1 : nI b * 5 + nI j = nI (b * 5 + j) := by rw [show (5 : Int32) = nI 5 from rfl, pk_mul, nI_add]
  have e2 : (nI (b * 5 + j)).toNatClampNeg = b * 5 + j := nI_clamp (by omega)
  refine br_f h3 (br_f h4 (br_f (by decide) ?_))
  rw [e1, e2, h.2.2.2.2.2 b j (by omega) (by omega)]
  refine ⟨vp_in_nI (by omega) (by decide), br_f h1 (br_f h2 (br_f h3 (br_t h4' (Exists.intro (M + 1) ?_))))⟩
  exact yh_l (by omega) (by omega) (And.intro rfl (zz_in h)) M 0 (M + 1) (by omega) (by omega)
theorem i_vc_shrink {k : Nat} {u : SX} {v : SY} (I : i_Rel k u v) (hk : k + 5 ≤ 2564) (v1 : Int32) (v2 : Int32) : wpX_shrink (fun r u' => wpY_shrink (fun r' v' => r' = r ∧ i_Rel (k + 5) u' v') v v1 v2) u v1 v2 := by
  refine zz_el (Q := fun u v => wpX_shrink (fun r u' => wpY_shrink (fun r' v' => r' = r ∧ i_Rel (k + 5) u' v') v v1 v2) u v1 v2) ?_ I
  intro C El A P a M E ck un pL pC pQ bL bC lW st ow gt gv lm lf fi pd bk ho rL rO rC rE di po pa yb nx yp be h
  obtain ⟨s1, s2, s3, s4, s5, s6, s7, s8⟩ := h.1
  by_cases h1 : v1 < 1
  · exact br_t h1 (br_t rfl (br_f (by decide) (br_t h1 (br_f (by decide) (And.intro rfl (zz_in h))))))
  by_cases h2 : nI M < v1
  · exact br_f h1 (br_t h2 (br_t rfl (br_f (by decide) (br_f h1 (br_f (Int32.not_le.mpr h2) (br_f (by decide) (And.intro rfl (zz_in h))))))))
  have h2' := Int32.not_lt.mp h2
  obtain ⟨e, e1, e2, rfl⟩ := in_of (by omega) h1 h2
  have hin : vp_in (nI e) 201 := vp_in_nI (by omega) (by decide)
  have hel : (nI e).toNatClampNeg = e := nI_clamp (by omega)
  refine br_f h1 (br_f h2 (br_f (by decide) ⟨hin, ?_⟩))
  try rw [hel]
  by_cases h3 : ow e = nI a
  case neg =>
    refine br_f h3 (br_f (by decide) (br_f h1 (br_t h2' ⟨hin, ?_⟩)))
    try rw [hel]
    exact br_f h3 (br_f (by decide) (And.intro rfl (zz_in h)))
  refine br_t h3 ⟨hin, ?_⟩
  by_cases h4 : st e = 1
  case neg =>
    refine br_f h4 (br_f (by decide) (br_f h1 (br_t h2' ⟨hin, ?_⟩)))
    try rw [hel]
    exact br_t h3 ⟨hin, br_f h4 (br_f (by decide) (And.intro rfl (zz_in h)))⟩
  refine br_t h4 (br_t rfl ?_)
  by_cases h5 : v2 < 1
  · refine br_t h5 (br_f h1 (br_t h2' ⟨hin, ?_⟩))
    try rw [hel]
    exact br_t h3 ⟨hin, br_t h4 (br_t rfl (br_t h5 (And.intro rfl (zz_in h))))⟩
  refine br_f h5 ⟨hin, ?_⟩
  try rw [hel]
  by_cases h6 : v2 < lf e
  case neg =>
    refine br_f h6 (br_f h1 (br_t h2' ⟨hin, ?_⟩))
    try rw [hel]
    refine br_t h3 ⟨hin, br_t h4 (br_t rfl (br_f h5 ⟨hin, ?_⟩))⟩
    try rw [hel]
    exact br_f h6 (And.intro rfl (zz_in h))
  refine br_t h6 ⟨hin, nm_e ⟨hin, nm_e (br_f h1 (br_t h2' ⟨hin, ?_⟩))⟩⟩
  try rw [hel]
  refine br_t h3 ⟨hin, br_t h4 (br_t rfl (br_f h5 ⟨hin, ?_⟩))⟩
  try rw [hel]
  refine br_t h6 ⟨hin, nm_e ⟨hin, nm_e (And.intro rfl (zz_in ?_))⟩⟩
  obtain ⟨hS, hB, hE, hF, hR, hH⟩ := h
  refine ⟨hS, hB, ?_, hF, hR, hH⟩
  intro x x1 x2
  obtain ⟨a1, a2, a3⟩ := hE x x1 x2
  refine ⟨a1, a2, ?_⟩
  intro hx
  by_cases hxe : x = e
  · subst hxe
    rw [pk_us]
    have := a3 hx
    have h7 := Int32.lt_iff_toInt_lt.mp h6
    rw [Int32.lt_iff_toInt_lt, show (1 : Int32).toInt = 1 from by decide] at h5
    omega
  · rw [pk_un hxe]
    exact a3 hx
end
section
section
variable {cp el ac pl ca ck m n ex un pL pC pQ : Int32} {st ow gt gv lm lf fi pd bk ho rL rO rC rE di po pa : Nat → Int32}
/-- removeFromBook: its loop -/
theorem xb_l {N e0 : Nat} (hN : N ≤ 24) (h0 : e0 ≤ 200) : ∀ (l kp : List Nat) (i : Nat) (bk : Nat → Int32), (∀ e, e ∈ l → e ≤ 200) → hd_a bk i l → hd_a bk 0 kp → kp.length ≤ i → i + l.length = N →
    ∃ bk', hd_a bk' 0 (kp ++ l.filter (fun y => decide (y ≠ e0))) ∧ ∀ (post : SX → Prop) (k : Nat), l.length < k → post (cp, el, ac, pl, ca, ck, m, nI (kp ++ l.filter (fun y => decide (y ≠ e0))).length, ex, un, pL, pC, pQ, st, ow, gt, gv, lm, lf, fi, pd, bk', ho, rL, rO, rC, rE, di, po, pa) →
      wX_removeFromBook_4 post (nI e0) cp el ac pl ca ck m (nI N) ex un pL pC pQ k (nI kp.length) (nI i) st ow gt gv lm lf fi pd bk ho rL rO rC rE di po pa := by
  intro l
  induction l with
  | nil =>
    intro kp i bk _ _ hkp _ hi
    rw [List.length_nil] at hi
    refine ⟨bk, by rw [List.filter_nil, List.append_nil]; exact hkp, ?_⟩
    intro post k hk hp
    cases k with
    | zero => exact absurd hk (Nat.not_lt_zero _)
    | succ k =>
      rw [List.filter_nil, List.append_nil] at hp
      exact br_t (nI_le (by omega) (by omega)) hp
  | cons e l ih =>
    intro kp i bk hl hb hkp hki hi
    rw [List.length_cons] at hi
    have he := hl e List.mem_cons_self
    have hl' : ∀ x, x ∈ l → x ≤ 200 := fun x hx => hl x (List.mem_cons_of_mem _ hx)
    have hil : (nI i).toNatClampNeg = i := nI_clamp (by omega)
    have hkl : (nI kp.length).toNatClampNeg = kp.length := nI_clamp (by omega)
    have hin : vp_in (nI i) 24 := vp_in_nI (by omega) (by decide)
    by_cases hq : e = e0
    · have e1 : (e :: l).filter (fun y => decide (y ≠ e0)) = l.filter (fun y => decide (y ≠ e0)) := by simp [hq]
      rw [e1]
      obtain ⟨bk', h1, h2⟩ := ih kp (i + 1) bk hl' hb.2 hkp (by omega) (by omega)
      refine ⟨bk', h1, ?_⟩
      intro post k hk hp
      rw [List.length_cons] at hk
      cases k with
      | zero => exact absurd hk (Nat.not_lt_zero _)
      | succ k =>
        refine br_f (nI_ge (by omega) (by omega)) ⟨hin, ?_⟩
        rw [hil, hb.1]
        exact br_t (by rw [hq]) (nm_r (nI_1 i) (h2 post k (by omega) hp))
    · have e1 : (e :: l).filter (fun y => decide (y ≠ e0)) = e :: l.filter (fun y => decide (y ≠ e0)) := by simp [hq]
      have e2 : (kp ++ [e]).length = kp.length + 1 := by rw [List.length_append]; rfl
      have e3 : kp ++ e :: l.filter (fun y => decide (y ≠ e0)) = (kp ++ [e]) ++ l.filter (fun y => decide (y ≠ e0)) := by rw [List.append_assoc]; rfl
      rw [e1, e3]
      obtain ⟨bk', h1, h2⟩ := ih (kp ++ [e]) (i + 1) (upd bk kp.length (nI e)) hl' (hd_lo (by omega) hb.2) (hd_snoc (Nat.zero_add _).symm hkp) (by omega) (by omega)
      refine ⟨bk', h1, ?_⟩
      intro post k hk hp
      rw [List.length_cons] at hk
      cases k with
      | zero => exact absurd hk (Nat.not_lt_zero _)
      | succ k =>
        refine br_f (nI_ge (by omega) (by omega)) ⟨hin, ?_⟩
        rw [hil, hkl, hb.1]
        have h3 := h2 post k (by omega) hp
        rw [e2] at h3
        exact br_f (fun z => hq ((nI_eq (by omega) (by omega)).mp z)) ⟨hin, vp_in_nI (by omega) (by decide), nm_e (nm_r (nI_1 _) (nm_r (nI_1 i) h3))⟩
theorem xb_ok {L : List Nat} {e0 : Nat} (hN : L.length ≤ 24) (h0 : e0 ≤ 200) (hl : ∀ e, e ∈ L → e ≤ 200) (hb : hd_a bk 0 L) :
    ∃ bk', hd_a bk' 0 (L.filter (fun y => decide (y ≠ e0))) ∧ ∀ (post : SX → Prop), post (cp, el, ac, pl, ca, ck, m, nI (L.filter (fun y => decide (y ≠ e0))).length, ex, un, pL, pC, pQ, st, ow, gt, gv, lm, lf, fi, pd, bk', ho, rL, rO, rC, rE, di, po, pa) → wpX_removeFromBook post (cp, el, ac, pl, ca, ck, m, nI L.length, ex, un, pL, pC, pQ, st, ow, gt, gv, lm, lf, fi, pd, bk, ho, rL, rO, rC, rE, di, po, pa) (nI e0) := by
  obtain ⟨bk', h1, h2⟩ := xb_l (cp := cp) (el := el) (ac := ac) (pl := pl) (ca := ca) (ck := ck) (m := m) (ex := ex) (un := un) (pL := pL) (pC := pC) (pQ := pQ) (st := st) (ow := ow) (gt := gt) (gv := gv) (lm := lm) (lf := lf) (fi := fi) (pd := pd) (ho := ho) (rL := rL) (rO := rO) (rC := rC) (rE := rE) (di := di) (po := po) (pa := pa) hN h0 L [] 0 bk hl hb trivial (Nat.le_refl _) (by omega)
  refine ⟨bk', h1, fun post hp => Exists.intro (L.length + 1) (h2 post (L.length + 1) (by omega) hp)⟩
end
/-- an entry leaves the book -/
theorem co_drop {C El A P a M E : Nat} {ck : Int32} {st ow gt gv lm lf fi pd rL bk ho : Nat → Int32} (h : co_R C El A P a M E ck st ow gt gv lm lf fi pd rL bk ho) {e : Nat} {x : Int32} {lf' bk' : Nat → Int32}
    (he : e ≤ M) (hx : x ≠ 1) (hlf : ∀ y, y ≠ e → lf' y = lf y) (hb : hd_a bk' 0 ((rl_L st M).filter (fun y => decide (y ≠ e)))) : co_R C El A P a M E ck (upd st e x) ow gt gv lm lf' fi pd rL bk' ho := by
  obtain ⟨hS, hB, hE, hF, hR, hH⟩ := h
  refine ⟨hS, ⟨?_, ?_, ?_⟩, ?_, ?_, hR, hH⟩
  · rw [rl_rem hx]
    exact Nat.le_trans (List.length_filter_le _ _) hB.1
  · rw [rl_rem hx]; exact hb
  · rw [rl_rem hx]
    exact wk_I_mono (fun y hy => (List.mem_filter.mp hy).1) hB.2.2
  · intro y y1 y2
    obtain ⟨a1, a2, a3⟩ := hE y y1 y2
    refine ⟨a1, a2, ?_⟩
    intro hy
    by_cases hye : y = e
    · subst hye
      rw [pk_us] at hy
      exact absurd hy hx
    · rw [pk_un hye] at hy
      rw [hlf y hye]
      exact a3 hy
  · intro y hy
    rw [pk_un (by omega)]
    exact hF y hy
section
variable {cp el ac pl ca ck m n ex un pL pC pQ : Int32} {st ow gt gv lm lf fi pd bk ho rL rO rC rE di po pa : Nat → Int32}
/-- cancelResting -/
theorem xc_ok {C El A P a M E e : Nat} (h : co_R C El A P a M E ck st ow gt gv lm lf fi pd rL bk ho) (h1 : 1 ≤ e) (h2 : e ≤ M) :
    ∃ bk', co_R C El A P a M E ck (upd st e 3) ow gt gv lm (upd lf e 0) fi pd rL bk' ho ∧ ∀ (post : SX → Prop), post (nI C, nI El, nI A, nI P, nI a, ck, nI M, nI (rl_L (upd st e 3) M).length, nI E, un, pL, pC, pQ, upd st e 3, ow, gt, gv, lm, upd lf e 0, fi, pd, bk', ho, rL, rO, rC, rE, di, po, pa) → wpX_cancelResting post (nI C, nI El, nI A, nI P, nI a, ck, nI M, nI (rl_L st M).length, nI E, un, pL, pC, pQ, st, ow, gt, gv, lm, lf, fi, pd, bk, ho, rL, rO, rC, rE, di, po, pa) (nI e) := by
  obtain ⟨s1, s2, s3, s4, s5, s6, s7, s8⟩ := h.1
  have hin : vp_in (nI e) 201 := vp_in_nI (by omega) (by decide)
  have hel : (nI e).toNatClampNeg = e := nI_clamp (by omega)
  obtain ⟨bk', k1, k2⟩ := xb_ok (cp := nI C) (el := nI El) (ac := nI A) (pl := nI P) (ca := nI a) (ck := ck) (m := nI M) (ex := nI E) (un := un) (pL := pL) (pC := pC) (pQ := pQ) (st := upd st e 3) (ow := ow) (gt := gt) (gv := gv) (lm := lm) (lf := upd lf e 0) (fi := fi) (pd := pd) (bk := bk) (ho := ho) (rL := rL) (rO := rO) (rC := rC) (rE := rE) (di := di) (po := po) (pa := pa) (L := rl_L st M) (e0 := e) h.2.1.1 (by omega) (fun x hx => by have := (rl_mem.mp hx).2.1; omega) h.2.1.2.1
  refine ⟨bk', co_drop h h2 (by decide) (fun y hy => pk_un hy) k1, ?_⟩
  intro post hp
  refine And.intro hin ?_
  rw [hel]
  refine nm_e ⟨hin, nm_e (k2 _ ?_)⟩
  rw [rl_rem (by decide)] at hp
  exact hp
end
theorem i_vc_cancel {k : Nat} {u : SX} {v : SY} (I : i_Rel k u v) (hk : k + 5 ≤ 2564) (v1 : Int32) : wpX_cancel (fun r u' => wpY_cancel (fun r' v' => r' = r ∧ i_Rel (k + 5) u' v') v v1) u v1 := by
  refine zz_el (Q := fun u v => wpX_cancel (fun r u' => wpY_cancel (fun r' v' => r' = r ∧ i_Rel (k + 5) u' v') v v1) u v1) ?_ I
  intro C El A P a M E ck un pL pC pQ bL bC lW st ow gt gv lm lf fi pd bk ho rL rO rC rE di po pa yb nx yp be h
  obtain ⟨s1, s2, s3, s4, s5, s6, s7, s8⟩ := h.1
  by_cases h1 : v1 < 1
  · exact br_t h1 (br_t rfl (br_f (by decide) (br_t h1 (br_f (by decide) (And.intro rfl (zz_in h))))))
  by_cases h2 : nI M < v1
  · exact br_f h1 (br_t h2 (br_t rfl (br_f (by decide) (br_f h1 (br_f (Int32.not_le.mpr h2) (br_f (by decide) (And.intro rfl (zz_in h))))))))
  have h2' := Int32.not_lt.mp h2
  obtain ⟨e, e1, e2, rfl⟩ := in_of (by omega) h1 h2
  have hin : vp_in (nI e) 201 := vp_in_nI (by omega) (by decide)
  have hel : (nI e).toNatClampNeg = e := nI_clamp (by omega)
  refine br_f h1 (br_f h2 (br_f (by decide) ⟨hin, ?_⟩))
  rw [hel]
  by_cases h3 : ow e = nI a
  case neg =>
    refine br_f h3 (br_f (by decide) (br_f h1 (br_t h2' ⟨hin, ?_⟩)))
    try rw [hel]
    exact br_f h3 (br_f (by decide) (And.intro rfl (zz_in h)))
  refine br_t h3 ⟨hin, ?_⟩
  by_cases h4 : st e = 1
  case neg =>
    refine br_f h4 (br_f (by decide) (br_f h1 (br_t h2' ⟨hin, ?_⟩)))
    try rw [hel]
    exact br_t h3 ⟨hin, br_f h4 (br_f (by decide) (And.intro rfl (zz_in h)))⟩
  refine br_t h4 (br_t rfl ⟨hin, ?_⟩)
  try rw [hel]
  obtain ⟨bk', k1, k2⟩ := xc_ok (ck := ck) (un := un) (pL := pL) (pC := pC) (pQ := pQ) (st := st) (ow := ow) (gt := gt) (gv := gv) (lm := lm) (lf := lf) (fi := fi) (pd := pd) (bk := bk) (ho := ho) (rL := rL) (rO := rO) (rC := rC) (rE := rE) (di := di) (po := po) (pa := pa) h e1 e2
  refine nm_e (k2 _ (br_f h1 (br_t h2' ⟨hin, ?_⟩)))
  try rw [hel]
  refine br_t h3 ⟨hin, br_t h4 (br_t rfl ⟨hin, ?_⟩)⟩
  try rw [hel]
  exact nm_e ⟨hin, nm_e ⟨hin, nm_e (And.intro rfl (zz_in k1))⟩⟩
/-- the states and lots when the listed own entries are cancelled -/
def cx_u (ow : Nat → Int32) (a : Nat) (z : Int32) (R : List Nat) (f : Nat → Int32) : Nat → Int32 := fun x => if x ∈ R ∧ ow x = nI a then z else f x
theorem cx_nil {ow : Nat → Int32} {a : Nat} {z : Int32} {f : Nat → Int32} : cx_u ow a z [] f = f := by
  funext x
  exact if_neg (fun h => absurd h.1 List.not_mem_nil)
theorem cx_mem {ow : Nat → Int32} {a : Nat} {z : Int32} {f : Nat → Int32} {R R' : List Nat} (h : ∀ x, x ∈ R ↔ x ∈ R') : cx_u ow a z R f = cx_u ow a z R' f := by
  funext x
  unfold cx_u
  by_cases hc : x ∈ R' ∧ ow x = nI a
  · rw [if_pos hc, if_pos ⟨(h x).mpr hc.1, hc.2⟩]
  · rw [if_neg hc, if_neg (fun z => hc ⟨(h x).mp z.1, z.2⟩)]
theorem cx_own {ow : Nat → Int32} {a : Nat} {z : Int32} {f : Nat → Int32} {e : Nat} {R : List Nat} (h : ow e = nI a) : cx_u ow a z R (upd f e z) = cx_u ow a z (e :: R) f := by
  funext x
  unfold cx_u
  by_cases hx : x = e
  · subst hx
    rw [if_pos (show x ∈ x :: R ∧ ow x = nI a from ⟨List.mem_cons_self, h⟩)]
    split
    · rfl
    · exact pk_us
  · rw [pk_un hx]
    by_cases hc : x ∈ R ∧ ow x = nI a
    · rw [if_pos hc, if_pos ⟨List.mem_cons_of_mem _ hc.1, hc.2⟩]
    · rw [if_neg hc, if_neg]
      intro hd
      refine hc ⟨?_, hd.2⟩
      cases hd.1 with
      | head => exact absurd rfl hx
      | tail _ q => exact q
theorem cx_not {ow : Nat → Int32} {a : Nat} {z : Int32} {f : Nat → Int32} {e : Nat} {R : List Nat} (h : ¬ ow e = nI a) : cx_u ow a z R f = cx_u ow a z (e :: R) f := by
  funext x
  unfold cx_u
  by_cases hc : x ∈ R ∧ ow x = nI a
  · rw [if_pos hc, if_pos ⟨List.mem_cons_of_mem _ hc.1, hc.2⟩]
  · rw [if_neg hc, if_neg]
    intro hd
    refine hc ⟨?_, hd.2⟩
    cases hd.1 with
    | head => exact absurd hd.2 h
    | tail _ q => exact q
theorem fl_nd {l1 l2 : List Nat} {e : Nat} (h : (l1 ++ e :: l2).Nodup) : (l1 ++ e :: l2).filter (fun y => decide (y ≠ e)) = l1 ++ l2 := by
  have h1 := List.nodup_append.mp h
  have h2 := List.nodup_cons.mp h1.2.1
  rw [List.filter_append, List.filter_cons]
  have e1 : l1.filter (fun y => decide (y ≠ e)) = l1 := by
    refine List.filter_eq_self.mpr ?_
    intro x hx
    have := h1.2.2 x hx e List.mem_cons_self
    simp [this]
  have e2 : l2.filter (fun y => decide (y ≠ e)) = l2 := by
    refine List.filter_eq_self.mpr ?_
    intro x hx
    have : x ≠ e := fun z => h2.1 (by rw [← z]; exact hx)
    simp [this]
  rw [e1, e2]
  simp
section
variable {cp el ac pl ca ck m n ex un pL pC pQ : Int32} {st ow gt gv lm lf fi pd bk ho rL rO rC rE di po pa : Nat → Int32}
/-- cancelAll: X's loop, from the end of the book -/
theorem xa_l {C El A P a M E : Nat} : ∀ (R K : List Nat) (c : Nat) (st lf bk : Nat → Int32), rl_L st M = R.reverse ++ K → co_R C El A P a M E ck st ow gt gv lm lf fi pd rL bk ho →
    ∃ bk', co_R C El A P a M E ck (cx_u ow a 3 R st) ow gt gv lm (cx_u ow a 0 R lf) fi pd rL bk' ho ∧ ∀ (post : Int32 → SX → Prop) (k : Nat), R.length < k →
      post (nI (c + R.countP (fun e => decide (ow e = nI a)))) (nI C, nI El, nI A, nI P, nI a, ck, nI M, nI (rl_L (cx_u ow a 3 R st) M).length, nI E, un, pL, pC, pQ, cx_u ow a 3 R st, ow, gt, gv, lm, cx_u ow a 0 R lf, fi, pd, bk', ho, rL, rO, rC, rE, di, po, pa) →
      wX_cancelAll_9 post k (nI c) (nI R.length + (-1)) (nI C) (nI El) (nI A) (nI P) (nI a) ck (nI M) (nI (rl_L st M).length) (nI E) un pL pC pQ st ow gt gv lm lf fi pd bk ho rL rO rC rE di po pa := by
  intro R
  induction R with
  | nil =>
    intro K c st lf bk hL h
    rw [cx_nil, cx_nil]
    refine ⟨bk, h, ?_⟩
    intro post k hk hp
    cases k with
    | zero => exact absurd hk (Nat.not_lt_zero _)
    | succ k => exact br_t (by decide) hp
  | cons e R ih =>
    intro K c st lf bk hL h
    obtain ⟨s1, s2, s3, s4, s5, s6, s7, s8⟩ := h.1
    have hL2 : rl_L st M = R.reverse ++ e :: K := by rw [hL, List.reverse_cons, List.append_assoc]; rfl
    have heL : e ∈ rl_L st M := by rw [hL2]; simp
    obtain ⟨e1, e2, e3⟩ := rl_mem.mp heL
    have hlen : R.length < 24 := by
      have := h.2.1.1
      rw [hL2, List.length_append, List.length_reverse, List.length_cons] at this
      omega
    have hx2 : nI (e :: R).length + (-1) = nI R.length := pk_m1 _
    have hRl : (nI R.length).toNatClampNeg = R.length := nI_clamp (by omega)
    have hel : (nI e).toNatClampNeg = e := nI_clamp (by omega)
    have hbk : bk R.length = nI e := by
      have h3 := h.2.1.2.1
      rw [hL2] at h3
      have := hd_at h3
      rw [Nat.zero_add, List.length_reverse] at this
      exact this
    by_cases hown : ow e = nI a
    · obtain ⟨bk1, k1, k2⟩ := xc_ok (ck := ck) (un := un) (pL := pL) (pC := pC) (pQ := pQ) (st := st) (ow := ow) (gt := gt) (gv := gv) (lm := lm) (lf := lf) (fi := fi) (pd := pd) (bk := bk) (ho := ho) (rL := rL) (rO := rO) (rC := rC) (rE := rE) (di := di) (po := po) (pa := pa) h e1 e2
      have hL3 : rl_L (upd st e 3) M = R.reverse ++ K := by
        rw [rl_rem (by decide), hL2]
        refine fl_nd ?_
        rw [← hL2]
        exact rl_nd
      obtain ⟨bk', m1, m2⟩ := ih K (c + 1) (upd st e 3) (upd lf e 0) bk1 hL3 k1
      rw [cx_own hown, cx_own hown] at m1 m2
      refine ⟨bk', m1, ?_⟩
      intro post k hk hp
      cases k with
      | zero => exact absurd hk (Nat.not_lt_zero _)
      | succ k =>
        have ec : (e :: R).countP (fun e => decide (ow e = nI a)) = R.countP (fun e => decide (ow e = nI a)) + 1 := List.countP_cons_of_pos (by simp [hown])
        have ec2 : c + (R.countP (fun e => decide (ow e = nI a)) + 1) = c + 1 + R.countP (fun e => decide (ow e = nI a)) := by omega
        rw [ec, ec2] at hp
        rw [hx2]
        refine br_f (nI_pos (by omega)) ⟨vp_in_nI (by omega) (by decide), nm_r (e' := nI e) (by rw [hRl]; exact hbk) ⟨vp_in_nI (by omega) (by decide), ?_⟩⟩
        rw [hel]
        refine br_t hown (k2 _ (nm_r (nI_1 c) (nm_e (m2 post k ?_ hp))))
        rw [List.length_cons] at hk
        omega
    · obtain ⟨bk', m1, m2⟩ := ih (e :: K) c st lf bk hL2 h
      rw [cx_not (z := 3) (f := st) (R := R) hown, cx_not (z := 0) (f := lf) (R := R) hown] at m1 m2
      refine ⟨bk', m1, ?_⟩
      intro post k hk hp
      cases k with
      | zero => exact absurd hk (Nat.not_lt_zero _)
      | succ k =>
        have ec : (e :: R).countP (fun e => decide (ow e = nI a)) = R.countP (fun e => decide (ow e = nI a)) := List.countP_cons_of_neg (by simp [hown])
        rw [ec] at hp
        rw [hx2]
        refine br_f (nI_pos (by omega)) ⟨vp_in_nI (by omega) (by decide), nm_r (e' := nI e) (by rw [hRl]; exact hbk) ⟨vp_in_nI (by omega) (by decide), ?_⟩⟩
        rw [hel]
        refine br_f hown (nm_e (m2 post k ?_ hp))
        rw [List.length_cons] at hk
        omega
end
section
variable {cp el ac pl ca ck m ex bL bC lW : Int32} {st ow gt gv lm lf fi pd rL rO rC rE yb nx yp be : Nat → Int32}
/-- cancelAll: Y's loop -/
theorem ya_l {C El A P a M E : Nat} {bk ho : Nat → Int32} (h : co_R C El A P a M E ck st ow gt gv lm lf fi pd rL bk ho) {post : Int32 → SY → Prop}
    (hp : post (nI ((rl_L st M).countP (fun e => decide (ow e = nI a)))) (nI C, nI El, nI A, nI P, nI a, ck, nI M, nI E, bL, bC, lW, cx_u ow a 3 (rl_L st M) st, ow, gt, gv, lm, cx_u ow a 0 (rl_L st M) lf, fi, pd, rL, rO, rC, rE, yb, nx, yp, be)) : ∀ (r j k : Nat), j + r = M → r < k →
    wY_cancelAll_4 post k (nI ((rl_L st j).countP (fun e => decide (ow e = nI a)))) (nI (j + 1)) (nI C) (nI El) (nI A) (nI P) (nI a) ck (nI M) (nI E) bL bC lW (cx_u ow a 3 (rl_L st j) st) ow gt gv lm (cx_u ow a 0 (rl_L st j) lf) fi pd rL rO rC rE yb nx yp be := by
  obtain ⟨s1, s2, s3, s4, s5, s6, s7, s8⟩ := h.1
  intro r
  induction r with
  | zero =>
    intro j k hj hk
    cases k with
    | zero => exact absurd hk (Nat.not_lt_zero _)
    | succ k =>
      have : j = M := by omega
      subst this
      exact br_t (nI_lt (by omega) (by omega)) hp
  | succ r ih =>
    intro j k hj hk
    cases k with
    | zero => exact absurd hk (Nat.not_lt_zero _)
    | succ k =>
      have hel : (nI (j + 1)).toNatClampNeg = j + 1 := nI_clamp (by omega)
      have hin : vp_in (nI (j + 1)) 201 := vp_in_nI (by omega) (by decide)
      have hr := ih (j + 1) k (by omega) (by omega)
      have hnot : j + 1 ∉ rl_L st j := fun z => by have := (rl_mem.mp z).2.1; omega
      have hst : cx_u ow a 3 (rl_L st j) st (j + 1) = st (j + 1) := if_neg (fun z => hnot z.1)
      have hlf : cx_u ow a 0 (rl_L st j) lf (j + 1) = lf (j + 1) := if_neg (fun z => hnot z.1)
      refine br_f (nI_nlt (by omega) (by omega)) ?_
      refine br_f (nI_nlt (b := 1) (by omega) (by omega)) (br_t (nI_le (by omega) (by omega)) ⟨hin, ?_⟩)
      rw [hel]
      have cxa : ∀ (z : Int32) (f : Nat → Int32), cx_u ow a z (rl_L st j ++ [j + 1]) f = cx_u ow a z ((j + 1) :: rl_L st j) f := by
        intro z f
        refine cx_mem (fun x => ?_)
        simp only [List.mem_append, List.mem_cons, List.not_mem_nil, or_false]
        exact Or.comm
      by_cases hown : ow (j + 1) = nI a
      · refine br_t hown ⟨hin, ?_⟩
        rw [hst]
        by_cases h1 : st (j + 1) = 1
        · have e1 : rl_L st (j + 1) = rl_L st j ++ [j + 1] := if_pos h1
          have hlf1 := (h.2.2.1 (j + 1) (by omega) (by omega)).2.2 h1
          rw [e1, List.countP_append, cxa, cxa] at hr
          have ec : [j + 1].countP (fun e => decide (ow e = nI a)) = 1 := by simp [hown]
          rw [ec] at hr
          have u1 : upd (cx_u ow a 3 (rl_L st j) st) (j + 1) 3 = cx_u ow a 3 ((j + 1) :: rl_L st j) st := by
            rw [← cx_own hown]
            funext x
            unfold cx_u upd
            by_cases hx : x = j + 1
            · rw [if_pos hx, if_pos hx]
              split <;> rfl
            · rw [if_neg hx, if_neg hx]
          have u2 : upd (cx_u ow a 0 (rl_L st j) lf) (j + 1) 0 = cx_u ow a 0 ((j + 1) :: rl_L st j) lf := by
            rw [← cx_own hown]
            funext x
            unfold cx_u upd
            by_cases hx : x = j + 1
            · rw [if_pos hx, if_pos hx]
              split <;> rfl
            · rw [if_neg hx, if_neg hx]
          refine br_t h1 (br_t rfl ⟨hin, ?_⟩)
          try rw [hel]
          rw [hlf]
          refine nm_e ⟨hin, nm_r u1 ⟨hin, nm_r u2 (br_f ?_ (nm_r (nI_1 _) (nm_r (nI_1 _) hr)))⟩⟩
          rw [Int32.le_iff_toInt_le, show (0 : Int32).toInt = 0 from by decide]
          omega
        · have e1 : rl_L st (j + 1) = rl_L st j := if_neg h1
          rw [e1] at hr
          exact br_f h1 (br_f (by decide) (br_t (by decide) (nm_r (nI_1 _) hr)))
      · have hq : (rl_L st (j + 1)).countP (fun e => decide (ow e = nI a)) = (rl_L st j).countP (fun e => decide (ow e = nI a)) ∧ (∀ (z : Int32) (f : Nat → Int32), cx_u ow a z (rl_L st (j + 1)) f = cx_u ow a z (rl_L st j) f) := by
          by_cases h1 : st (j + 1) = 1
          · have e1 : rl_L st (j + 1) = rl_L st j ++ [j + 1] := if_pos h1
            rw [e1]
            refine ⟨by rw [List.countP_append]; simp [hown], ?_⟩
            intro z f
            rw [cxa, ← cx_not hown]
          · have e1 : rl_L st (j + 1) = rl_L st j := if_neg h1
            rw [e1]
            exact ⟨rfl, fun _ _ => rfl⟩
        rw [hq.1, hq.2, hq.2] at hr
        exact br_f hown (br_f (by decide) (br_t (by decide) (nm_r (nI_1 _) hr)))
end
theorem i_vc_cancelAll {k : Nat} {u : SX} {v : SY} (I : i_Rel k u v) (hk : k + 5 ≤ 2564) : wpX_cancelAll (fun r u' => wpY_cancelAll (fun r' v' => r' = r ∧ i_Rel (k + 5) u' v') v) u := by
  refine zz_el (Q := fun u v => wpX_cancelAll (fun r u' => wpY_cancelAll (fun r' v' => r' = r ∧ i_Rel (k + 5) u' v') v) u) ?_ I
  intro C El A P a M E ck un pL pC pQ bL bC lW st ow gt gv lm lf fi pd bk ho rL rO rC rE di po pa yb nx yp be h
  obtain ⟨bk', m1, m2⟩ := xa_l (ck := ck) (un := un) (pL := pL) (pC := pC) (pQ := pQ) (ow := ow) (gt := gt) (gv := gv) (lm := lm) (fi := fi) (pd := pd) (ho := ho) (rL := rL) (rO := rO) (rC := rC) (rE := rE) (di := di) (po := po) (pa := pa) (rl_L st M).reverse [] 0 st lf bk (by rw [List.reverse_reverse, List.append_nil]) h
  rw [List.countP_reverse, Nat.zero_add, List.length_reverse] at m2
  have cr : ∀ (z : Int32) (f : Nat → Int32), cx_u ow a z (rl_L st M).reverse f = cx_u ow a z (rl_L st M) f := by
    intro z f
    exact cx_mem (fun x => List.mem_reverse)
  rw [cr, cr] at m1 m2
  refine nm_r (e' := nI (rl_L st M).length + (-1)) (Int32.sub_eq_add_neg _ _) (Exists.intro ((rl_L st M).length + 1) (m2 _ _ (by omega) (Exists.intro (M + 1) ?_)))
  have := ya_l (ck := ck) (bL := bL) (bC := bC) (lW := lW) (st := st) (ow := ow) (gt := gt) (gv := gv) (lm := lm) (lf := lf) (fi := fi) (pd := pd) (rL := rL) (rO := rO) (rC := rC) (rE := rE) (yb := yb) (nx := nx) (yp := yp) (be := be) h (post := fun r' v' => r' = nI ((rl_L st M).countP (fun e => decide (ow e = nI a))) ∧ i_Rel (k + 5) (nI C, nI El, nI A, nI P, nI a, ck, nI M, nI (rl_L (cx_u ow a 3 (rl_L st M) st) M).length, nI E, un, pL, pC, pQ, cx_u ow a 3 (rl_L st M) st, ow, gt, gv, lm, cx_u ow a 0 (rl_L st M) lf, fi, pd, bk', ho, rL, rO, rC, rE, di, po, pa) v') (And.intro rfl (zz_in m1)) M 0 (M + 1) (by omega) (by omega)
  rw [show rl_L st 0 = [] from rfl, cx_nil, cx_nil] at this
  exact this
end
section
/-- the holdings behind a fill of an order of account b, got g, given v -/
def hf_h (ho : Nat → Int32) (b g v : Nat) (mo q : Int32) : Nat → Int32 :=
  fun i => ho i + (if i = b * 5 then -mo else 0) + (if g ≠ 0 ∧ i = b * 5 + g then q else 0) + (if v ≠ 0 ∧ i = b * 5 + v then -q else 0)
theorem hf_1 (ho : Nat → Int32) (k : Nat) (x : Int32) : upd ho k (ho k - x) = fun i => ho i + (if i = k then -x else 0) := by
  funext i
  unfold upd
  by_cases h : i = k
  · rw [if_pos h, if_pos h, h, Int32.sub_eq_add_neg]
  · rw [if_neg h, if_neg h, Int32.add_zero]
theorem hf_2 (ho : Nat → Int32) (k : Nat) (x : Int32) : upd ho k (ho k + x) = fun i => ho i + (if i = k then x else 0) := by
  funext i
  unfold upd
  by_cases h : i = k
  · rw [if_pos h, if_pos h, h]
  · rw [if_neg h, if_neg h, Int32.add_zero]
theorem hf_00 (ho : Nat → Int32) (b g v : Nat) (mo q : Int32) (hg : g = 0) (hv : v = 0) : upd ho (b * 5) (ho (b * 5) - mo) = hf_h ho b g v mo q := by
  rw [hf_1]
  funext i
  unfold hf_h
  rw [if_neg (c := g ≠ 0 ∧ i = b * 5 + g) (fun z => z.1 hg), if_neg (c := v ≠ 0 ∧ i = b * 5 + v) (fun z => z.1 hv), Int32.add_zero, Int32.add_zero]
theorem hf_01 (ho h1 : Nat → Int32) (b g v : Nat) (mo q : Int32) (hg : g = 0) (hv : v ≠ 0) (e1 : h1 = upd ho (b * 5) (ho (b * 5) - mo)) : upd h1 (b * 5 + v) (h1 (b * 5 + v) - q) = hf_h ho b g v mo q := by
  rw [hf_1, e1, hf_1]
  funext i
  unfold hf_h
  rw [if_neg (c := g ≠ 0 ∧ i = b * 5 + g) (fun z => z.1 hg), Int32.add_zero]
  have : (v ≠ 0 ∧ i = b * 5 + v) = (i = b * 5 + v) := by simp [hv]
  simp only [this]
theorem hf_10 (ho h1 : Nat → Int32) (b g v : Nat) (mo q : Int32) (hg : g ≠ 0) (hv : v = 0) (e1 : h1 = upd ho (b * 5) (ho (b * 5) - mo)) : upd h1 (b * 5 + g) (h1 (b * 5 + g) + q) = hf_h ho b g v mo q := by
  rw [hf_2, e1, hf_1]
  funext i
  unfold hf_h
  rw [if_neg (c := v ≠ 0 ∧ i = b * 5 + v) (fun z => z.1 hv), Int32.add_zero]
  have : (g ≠ 0 ∧ i = b * 5 + g) = (i = b * 5 + g) := by simp [hg]
  simp only [this]
theorem hf_11 (ho h1 h2 : Nat → Int32) (b g v : Nat) (mo q : Int32) (hg : g ≠ 0) (hv : v ≠ 0) (e1 : h1 = upd ho (b * 5) (ho (b * 5) - mo)) (e2 : h2 = upd h1 (b * 5 + g) (h1 (b * 5 + g) + q)) :
    upd h2 (b * 5 + v) (h2 (b * 5 + v) - q) = hf_h ho b g v mo q := by
  rw [hf_1, e2, hf_2, e1, hf_1]
  funext i
  unfold hf_h
  have t1 : (g ≠ 0 ∧ i = b * 5 + g) = (i = b * 5 + g) := by simp [hg]
  have t2 : (v ≠ 0 ∧ i = b * 5 + v) = (i = b * 5 + v) := by simp [hv]
  simp only [t1, t2]
/-- a fill keeps the sums -/
theorem hf_ok {M : Nat} {ow gt gv fi pd ho : Nat → Int32} (h : co_H M ow gt gv fi pd ho) {e b g v : Nat} (h1 : 1 ≤ e) (h2 : e ≤ M) (hb : b < 6) (hob : ow e = nI b) (hg : gt e = nI g) (hg5 : g < 5) (hv : gv e = nI v) (hv5 : v < 5) (mo q : Int32) :
    co_H M ow gt gv (upd fi e (fi e + q)) (upd pd e (pd e + mo)) (hf_h ho b g v mo q) := by
  intro b' j hb' hj
  rw [hs_upd (f := hs_1 ow gt gv fi pd b' j) h1 ?_ h2, ← h b' j hb' hj]
  · unfold hf_h
    unfold hs_1
    rw [pk_us, pk_us]
    by_cases hbb : b' = b
    · subst hbb
      rw [if_pos hob, if_pos hob]
      by_cases hj0 : j = 0
      · rw [if_pos hj0, if_pos hj0, if_pos (show b' * 5 + j = b' * 5 by omega), if_neg (show ¬ (g ≠ 0 ∧ b' * 5 + j = b' * 5 + g) by omega), if_neg (show ¬ (v ≠ 0 ∧ b' * 5 + j = b' * 5 + v) by omega)]
        grind
      · rw [if_neg hj0, if_neg hj0, if_neg (show ¬ b' * 5 + j = b' * 5 by omega)]
        have t1 : (g ≠ 0 ∧ b' * 5 + j = b' * 5 + g) ↔ gt e = nI j := by
          rw [hg, nI_eq (by omega) (by omega)]
          omega
        have t2 : (v ≠ 0 ∧ b' * 5 + j = b' * 5 + v) ↔ gv e = nI j := by
          rw [hv, nI_eq (by omega) (by omega)]
          omega
        by_cases c1 : gt e = nI j
        · rw [if_pos (t1.mpr c1), if_pos c1, if_pos c1]
          by_cases c2 : gv e = nI j
          · rw [if_pos (t2.mpr c2), if_pos c2, if_pos c2]
            grind
          · rw [if_neg (fun z => c2 (t2.mp z)), if_neg c2, if_neg c2]
            grind
        · rw [if_neg (fun z => c1 (t1.mp z)), if_neg c1, if_neg c1]
          by_cases c2 : gv e = nI j
          · rw [if_pos (t2.mpr c2), if_pos c2, if_pos c2]
            grind
          · rw [if_neg (fun z => c2 (t2.mp z)), if_neg c2, if_neg c2]
            grind
    · have hne : ¬ ow e = nI b' := by
        rw [hob]
        intro z
        exact hbb ((nI_eq (by omega) (by omega)).mp z).symm
      rw [if_neg hne, if_neg hne, if_neg (show ¬ b' * 5 + j = b * 5 by omega), if_neg (show ¬ (g ≠ 0 ∧ b' * 5 + j = b * 5 + g) by omega), if_neg (show ¬ (v ≠ 0 ∧ b' * 5 + j = b * 5 + v) by omega)]
      grind
  · intro x hx
    unfold hs_1
    rw [pk_un hx, pk_un hx]
section
variable {cp el ac pl ca ck m n ex un pL pC pQ : Int32} {st ow gt gv lm lf fi pd bk ho rL rO rC rE di po pa : Nat → Int32}
/-- fill -/
theorem xl_fill {e b g v : Nat} {q r : Int32} (h1 : 1 ≤ e) (h2 : e ≤ 200) (hb : b < 6) (hob : ow e = nI b) (hg : gt e = nI g) (hg5 : g < 5) (hv : gv e = nI v) (hv5 : v < 5) {post : SX → Prop}
    (hp : post (cp, el, ac, pl, ca, ck, m, n, ex, un, pL, pC, pQ, st, ow, gt, gv, lm, upd lf e (lf e - q), upd fi e (fi e + q), upd pd e (pd e + r * q), bk, hf_h ho b g v (r * q) q, rL, rO, rC, rE, di, po, pa)) : wpX_fill post (cp, el, ac, pl, ca, ck, m, n, ex, un, pL, pC, pQ, st, ow, gt, gv, lm, lf, fi, pd, bk, ho, rL, rO, rC, rE, di, po, pa) (nI e) q r := by
  have hin : vp_in (nI e) 201 := vp_in_nI (by omega) (by decide)
  have hel : (nI e).toNatClampNeg = e := nI_clamp (by omega)
  have e5 : ow e * 5 = nI (b * 5) := by rw [hob, show (5 : Int32) = nI 5 from rfl, pk_mul]
  have hbl : (nI (b * 5)).toNatClampNeg = b * 5 := nI_clamp (by omega)
  have hbi : vp_in (nI (b * 5)) 30 := vp_in_nI (by omega) (by decide)
  have eg : nI (b * 5) + gt e = nI (b * 5 + g) := by rw [hg, nI_add]
  have ev : nI (b * 5) + gv e = nI (b * 5 + v) := by rw [hv, nI_add]
  have hgl : (nI (b * 5 + g)).toNatClampNeg = b * 5 + g := nI_clamp (by omega)
  have hgi : vp_in (nI (b * 5 + g)) 30 := vp_in_nI (by omega) (by decide)
  have hvl : (nI (b * 5 + v)).toNatClampNeg = b * 5 + v := nI_clamp (by omega)
  have hvi : vp_in (nI (b * 5 + v)) 30 := vp_in_nI (by omega) (by decide)
  refine nm_e (And.intro hin (nm_r (e' := nI (b * 5)) (by rw [hel]; exact e5) (And.intro hin (And.intro hin ?_))))
  rw [hel, hbl]
  refine nm_e ⟨hin, hin, nm_e ⟨hin, hin, nm_e ⟨hbi, hbi, nm_e ⟨hin, ?_⟩⟩⟩⟩
  by_cases hg0 : g = 0
  · refine br_t (by rw [hg, hg0]; rfl) (And.intro hin ?_)
    rw [hel]
    by_cases hv0 : v = 0
    · refine br_t (by rw [hv, hv0]; rfl) ?_
      rw [hf_00 ho b g v (r * q) q hg0 hv0]
      exact hp
    · refine br_f (by rw [hv]; exact nI_ne0 (by omega) (by omega)) (And.intro hin ?_)
      rw [ev, hvl]
      refine ⟨hvi, hvi, nm_r (hf_01 ho _ b g v (r * q) q hg0 hv0 rfl) hp⟩
  · refine br_f (by rw [hg]; exact nI_ne0 (by omega) (by omega)) (And.intro hin ?_)
    rw [eg, hgl]
    refine ⟨hgi, hgi, nm_e (And.intro hin ?_)⟩
    rw [hel]
    by_cases hv0 : v = 0
    · refine br_t (by rw [hv, hv0]; rfl) ?_
      rw [hf_10 ho _ b g v (r * q) q hg0 hv0 rfl]
      exact hp
    · refine br_f (by rw [hv]; exact nI_ne0 (by omega) (by omega)) (And.intro hin ?_)
      rw [ev, hvl]
      exact ⟨hvi, hvi, nm_r (hf_11 ho _ _ b g v (r * q) q hg0 hv0 rfl rfl) hp⟩
end
section
variable {cp el ac pl ca ck m ex bL bC lW : Int32} {st ow gt gv lm lf fi pd rL rO rC rE yb nx yp be : Nat → Int32}
theorem yl_fill {e : Nat} {q r : Int32} (h1 : 1 ≤ e) (h2 : e ≤ 200) {post : SY → Prop}
    (hp : post (cp, el, ac, pl, ca, ck, m, ex, bL, bC, lW, st, ow, gt, gv, lm, upd lf e (lf e - q), upd fi e (fi e + q), upd pd e (pd e + r * q), rL, rO, rC, rE, yb, nx, yp, be)) : wpY_fill post (cp, el, ac, pl, ca, ck, m, ex, bL, bC, lW, st, ow, gt, gv, lm, lf, fi, pd, rL, rO, rC, rE, yb, nx, yp, be) (nI e) q r := by
  have hin : vp_in (nI e) 201 := vp_in_nI (by omega) (by decide)
  have hel : (nI e).toNatClampNeg = e := nI_clamp (by omega)
  refine And.intro hin (And.intro hin ?_)
  rw [hel]
  exact nm_e ⟨hin, hin, nm_e ⟨hin, hin, nm_e hp⟩⟩
end
end
section
/-- the states behind a leg's fill -/
def fz_s (st lf : Nat → Int32) (e : Nat) (q : Int32) : Nat → Int32 := if lf e - q = 0 then upd st e 2 else st
theorem co_ow {C El A P a M E : Nat} {ck : Int32} {st ow gt gv lm lf fi pd rL bk ho : Nat → Int32} (h : co_R C El A P a M E ck st ow gt gv lm lf fi pd rL bk ho) {e : Nat} (h1 : 1 ≤ e) (h2 : e ≤ M) : ow e = nI (ar_N ow e) ∧ ar_N ow e < 6 := by
  obtain ⟨b, hb, hob⟩ := (h.2.2.1 e h1 h2).2.1
  have hA := h.1.2.2.1
  have e1 : ar_N ow e = b := by unfold ar_N; rw [hob]; exact nI_clamp (by omega)
  rw [e1]
  exact ⟨hob, by omega⟩
/-- a fill of entry e -/
theorem co_fill {C El A P a M E : Nat} {ck : Int32} {st ow gt gv lm lf fi pd rL bk ho : Nat → Int32} (h : co_R C El A P a M E ck st ow gt gv lm lf fi pd rL bk ho) {e : Nat} {lf' : Nat → Int32} (h1 : 1 ≤ e) (h2 : e ≤ M)
    (hlf : ∀ y, y ≠ e → lf' y = lf y) (he : st e = 1 → 1 ≤ (lf' e).toInt ∧ (lf' e).toInt ≤ 99) (mo q : Int32) :
    co_R C El A P a M E ck st ow gt gv lm lf' (upd fi e (fi e + q)) (upd pd e (pd e + mo)) rL bk (hf_h ho (ar_N ow e) (ar_N gt e) (ar_N gv e) mo q) := by
  have hw := co_ow h h1 h2
  obtain ⟨hS, hB, hE, hF, hR, hH⟩ := h
  obtain ⟨g1, g2, g3, g4, g5⟩ := (hE e h1 h2).1
  refine ⟨hS, hB, ?_, ?_, hR, hf_ok hH h1 h2 hw.2 hw.1 g3.1 g3.2 g4.1 g4.2 mo q⟩
  · intro y y1 y2
    obtain ⟨a1, a2, a3⟩ := hE y y1 y2
    refine ⟨a1, a2, ?_⟩
    intro hy
    by_cases hye : y = e
    · subst hye; exact he hy
    · rw [hlf y hye]; exact a3 hy
  · intro y hy
    rw [pk_un (show y ≠ e by omega), pk_un (show y ≠ e by omega)]
    exact hF y hy
theorem sub_T {x q : Int32} (h1 : 1 ≤ q.toInt) (h2 : q.toInt ≤ x.toInt) : (x - q).toInt = x.toInt - q.toInt := by
  have := x.toInt_lt
  have := x.le_toInt
  exact Jvm.Kit.i32_sub (by omega) (by omega)
section
variable {cp el ac pl ca ck m n ex un pL pC pQ : Int32} {st ow gt gv lm lf fi pd bk ho rL rO rC rE di po pa : Nat → Int32}
/-- fillLeg -/
theorem xl_leg {C El A P a M E : Nat} (h : co_R C El A P a M E ck st ow gt gv lm lf fi pd rL bk ho) {e : Nat} (heL : e ∈ rl_L st M) {q : Int32} (hq1 : 1 ≤ q.toInt) (hq2 : q.toInt ≤ (lf e).toInt) :
    ∃ bk' ho', co_R C El A P a M E ck (fz_s st lf e q) ow gt gv lm (upd lf e (lf e - q)) (upd fi e (fi e + q)) (upd pd e (pd e + lm e * q)) rL bk' ho' ∧
      ∀ (post : SX → Prop), post (nI C, nI El, nI A, nI P, nI a, ck, nI M, nI (rl_L (fz_s st lf e q) M).length, nI E, un, pL, pC, pQ, fz_s st lf e q, ow, gt, gv, lm, upd lf e (lf e - q), upd fi e (fi e + q), upd pd e (pd e + lm e * q), bk', ho', rL, rO, rC, rE, di, po, pa) → wpX_fillLeg post (nI C, nI El, nI A, nI P, nI a, ck, nI M, nI (rl_L st M).length, nI E, un, pL, pC, pQ, st, ow, gt, gv, lm, lf, fi, pd, bk, ho, rL, rO, rC, rE, di, po, pa) (nI e) q := by
  obtain ⟨e1, e2, e3⟩ := rl_mem.mp heL
  obtain ⟨s1, s2, s3, s4, s5, s6, s7, s8⟩ := h.1
  have hin : vp_in (nI e) 201 := vp_in_nI (by omega) (by decide)
  have hel : (nI e).toNatClampNeg = e := nI_clamp (by omega)
  have hw := co_ow h e1 e2
  obtain ⟨g1, g2, g3, g4, g5⟩ := (h.2.2.1 e e1 e2).1
  have hl := (h.2.2.1 e e1 e2).2.2 e3
  by_cases hz : lf e - q = 0
  · have ef : fz_s st lf e q = upd st e 2 := if_pos hz
    rw [ef]
    obtain ⟨bk', k1, k2⟩ := xb_ok (cp := nI C) (el := nI El) (ac := nI A) (pl := nI P) (ca := nI a) (ck := ck) (m := nI M) (ex := nI E) (un := un) (pL := pL) (pC := pC) (pQ := pQ) (st := upd st e 2) (ow := ow) (gt := gt) (gv := gv) (lm := lm) (lf := upd lf e (lf e - q)) (fi := upd fi e (fi e + q)) (pd := upd pd e (pd e + lm e * q)) (bk := bk) (ho := hf_h ho (ar_N ow e) (ar_N gt e) (ar_N gv e) (lm e * q) q) (rL := rL) (rO := rO) (rC := rC) (rE := rE) (di := di) (po := po) (pa := pa) (L := rl_L st M) (e0 := e) h.2.1.1 (by omega) (fun x hx => by have := (rl_mem.mp hx).2.1; omega) h.2.1.2.1
    refine ⟨bk', _, co_fill (co_drop h e2 (by decide) (fun y _ => rfl) k1) e1 e2 (fun y hy => pk_un hy) (fun z => by rw [pk_us] at z; exact absurd z (by decide)) (lm e * q) q, ?_⟩
    intro post hp
    rw [rl_rem (by decide)] at hp
    refine And.intro hin ?_
    rw [hel]
    refine xl_fill e1 (by omega) hw.2 hw.1 g3.1 g3.2 g4.1 g4.2 (And.intro hin ?_)
    rw [pk_us]
    exact br_t hz ⟨hin, nm_e (k2 _ hp)⟩
  · have ef : fz_s st lf e q = st := if_neg hz
    rw [ef]
    refine ⟨bk, _, co_fill h e1 e2 (fun y hy => pk_un hy) (fun _ => ?_) (lm e * q) q, ?_⟩
    · rw [pk_us, sub_T hq1 hq2]
      have : (lf e - q).toInt ≠ 0 := fun z => hz (Int32.toInt_inj.mp (by rw [z]; decide))
      rw [sub_T hq1 hq2] at this
      omega
    · intro post hp
      refine And.intro hin ?_
      rw [hel]
      refine xl_fill e1 (by omega) hw.2 hw.1 g3.1 g3.2 g4.1 g4.2 (And.intro hin ?_)
      rw [pk_us]
      exact br_f hz hp
end
theorem fz_len {st lf : Nat → Int32} {e M : Nat} {q : Int32} (heL : e ∈ rl_L st M) : (rl_L (fz_s st lf e q) M).length ≤ (rl_L st M).length ∧ (lf e = q → (rl_L (fz_s st lf e q) M).length < (rl_L st M).length) := by
  unfold fz_s
  by_cases hz : lf e - q = 0
  · rw [if_pos hz, rl_rem (by decide)]
    have := rl_len heL
    exact ⟨by omega, fun _ => this⟩
  · rw [if_neg hz]
    exact ⟨Nat.le_refl _, fun z => absurd (by rw [z]; exact Int32.sub_self _) hz⟩
theorem fz_ne {st lf : Nat → Int32} {e x : Nat} {q : Int32} (h : x ≠ e) : fz_s st lf e q x = st x := by
  unfold fz_s
  split
  · exact pk_un h
  · rfl
section
variable {cp el ac pl ca ck m n ex un pL pC pQ : Int32} {st ow gt gv lm lf fi pd bk ho rL rO rC rE di po pa : Nat → Int32}
/-- the legs, on both sides -/
theorem le_l {C El A P a M E D i : Nat} {q yex : Int32} {yrL yrO yrC : Nat → Int32} (hq1 : 1 ≤ q.toInt) (hD : D ≤ 4) (hi : i < 24) : ∀ (Q : List Nat) (j : Nat) (st lf fi pd bk ho rE2 : Nat → Int32),
    co_R C El A P a M E ck st ow gt gv lm lf fi pd rL bk ho → Q.Nodup → (∀ e, e ∈ Q → e ∈ rl_L st M ∧ q.toInt ≤ (lf e).toInt) → j + Q.length = D → hd_a pa j Q →
    ∃ st' lf' fi' pd' bk' ho', co_R C El A P a M E ck st' ow gt gv lm lf' fi' pd' rL bk' ho' ∧ (∀ x, x ∉ Q → st' x = st x ∧ lf' x = lf x) ∧ (rl_L st' M).length ≤ (rl_L st M).length ∧ ((∃ e, e ∈ Q ∧ lf e = q) → (rl_L st' M).length < (rl_L st M).length) ∧
      (∀ (post : Int32 → SX → Prop) (x1 : Int32) (k : Nat), Q.length < k → (∀ k, wX_executeBest_81 post x1 q (k + 1) (nI D) (nI C) (nI El) (nI A) (nI P) (nI a) ck (nI M) (nI (rl_L st' M).length) (nI E) un (nI D) pC pQ st' ow gt gv lm lf' fi' pd' bk' ho' rL rO rC rE di po pa) → wX_executeBest_81 post x1 q k (nI j) (nI C) (nI El) (nI A) (nI P) (nI a) ck (nI M) (nI (rl_L st M).length) (nI E) un (nI D) pC pQ st ow gt gv lm lf fi pd bk ho rL rO rC rE di po pa) ∧
      (∀ (post : Int32 → SY → Prop) J (x1 x2 x4 x7 bC lW : Int32) (yb nx yp be : Nat → Int32) (k : Nat), hd_a be j Q → Q.length < k → (∀ k, wY_enter_216 post J x1 x2 x4 x7 (nI i) q (k + 1) (nI D) (nI C) (nI El) (nI A) (nI P) (nI a) ck (nI M) yex (nI D) bC lW st' ow gt gv lm lf' fi' pd' yrL yrO yrC (wr_P rE2 (i * 4 + j) Q) yb nx yp be) → wY_enter_216 post J x1 x2 x4 x7 (nI i) q k (nI j) (nI C) (nI El) (nI A) (nI P) (nI a) ck (nI M) yex (nI D) bC lW st ow gt gv lm lf fi pd yrL yrO yrC rE2 yb nx yp be) := by
  intro Q
  induction Q with
  | nil =>
    intro j st lf fi pd bk ho rE2 h _ _ hj _
    rw [List.length_nil] at hj
    have : j = D := by omega
    subst this
    refine ⟨st, lf, fi, pd, bk, ho, h, fun _ _ => ⟨rfl, rfl⟩, Nat.le_refl _, ?_, ?_, ?_⟩
    · intro z
      obtain ⟨e, he, _⟩ := z
      cases he
    · intro post x1 k hk hp
      cases k with
      | zero => exact absurd hk (Nat.not_lt_zero _)
      | succ k => exact hp k
    · intro post J x1 x2 x4 x7 bC lW yb nx yp be k hbe hk hp
      cases k with
      | zero => exact absurd hk (Nat.not_lt_zero _)
      | succ k => exact hp k
  | cons e Q ih =>
    intro j st lf fi pd bk ho rE2 h hn hQ hj hpa
    rw [List.length_cons] at hj
    obtain ⟨heL, hqe⟩ := hQ e List.mem_cons_self
    obtain ⟨hne, hnQ⟩ := List.nodup_cons.mp hn
    obtain ⟨e1, e2, e3⟩ := rl_mem.mp heL
    obtain ⟨s1, s2, s3, s4, s5, s6, s7, s8⟩ := h.1
    obtain ⟨bk1, ho1, k1, k2⟩ := xl_leg (ck := ck) (un := un) (pL := nI D) (pC := pC) (pQ := pQ) (st := st) (ow := ow) (gt := gt) (gv := gv) (lm := lm) (lf := lf) (fi := fi) (pd := pd) (bk := bk) (ho := ho) (rL := rL) (rO := rO) (rC := rC) (rE := rE) (di := di) (po := po) (pa := pa) h heL hq1 hqe
    have hfl := fz_len (lf := lf) (q := q) heL
    obtain ⟨st', lf', fi', pd', bk', ho', m1, m2, m3, m4, m5, m6⟩ := ih (j + 1) (fz_s st lf e q) (upd lf e (lf e - q)) (upd fi e (fi e + q)) (upd pd e (pd e + lm e * q)) bk1 ho1 (upd rE2 (i * 4 + j) (nI e)) k1 hnQ (by
      intro x hx
      have hxe : x ≠ e := fun z => hne (by rw [← z]; exact hx)
      have hx1 := hQ x (List.mem_cons_of_mem _ hx)
      rw [pk_un hxe]
      refine ⟨?_, hx1.2⟩
      have hx2 := rl_mem.mp hx1.1
      exact rl_mem.mpr ⟨hx2.1, hx2.2.1, by rw [fz_ne hxe]; exact hx2.2.2⟩) (by omega) hpa.2
    have hin : vp_in (nI e) 201 := vp_in_nI (by omega) (by decide)
    have hel : (nI e).toNatClampNeg = e := nI_clamp (by omega)
    have hjl : (nI j).toNatClampNeg = j := nI_clamp (by omega)
    have hji : vp_in (nI j) 4 := vp_in_nI (by omega) (by decide)
    have e4 : nI i * 4 + nI j = nI (i * 4 + j) := by rw [show (4 : Int32) = nI 4 from rfl, pk_mul, nI_add]
    have hil : (nI (i * 4 + j)).toNatClampNeg = i * 4 + j := nI_clamp (by omega)
    have hii : vp_in (nI (i * 4 + j)) 96 := vp_in_nI (by omega) (by decide)
    refine ⟨st', lf', fi', pd', bk', ho', m1, ?_, by omega, ?_, ?_, ?_⟩
    · intro x hx
      have hxe : x ≠ e := fun z => hx (by rw [z]; exact List.mem_cons_self)
      have hxQ : x ∉ Q := fun z => hx (List.mem_cons_of_mem _ z)
      have := m2 x hxQ
      rw [fz_ne hxe, pk_un hxe] at this
      exact this
    · intro z
      obtain ⟨x, hx, hxq⟩ := z
      cases hx with
      | head =>
        have := hfl.2 hxq
        omega
      | tail _ hx =>
        have hxe : x ≠ e := fun z => hne (by rw [← z]; exact hx)
        have := m4 ⟨x, hx, by rw [pk_un hxe]; exact hxq⟩
        omega
    · intro post x1 k hk hp
      rw [List.length_cons] at hk
      cases k with
      | zero => exact absurd hk (Nat.not_lt_zero _)
      | succ k =>
        refine br_f (nI_ge (by omega) (by omega)) ⟨hji, ?_⟩
        rw [hjl, hpa.1]
        exact k2 _ (nm_r (nI_1 j) (m5 post x1 k (by omega) hp))
    · intro post J x1 x2 x4 x7 bC lW yb nx yp be k hbe hk hp
      rw [List.length_cons] at hk
      cases k with
      | zero => exact absurd hk (Nat.not_lt_zero _)
      | succ k =>
        refine br_f (nI_ge (by omega) (by omega)) ⟨hji, hji, ?_⟩
        rw [hjl, hbe.1, hel]
        have hrest := m6 post J x1 x2 x4 x7 bC lW yb nx yp be k hbe.2 (by omega) (by
          have e5 : i * 4 + (j + 1) = i * 4 + j + 1 := by omega
          rw [e5]
          exact hp)
        have h278 : ∀ st1, st1 = fz_s st lf e q → wY_enter_278 post J (wY_enter_216 post J x1 x2 x4 x7 (nI i) q k) x1 x2 x4 x7 (nI i) q (nI j) (nI C) (nI El) (nI A) (nI P) (nI a) ck (nI M) yex (nI D) bC lW st1 ow gt gv lm (upd lf e (lf e - q)) (upd fi e (fi e + q)) (upd pd e (pd e + lm e * q)) yrL yrO yrC rE2 yb nx yp be := by
          intro st1 hst1
          subst hst1
          refine And.intro hji ?_
          rw [e4, hil, hjl, hbe.1]
          exact ⟨hii, nm_e (nm_r (nI_1 j) hrest)⟩
        refine ⟨hin, yl_fill e1 (by omega) (And.intro hji ?_)⟩
        rw [hbe.1, hel, pk_us]
        by_cases hz : lf e - q = 0
        · exact ⟨hin, br_t hz ⟨hji, hin, nm_e (h278 _ (if_pos hz).symm)⟩⟩
        · exact ⟨hin, br_f hz (h278 _ (if_neg hz).symm)⟩
end
end
section
section
variable {cp el ac pl ca ck m n ex un pL pC pQ : Int32} {st ow gt gv lm lf fi pd bk ho rL rO rC rE di po pa : Nat → Int32}
/-- addExecution: its loop -/
theorem xe_l {post : SX → Prop} {D i : Nat} {q : Int32} (hD : D ≤ 4) (hi : i < 24) : ∀ (Q : List Nat) (j k : Nat) (rE : Nat → Int32), hd_a pa j Q → j + Q.length = D → Q.length < k →
    post (cp, el, ac, pl, ca, ck, m, n, nI (i + 1), un, nI D, pC, pQ, st, ow, gt, gv, lm, lf, fi, pd, bk, ho, rL, rO, rC, wr_P rE (i * 4 + j) Q, di, po, pa) → wX_addExecution_48 post cp el ac pl ca ck m n (nI i) un (nI D) pC pQ k (nI j) st ow gt gv lm lf fi pd bk ho rL rO rC rE di po pa := by
  intro Q
  induction Q with
  | nil =>
    intro j k rE _ hj hk hp
    rw [List.length_nil] at hj
    cases k with
    | zero => exact absurd hk (Nat.not_lt_zero _)
    | succ k => exact br_t (nI_le (by omega) (by omega)) (nm_r (nI_1 i) hp)
  | cons e Q ih =>
    intro j k rE hpa hj hk hp
    rw [List.length_cons] at hj hk
    cases k with
    | zero => exact absurd hk (Nat.not_lt_zero _)
    | succ k =>
      have hjl : (nI j).toNatClampNeg = j := nI_clamp (by omega)
      have e4 : nI i * 4 + nI j = nI (i * 4 + j) := by rw [show (4 : Int32) = nI 4 from rfl, pk_mul, nI_add]
      have hil : (nI (i * 4 + j)).toNatClampNeg = i * 4 + j := nI_clamp (by omega)
      refine br_f (nI_ge (by omega) (by omega)) ⟨vp_in_nI (by omega) (by decide), ?_⟩
      rw [e4, hil, hjl, hpa.1]
      refine ⟨vp_in_nI (by omega) (by decide), nm_e (nm_r (nI_1 j) (ih (j + 1) k _ hpa.2 (by omega) (by omega) ?_))⟩
      have e5 : i * 4 + (j + 1) = i * 4 + j + 1 := by omega
      rw [e5]
      exact hp
theorem xe_ok {post : SX → Prop} {Q : List Nat} {i : Nat} {q : Int32} (hD : Q.length ≤ 4) (hi : i < 24) (hpa : hd_a pa 0 Q)
    (hp : post (cp, el, ac, pl, ca, ck, m, n, nI (i + 1), un, nI Q.length, pC, pQ, st, ow, gt, gv, lm, lf, fi, pd, bk, ho, upd rL i (nI Q.length), upd rO i q, upd rC i pC, wr_P rE (i * 4) Q, di, po, pa)) : wpX_addExecution post (cp, el, ac, pl, ca, ck, m, n, nI i, un, nI Q.length, pC, pQ, st, ow, gt, gv, lm, lf, fi, pd, bk, ho, rL, rO, rC, rE, di, po, pa) q := by
  have hil : (nI i).toNatClampNeg = i := nI_clamp (by omega)
  have hin : vp_in (nI i) 24 := vp_in_nI (by omega) (by decide)
  refine br_t (nI_lt (b := 24) hi (by decide)) ⟨hin, ?_⟩
  rw [hil]
  exact nm_e ⟨hin, nm_e ⟨hin, nm_e (Exists.intro (Q.length + 1) (xe_l (q := q) hD hi Q 0 (Q.length + 1) _ hpa (by omega) (by omega) hp))⟩⟩
theorem xe_0 {post : Int32 → SX → Prop} {x5 : Int32} {i k : Nat} (hp : wX_enter_43 post x5 cp el ac pl ca ck m n ex un pL pC pQ st ow gt gv lm lf fi pd bk ho rL rO rC rE di po pa) : wX_enter_17 post x5 (k + 1) 0 (nI i) cp el ac pl ca ck m n ex un pL pC pQ st ow gt gv lm lf fi pd bk ho rL rO rC rE di po pa := br_c (fun _ => hp) (fun _ => br_t rfl hp)
end
/-- the lots of a chain -/
theorem lo_ok {lf : Nat → Int32} : ∀ (P : List Nat) (q : Int32), 1 ≤ q.toInt → (∀ e, e ∈ P → 1 ≤ (lf e).toInt) → 1 ≤ (lo_I lf q P).toInt ∧ (lo_I lf q P).toInt ≤ q.toInt ∧ (∀ e, e ∈ P → (lo_I lf q P).toInt ≤ (lf e).toInt) ∧ (lo_I lf q P = q ∨ ∃ e, e ∈ P ∧ lf e = lo_I lf q P) := by
  intro P
  induction P with
  | nil => intro q hq _; exact ⟨hq, Int.le_refl _, fun e he => (by cases he), Or.inl rfl⟩
  | cons x P ih =>
    intro q hq hP
    have hx := hP x List.mem_cons_self
    have hP' : ∀ e, e ∈ P → 1 ≤ (lf e).toInt := fun e he => hP e (List.mem_cons_of_mem _ he)
    by_cases hc : q ≤ lf x
    · have e1 : lo_I lf q (x :: P) = lo_I lf q P := by simp only [lo_I, if_pos hc]
      rw [e1]
      obtain ⟨h1, h2, h3, h4⟩ := ih q hq hP'
      have hc' := Int32.le_iff_toInt_le.mp hc
      refine ⟨h1, h2, ?_, ?_⟩
      · intro e he
        cases he with
        | head => omega
        | tail _ he => exact h3 e he
      · cases h4 with
        | inl h4 => exact Or.inl h4
        | inr h4 => obtain ⟨e, he, h5⟩ := h4; exact Or.inr ⟨e, List.mem_cons_of_mem _ he, h5⟩
    · have e1 : lo_I lf q (x :: P) = lo_I lf (lf x) P := by simp only [lo_I, if_neg hc]
      rw [e1]
      obtain ⟨h1, h2, h3, h4⟩ := ih (lf x) hx hP'
      rw [Int32.le_iff_toInt_le] at hc
      refine ⟨h1, by omega, ?_, ?_⟩
      · intro e he
        cases he with
        | head => exact h2
        | tail _ he => exact h3 e he
      · cases h4 with
        | inl h4 => exact Or.inr ⟨x, List.mem_cons_self, h4.symm⟩
        | inr h4 => obtain ⟨e, he, h5⟩ := h4; exact Or.inr ⟨e, List.mem_cons_of_mem _ he, h5⟩
theorem lo_99 {lf : Nat → Int32} {P : List Nat} (hP : P ≠ []) (h : ∀ e, e ∈ P → 1 ≤ (lf e).toInt ∧ (lf e).toInt ≤ 99) :
    1 ≤ (lo_I lf 99 P).toInt ∧ (lo_I lf 99 P).toInt ≤ 99 ∧ (∀ e, e ∈ P → (lo_I lf 99 P).toInt ≤ (lf e).toInt) ∧ ∃ e, e ∈ P ∧ lf e = lo_I lf 99 P := by
  have e99 : (99 : Int32).toInt = 99 := by decide
  obtain ⟨h1, h2, h3, h4⟩ := lo_ok P 99 (by rw [e99]; decide) (fun e he => (h e he).1)
  rw [e99] at h2
  refine ⟨h1, h2, h3, ?_⟩
  cases h4 with
  | inr h4 => exact h4
  | inl h4 =>
    cases P with
    | nil => exact absurd rfl hP
    | cons e P =>
      refine ⟨e, List.mem_cons_self, ?_⟩
      have a1 := h3 e List.mem_cons_self
      have a2 := (h e List.mem_cons_self).2
      rw [h4] at a1 ⊢
      exact Int32.toInt_inj.mp (by omega)
/-- no chain below the limit is left: the order may rest -/
theorem fb_rest {V G : Nat → Nat} {c : Nat → Int} {L P : List Nat} {x y : Nat} {lim : Int} (hg : gr_ok V G c L) (hx : x < 5) (h : fb_ok V G c L x y P) (hlim : P ≠ [] → lim < wk_S c P) :
    ∀ q, wk_W V G L q x y → 0 ≤ (5 * wk_S c q - q.length) + (5 * (-lim) - 1) := by
  intro q hq
  cases h with
  | inl h => exact absurd hq (h.2 q)
  | inr h =>
    obtain ⟨h1, h2, h3, h4, h5⟩ := h
    obtain ⟨q0, k1, k2, k3, k4⟩ := wk_simp hg.2 y q x hq
    have k5 := wk_len (fun e he => (hg.1 e he).2.1) hx k1 k2
    have k6 := h5 q0 k1
    have k7 := hlim h1
    have k8 : 0 < P.length := List.length_pos_iff.mpr h1
    rw [wk_Sw, wk_Sw] at k6
    omega
theorem nd_of {G : Nat → Nat} {P : List Nat} {x : Nat} (h : wk_N G P x) : P.Nodup := by
  have h1 := (List.nodup_cons.mp h).2
  have h2 := List.pairwise_map.mp h1
  refine h2.imp ?_
  intro a b hab z
  exact hab (by rw [z])
theorem co_rep {C El A P a M E : Nat} {ck : Int32} {st ow gt gv lm lf fi pd rL bk ho : Nat → Int32} (h : co_R C El A P a M E ck st ow gt gv lm lf fi pd rL bk ho) {D : Nat} (hD : D ≤ 4) (hE : E < 24) : co_R C El A P a M (E + 1) ck st ow gt gv lm lf fi pd (upd rL E (nI D)) bk ho := by
  obtain ⟨⟨s1, s2, s3, s4, s5, s6, s7, s8⟩, hB, hE', hF, hR, hH⟩ := h
  refine ⟨⟨s1, s2, s3, s4, s5, s6, s7, by omega⟩, hB, hE', hF, ?_, hH⟩
  intro i hi
  by_cases hie : i = E
  · subst hie
    exact ⟨D, hD, pk_us⟩
  · rw [pk_un hie]
    exact hR i (by omega)
end
section
section
variable {C El A P a M x y : Nat} {ck un : Int32} {ow gt gv lm po : Nat → Int32}
/-- the executions of an incoming order M, on both sides: one outcome -/
theorem en_l (hM : 1 ≤ M) (hx : x < 5) (hy : y < 5) (hxy : x ≠ y) (hgx : gt M = nI x) (hgy : gv M = nI y) : ∀ (r i : Nat) (pL pC pQ : Int32) (st lf fi pd bk ho rL rO rC rE di pa : Nat → Int32), i + r = 24 →
    co_R C El A P a M i ck st ow gt gv lm lf fi pd rL bk ho → st M = 0 → (0 ≤ (lf M).toInt ∧ (lf M).toInt ≤ 99) → (ck = 0 → ¬ lf M = 0 → (rl_L st M).length + i ≤ 23) →
    ∃ (E' : Nat) (pL' pC' pQ' : Int32) (st' lf' fi' pd' bk' ho' rL' rO' rC' rE' di' pa' : Nat → Int32), co_R C El A P a M E' ck st' ow gt gv lm lf' fi' pd' rL' bk' ho' ∧ st' M = 0 ∧
      (ck = 0 → ¬ lf' M = 0 → (lf' M).toInt ≤ 99 ∧ 1 ≤ (lf' M).toInt ∧ (rl_L st' M).length ≤ 23 ∧ (∀ q, wk_W (ar_N gv) (ar_N gt) (rl_L st' M) q x y → 0 ≤ (5 * wk_S (ar_c lm) q - q.length) + (5 * ar_c lm M - 1))) ∧
      (∀ (post : Int32 → SX → Prop) (k : Nat), r + 1 < k → wX_enter_43 post (nI M) (nI C) (nI El) (nI A) (nI P) (nI a) ck (nI M) (nI (rl_L st' M).length) (nI E') un pL' pC' pQ' st' ow gt gv lm lf' fi' pd' bk' ho' rL' rO' rC' rE' di' po pa' → wX_enter_17 post (nI M) k 1 (nI i) (nI C) (nI El) (nI A) (nI P) (nI a) ck (nI M) (nI (rl_L st M).length) (nI i) un pL pC pQ st ow gt gv lm lf fi pd bk ho rL rO rC rE di po pa) ∧
      (∀ (post : Int32 → SY → Prop) (k : Nat) (bL bC lW : Int32) (yb nx yp be : Nat → Int32), r < k → (∀ (bL' bC' lW' : Int32) (yb' nx' yp' be' : Nat → Int32), wY_enter_360 post (nI M) (nI C) (nI El) (nI A) (nI P) (nI a) ck (nI M) (nI E') bL' bC' lW' st' ow gt gv lm lf' fi' pd' rL' rO' rC' rE' yb' nx' yp' be') → wY_enter_144 post (nI x) (nI y) (lm M) (nI M) k (nI i) (nI C) (nI El) (nI A) (nI P) (nI a) ck (nI M) (nI i) bL bC lW st ow gt gv lm lf fi pd rL rO rC rE yb nx yp be) := by
  intro r
  induction r with
  | zero =>
    intro i pL pC pQ st lf fi pd bk ho rL rO rC rE di pa hi h hst hlf hck
    refine ⟨i, pL, pC, pQ, st, lf, fi, pd, bk, ho, rL, rO, rC, rE, di, pa, h, hst, ?_, ?_, ?_⟩
    · intro h1 h2
      have := hck h1 h2
      omega
    · intro post k hk hp
      cases k with
      | zero => exact absurd hk (Nat.not_lt_zero _)
      | succ k => exact br_t (nI_le (a := 24) (by omega) (by omega)) hp
    · intro post k bL bC lW yb nx yp be hk hp
      cases k with
      | zero => exact absurd hk (Nat.not_lt_zero _)
      | succ k => exact br_t (nI_le (a := 24) (by omega) (by omega)) (hp _ _ _ _ _ _ _)
  | succ r ih =>
    intro i pL pC pQ st lf fi pd bk ho rL rO rC rE di pa hi h hst hlf hck
    obtain ⟨s1, s2, s3, s4, s5, s6, s7, s8⟩ := h.1
    have hMl : (nI M).toNatClampNeg = M := nI_clamp (by omega)
    have hMi : vp_in (nI M) 201 := vp_in_nI (by omega) (by decide)
    have hil : (nI i).toNatClampNeg = i := nI_clamp (by omega)
    have hii : vp_in (nI i) 24 := vp_in_nI (by omega) (by decide)
    by_cases hz : lf M = 0
    · refine ⟨i, pL, pC, pQ, st, lf, fi, pd, bk, ho, rL, rO, rC, rE, di, pa, h, hst, fun _ z => absurd hz z, ?_, ?_⟩
      · intro post k hk hp
        cases k with
        | zero => exact absurd hk (Nat.not_lt_zero _)
        | succ k =>
          cases k with
          | zero => omega
          | succ k =>
            refine br_f (nI_ge (b := 24) (by omega) (by decide)) (br_f (by decide) (And.intro hMi ?_))
            rw [hMl]
            exact br_t hz (nm_r (nI_1 i) (xe_0 hp))
      · intro post k bL bC lW yb nx yp be hk hp
        cases k with
        | zero => exact absurd hk (Nat.not_lt_zero _)
        | succ k =>
          refine br_f (nI_ge (b := 24) (by omega) (by decide)) ⟨hMi, ?_⟩
          rw [hMl]
          exact br_t (by rw [hz]; decide) (hp _ _ _ _ _ _ _)
    · have hlf1 : 1 ≤ (lf M).toInt := by
        have : (lf M).toInt ≠ 0 := fun z => hz (Int32.toInt_inj.mp (by rw [z]; decide))
        omega
      have hnle : ¬ lf M ≤ 0 := by
        rw [Int32.le_iff_toInt_le, show (0 : Int32).toInt = 0 from by decide]
        omega
      obtain ⟨hL, hg⟩ := co_gr h.2.1 h.2.2.1
      obtain ⟨_, _, _, _, lmb⟩ := (h.2.2.1 M hM (Nat.le_refl _)).1
      have lmT : ar_c lm M = -(lm M).toInt := rfl
      obtain ⟨hfb, rr, pL1, pC1, pQ1, di1, pa1, hX, hcase⟩ := xf_ok (cp := nI C) (el := nI El) (ac := nI A) (pl := nI P) (ca := nI a) (ck := ck) (m := nI M) (ex := nI i) (un := un) (pL := pL) (pC := pC) (pQ := pQ) (st := st) (ow := ow) (lf := lf) (fi := fi) (pd := pd) (ho := ho) (rL := rL) (rO := rO) (rC := rC) (rE := rE) (di := di) (po := po) (pa := pa) (L := rl_L st M) (x := x) (y := y) hx hy hxy hL h.2.1.2.1 h.2.1.1 hg
      have hac := df_lb (x := x) (y := y) hL
      have hys : ∀ (post : SY → Prop) (bL bC lW : Int32) (yb nx yp be : Nat → Int32), (∀ yb' nx' yp' be', hd_a be' 0 (df_B (ar_N gv) (ar_N gt) (ar_c lm) (rl_L st M) x y).1 →
          post (nI C, nI El, nI A, nI P, nI a, ck, nI M, nI i, nI (df_B (ar_N gv) (ar_N gt) (ar_c lm) (rl_L st M) x y).1.length, Int32.ofInt (wk_S (ar_c lm) (df_B (ar_N gv) (ar_N gt) (ar_c lm) (rl_L st M) x y).1), Int32.ofInt (df_B (ar_N gv) (ar_N gt) (ar_c lm) (rl_L st M) x y).2, st, ow, gt, gv, lm, lf, fi, pd, rL, rO, rC, rE, yb', nx', yp', be')) →
          wpY_search post (nI C, nI El, nI A, nI P, nI a, ck, nI M, nI i, bL, bC, lW, st, ow, gt, gv, lm, lf, fi, pd, rL, rO, rC, rE, yb, nx, yp, be) (nI x) (nI y) := fun post bL bC lW yb nx yp be hp => ys_ok (by omega) hx hy h.2.1.1 hL hp
      generalize hPe : (df_B (ar_N gv) (ar_N gt) (ar_c lm) (rl_L st M) x y).1 = Pc at hfb hcase hac hys
      generalize (df_B (ar_N gv) (ar_N gt) (ar_c lm) (rl_L st M) x y).2 = lwv at hac hys
      have hacP : Pc.length ≤ 4 ∧ (-4000 ≤ wk_S (ar_c lm) Pc ∧ wk_S (ar_c lm) Pc ≤ 4000) := by
        rw [← hPe]
        exact ⟨hac.1, hac.2.1⟩
      by_cases hgo : Pc ≠ [] ∧ wk_S (ar_c lm) Pc ≤ (lm M).toInt
      · obtain ⟨hPn, hcost⟩ := hgo
        cases hcase with
        | inl hc => exact absurd hc.1 hPn
        | inr hc =>
        cases hfb with
        | inl hc2 => exact absurd hc2.1 hPn
        | inr hf2 =>
        obtain ⟨_, c2, c3, c4, c5, c6⟩ := hc
        obtain ⟨_, f2, f3, f4, f5⟩ := hf2
        subst c2 c3 c4 c5
        have hPL : ∀ e, e ∈ Pc → e ∈ rl_L st M := wk_mem f3
        have hPe2 : ∀ e, e ∈ Pc → en_ok gt gv lm e := fun e he => hL e (hPL e he)
        have hPl : ∀ e, e ∈ Pc → 1 ≤ (lf e).toInt ∧ (lf e).toInt ≤ 99 := fun e he => (h.2.2.1 e (rl_mem.mp (hPL e he)).1 (rl_mem.mp (hPL e he)).2.1).2.2 (rl_mem.mp (hPL e he)).2.2
        obtain ⟨l1, l2, l3, l4⟩ := lo_99 hPn hPl
        have hMP : M ∉ Pc := fun z => by
          have := (rl_mem.mp (hPL M z)).2.2
          rw [hst] at this
          exact absurd this (by decide)
        have hqx : ∃ q : Int32, 1 ≤ q.toInt ∧ q.toInt ≤ (lo_I lf 99 Pc).toInt ∧ q.toInt ≤ (lf M).toInt ∧ (lo_I lf 99 Pc ≤ lf M → lo_I lf 99 Pc = q) ∧ (¬ lo_I lf 99 Pc ≤ lf M → lf M = q) := by
          by_cases hc : lo_I lf 99 Pc ≤ lf M
          · exact ⟨lo_I lf 99 Pc, l1, Int.le_refl _, Int32.le_iff_toInt_le.mp hc, fun _ => rfl, fun z => absurd hc z⟩
          · refine ⟨lf M, hlf1, ?_, Int.le_refl _, fun z => absurd z hc, fun _ => rfl⟩
            rw [Int32.le_iff_toInt_le] at hc
            omega
        obtain ⟨q, q1, q2, q3, q4, q5⟩ := hqx
        obtain ⟨st1, lf1, fi1, pd1, bk1, ho1, m1, m2, m3, m4, m5, m6⟩ := le_l (C := C) (El := El) (A := A) (P := P) (a := a) (M := M) (E := i + 1) (ck := ck) (un := un) (pC := Int32.ofInt (wk_S (ar_c lm) Pc)) (pQ := lo_I lf 99 Pc) (ow := ow) (gt := gt) (gv := gv) (lm := lm) (rL := upd rL i (nI Pc.length)) (rO := upd rO i q) (rC := upd rC i (Int32.ofInt (wk_S (ar_c lm) Pc))) (rE := wr_P rE (i * 4) Pc) (di := di1) (po := po) (pa := pa1)
          (D := Pc.length) (i := i) (q := q) (yex := nI i) (yrL := rL) (yrO := rO) (yrC := rC) q1 f2 (by omega) Pc 0 st lf fi pd bk ho rE (co_rep h f2 (by omega)) (nd_of f4) (fun e he => ⟨hPL e he, by have := l3 e he; omega⟩) (by omega) c6
        obtain ⟨m2a, m2b⟩ := m2 M hMP
        have hw := co_ow m1 hM (Nat.le_refl _)
        obtain ⟨_, _, g3, g4, _⟩ := (m1.2.2.1 M hM (Nat.le_refl _)).1
        have hsT : (lf1 M - q).toInt = (lf M).toInt - q.toInt := by rw [m2b]; exact sub_T q1 q3
        have hco := co_fill m1 (lf' := upd lf1 M (lf1 M - q)) hM (Nat.le_refl _) (fun y hy => pk_un hy) (fun z => by rw [m2a, hst] at z; exact absurd z (by decide)) (Int32.ofInt (wk_S (ar_c lm) Pc) * q) q
        obtain ⟨E', pL', pC', pQ', st', lf', fi', pd', bk', ho', rL', rO', rC', rE', di', pa', n1, n2, n3, n4, n5⟩ := ih (i + 1) (nI Pc.length) (Int32.ofInt (wk_S (ar_c lm) Pc)) (lo_I lf 99 Pc) st1 (upd lf1 M (lf1 M - q)) (upd fi1 M (fi1 M + q)) (upd pd1 M (pd1 M + Int32.ofInt (wk_S (ar_c lm) Pc) * q)) bk1 (hf_h ho1 (ar_N ow M) (ar_N gt M) (ar_N gv M) (Int32.ofInt (wk_S (ar_c lm) Pc) * q) q) (upd rL i (nI Pc.length)) (upd rO i q) (upd rC i (Int32.ofInt (wk_S (ar_c lm) Pc))) (wr_P rE (i * 4) Pc) di1 pa1 (by omega) hco (m2a.trans hst) (by rw [pk_us, hsT]; omega) (by
            intro h1 h2
            rw [pk_us] at h2
            have h3 := hck h1 hz
            by_cases hc : lo_I lf 99 Pc ≤ lf M
            · have h4 := q4 hc
              obtain ⟨e, he, hee⟩ := l4
              have := m4 ⟨e, he, hee.trans h4⟩
              omega
            · exfalso
              apply h2
              rw [m2b, q5 hc]
              exact Int32.sub_self _)
        refine ⟨E', pL', pC', pQ', st', lf', fi', pd', bk', ho', rL', rO', rC', rE', di', pa', n1, n2, n3, ?_, ?_⟩
        · intro post k hk hp
          cases k with
          | zero => exact absurd hk (Nat.not_lt_zero _)
          | succ k =>
            have h73 : ∀ (post : Int32 → SX → Prop) (z0 : Int32), z0 = q → post 1 (nI C, nI El, nI A, nI P, nI a, ck, nI M, nI (rl_L st1 M).length, nI (i + 1), un, nI Pc.length, Int32.ofInt (wk_S (ar_c lm) Pc), lo_I lf 99 Pc, st1, ow, gt, gv, lm, upd lf1 M (lf1 M - q), upd fi1 M (fi1 M + q), upd pd1 M (pd1 M + Int32.ofInt (wk_S (ar_c lm) Pc) * q), bk1, hf_h ho1 (ar_N ow M) (ar_N gt M) (ar_N gv M) (Int32.ofInt (wk_S (ar_c lm) Pc) * q) q, upd rL i (nI Pc.length), upd rO i q, upd rC i (Int32.ofInt (wk_S (ar_c lm) Pc)), wr_P rE (i * 4) Pc, di1, po, pa1) →
                wX_executeBest_73 post (nI M) z0 (nI C) (nI El) (nI A) (nI P) (nI a) ck (nI M) (nI (rl_L st M).length) (nI i) un (nI Pc.length) (Int32.ofInt (wk_S (ar_c lm) Pc)) (lo_I lf 99 Pc) st ow gt gv lm lf fi pd bk ho rL rO rC rE di1 po pa1 := by
              intro post z0 hz0 hp
              subst hz0
              refine xe_ok f2 (by omega) c6 (Exists.intro (Pc.length + 1) (m5 post (nI M) (Pc.length + 1) (by omega) ?_))
              intro k
              exact br_t (nI_le (Nat.le_refl _) (by omega)) (xl_fill hM (by omega) hw.2 hw.1 g3.1 g3.2 g4.1 g4.2 hp)
            have hnext := n4 post k (by omega) hp
            refine br_f (nI_ge (b := 24) (by omega) (by decide)) (br_f (by decide) (And.intro hMi ?_))
            rw [hMl, hgx, hgy]
            refine br_f hz ⟨hMi, hMi, hX _ (br_f (by decide) ⟨hMi, br_t ?_ ⟨hMi, ?_⟩⟩)⟩
            · rw [Int32.le_iff_toInt_le, oi_T (by omega) (by omega)]
              exact hcost
            · by_cases hc : lo_I lf 99 Pc ≤ lf M
              · exact br_t hc (h73 _ _ (q4 hc) (nm_r (nI_1 i) hnext))
              · exact br_f hc ⟨hMi, h73 _ _ (q5 hc) (nm_r (nI_1 i) hnext)⟩
        · intro post k bL bC lW yb nx yp be hk hp
          cases k with
          | zero => exact absurd hk (Nat.not_lt_zero _)
          | succ k =>
            refine br_f (nI_ge (b := 24) (by omega) (by decide)) ⟨hMi, ?_⟩
            rw [hMl]
            refine br_f hnle (hys _ bL bC lW yb nx yp be ?_)
            intro yb' nx' yp' be' hbe
            refine br_f (nI_ne0 (List.length_pos_iff.mpr hPn) (by omega)) (br_t ?_ (yl_ok f2 hPe2 hbe ⟨hMi, ?_⟩))
            · rw [Int32.le_iff_toInt_le, oi_T (by omega) (by omega)]
              exact hcost
            · have h216 : ∀ (z0 : Int32), z0 = q → ∃ n216, wY_enter_216 post (wY_enter_144 post (nI x) (nI y) (lm M) (nI M) k) (nI x) (nI y) (lm M) (nI M) (nI i) z0 n216 0 (nI C) (nI El) (nI A) (nI P) (nI a) ck (nI M) (nI i) (nI Pc.length) (Int32.ofInt (wk_S (ar_c lm) Pc)) (Int32.ofInt lwv) st ow gt gv lm lf fi pd rL rO rC rE yb' nx' yp' be' := by
                intro z0 hz0
                subst hz0
                refine ⟨Pc.length + 1, m6 post _ _ _ _ _ _ _ _ _ _ _ _ hbe (by omega) ?_⟩
                intro k2
                refine br_t (nI_le (Nat.le_refl _) (by omega)) (yl_fill hM (by omega) (And.intro hii ?_))
                rw [hil]
                exact nm_e ⟨hii, nm_e ⟨hii, nm_e (nm_r (nI_1 i) (nm_r (nI_1 i) (n5 post k _ _ _ _ _ _ _ (by omega) hp)))⟩⟩
              try rw [hMl]
              by_cases hc : lo_I lf 99 Pc ≤ lf M
              · exact br_t hc (h216 _ (q4 hc))
              · exact br_f hc ⟨hMi, nm_e (h216 _ (q5 hc))⟩
      · have hF := fb_rest (lim := (lm M).toInt) hg hx hfb (fun z => by
          have : ¬ wk_S (ar_c lm) Pc ≤ (lm M).toInt := fun z2 => hgo ⟨z, z2⟩
          omega)
        refine ⟨i, pL1, pC1, pQ1, st, lf, fi, pd, bk, ho, rL, rO, rC, rE, di1, pa1, h, hst, ?_, ?_, ?_⟩
        · intro h1 h2
          have := hck h1 h2
          refine ⟨hlf.2, hlf1, by omega, ?_⟩
          intro q hq
          have := hF q hq
          rw [lmT]
          exact this
        · intro post k hk hp
          cases k with
          | zero => exact absurd hk (Nat.not_lt_zero _)
          | succ k =>
            cases k with
            | zero => omega
            | succ k =>
              refine br_f (nI_ge (b := 24) (by omega) (by decide)) (br_f (by decide) (And.intro hMi ?_))
              rw [hMl, hgx, hgy]
              refine br_f hz ⟨hMi, hMi, hX _ ?_⟩
              cases hcase with
              | inl hc =>
                rw [hc.2]
                exact br_t rfl (nm_r (nI_1 i) (xe_0 hp))
              | inr hc =>
                obtain ⟨c1, c2, c3, c4, c5, c6⟩ := hc
                rw [c2]
                refine br_f (by decide) ⟨hMi, br_f ?_ (nm_r (nI_1 i) (xe_0 hp))⟩
                try rw [hMl]
                rw [c4, Int32.le_iff_toInt_le, oi_T (by omega) (by omega)]
                exact fun z => hgo ⟨c1, z⟩
        · intro post k bL bC lW yb nx yp be hk hp
          cases k with
          | zero => exact absurd hk (Nat.not_lt_zero _)
          | succ k =>
            refine br_f (nI_ge (b := 24) (by omega) (by decide)) ⟨hMi, ?_⟩
            rw [hMl]
            refine br_f hnle (hys _ bL bC lW yb nx yp be ?_)
            intro yb' nx' yp' be' hbe
            by_cases hPn : Pc = []
            · exact br_t (by rw [hPn]; rfl) (hp _ _ _ _ _ _ _)
            · refine br_f (nI_ne0 (List.length_pos_iff.mpr hPn) (by omega)) (br_f ?_ (hp _ _ _ _ _ _ _))
              rw [Int32.le_iff_toInt_le, oi_T (by omega) (by omega)]
              exact fun z => hgo ⟨hPn, z⟩
end
end
section
theorem wk_cg {A B A' B' : Nat → Nat} {c c' : Nat → Int} {L : List Nat} (h : ∀ e, e ∈ L → A' e = A e ∧ B' e = B e ∧ c' e = c e) : ∀ {p : List Nat} {a b : Nat}, wk_W A' B' L p a b → wk_W A B L p a b ∧ wk_S c' p = wk_S c p := by
  intro p
  induction p with
  | nil => intro a b hp; exact ⟨hp, rfl⟩
  | cons e p ih =>
    intro a b hp
    obtain ⟨h1, h2, h3⟩ := h e hp.1
    have hp2 := hp.2.2
    rw [h2] at hp2
    obtain ⟨k1, k2⟩ := ih hp2
    refine ⟨⟨hp.1, h1.symm.trans hp.2.1, k1⟩, ?_⟩
    simp only [wk_S]
    rw [h3, k2]
theorem wk_Icg {A B A' B' : Nat → Nat} {c c' : Nat → Int} {L : List Nat} (h : ∀ e, e ∈ L → A' e = A e ∧ B' e = B e ∧ c' e = c e) (I : wk_I A B c L) : wk_I A' B' c' L := by
  intro p a hp
  obtain ⟨k1, k2⟩ := wk_cg h hp
  rw [k2]
  exact I p a k1
theorem ar_un {f : Nat → Int32} {k e : Nat} {x : Int32} (h : e ≠ k) : ar_N (upd f k x) e = ar_N f e := by
  unfold ar_N
  rw [pk_un h]
theorem ac_un {f : Nat → Int32} {k e : Nat} {x : Int32} (h : e ≠ k) : ar_c (upd f k x) e = ar_c f e := by
  unfold ar_c
  rw [pk_un h]
theorem upd_0 {f : Nat → Int32} {k : Nat} (h : f k = 0) : upd f k 0 = f := by
  funext j
  by_cases hj : j = k
  · rw [hj, pk_us, h]
  · exact pk_un hj
theorem rl_new {st : Nat → Int32} {M : Nat} (h : st (M + 1) = 0) : rl_L st (M + 1) = rl_L st M := if_neg (by rw [h]; decide)
/-- a new order is accepted -/
theorem co_acc {C El A P a M E : Nat} {ck : Int32} {st ow gt gv lm lf fi pd rL bk ho : Nat → Int32} (h : co_R C El A P a M E ck st ow gt gv lm lf fi pd rL bk ho) {x y : Nat} {lim lots : Int32} (hx : x < 5) (hy : y < 5) (hME : M < El) (hl1 : -999 ≤ lim.toInt) (hl2 : lim.toInt ≤ 999) :
    co_R C El A P a (M + 1) 0 ck st (upd ow (M + 1) (nI a)) (upd gt (M + 1) (nI x)) (upd gv (M + 1) (nI y)) (upd lm (M + 1) lim) (upd lf (M + 1) lots) fi pd rL bk ho := by
  obtain ⟨⟨s1, s2, s3, s4, s5, s6, s7, s8⟩, hB, hE, hF, hR, hH⟩ := h
  have hf := hF (M + 1) (by omega)
  have hrl := rl_new hf.1
  refine ⟨⟨s1, s2, s3, s4, s5, s6, by omega, by omega⟩, ⟨?_, ?_, ?_⟩, ?_, ?_, ?_, ?_⟩
  · rw [hrl]; exact hB.1
  · rw [hrl]; exact hB.2.1
  · rw [hrl]
    refine wk_Icg ?_ hB.2.2
    intro e he
    have : e ≠ M + 1 := by have := (rl_mem.mp he).2.1; omega
    exact ⟨ar_un this, ar_un this, ac_un this⟩
  · intro e e1 e2
    by_cases he : e = M + 1
    · subst he
      refine ⟨en_of (g := x) (v := y) e1 (by omega) pk_us hx pk_us hy (by rw [pk_us]; exact hl1) (by rw [pk_us]; exact hl2), ⟨a, s5, pk_us⟩, ?_⟩
      intro z
      rw [hf.1] at z
      exact absurd z (by decide)
    · obtain ⟨a1, a2, a3⟩ := hE e e1 (by omega)
      refine ⟨?_, ?_, ?_⟩
      · unfold en_ok
        rw [pk_un he, pk_un he, ar_un he, ar_un he, ac_un he]
        exact a1
      · rw [pk_un he]; exact a2
      · rw [pk_un he]; exact a3
  · intro e he
    exact hF e (by omega)
  · intro i hi
    omega
  · intro b j hb hj
    have e0 : hs_S (hs_1 (upd ow (M + 1) (nI a)) (upd gt (M + 1) (nI x)) (upd gv (M + 1) (nI y)) fi pd b j) (M + 1) = hs_S (hs_1 (upd ow (M + 1) (nI a)) (upd gt (M + 1) (nI x)) (upd gv (M + 1) (nI y)) fi pd b j) M + hs_1 (upd ow (M + 1) (nI a)) (upd gt (M + 1) (nI x)) (upd gv (M + 1) (nI y)) fi pd b j (M + 1) := rfl
    have e1 : hs_1 (upd ow (M + 1) (nI a)) (upd gt (M + 1) (nI x)) (upd gv (M + 1) (nI y)) fi pd b j (M + 1) = 0 := by
      unfold hs_1
      rw [hf.2.1, hf.2.2]
      simp
    rw [e0, e1, Int32.add_zero, hH b j hb hj]
    refine (hs_ext ?_).symm
    intro e _ he
    have : e ≠ M + 1 := by omega
    unfold hs_1
    rw [pk_un this, pk_un this, pk_un this]
/-- the order ends filled or cancelled -/
theorem co_fin {C El A P a M E : Nat} {ck : Int32} {st ow gt gv lm lf fi pd rL bk ho : Nat → Int32} (h : co_R C El A P a M E ck st ow gt gv lm lf fi pd rL bk ho) {x : Int32} {lf' : Nat → Int32} (hM : 1 ≤ M) (hst : st M = 0) (hx : x ≠ 1) (hlf : ∀ y, y ≠ M → lf' y = lf y) :
    rl_L (upd st M x) M = rl_L st M ∧ co_R C El A P a M E ck (upd st M x) ow gt gv lm lf' fi pd rL bk ho := by
  have hrl : rl_L (upd st M x) M = rl_L st M := by
    refine rl_ext ?_
    intro e _ _
    by_cases he : e = M
    · subst he
      rw [pk_us, hst]
      constructor
      · intro z; exact absurd z hx
      · intro z; exact absurd z (by decide)
    · rw [pk_un he]
  refine ⟨hrl, ?_⟩
  obtain ⟨hS, hB, hE, hF, hR, hH⟩ := h
  refine ⟨hS, ⟨by rw [hrl]; exact hB.1, by rw [hrl]; exact hB.2.1, by rw [hrl]; exact hB.2.2⟩, ?_, ?_, hR, hH⟩
  · intro e e1 e2
    obtain ⟨a1, a2, a3⟩ := hE e e1 e2
    refine ⟨a1, a2, ?_⟩
    by_cases he : e = M
    · subst he
      rw [pk_us]
      intro z
      exact absurd z hx
    · rw [pk_un he, hlf e he]
      exact a3
  · intro e he
    rw [pk_un (by omega)]
    exact hF e he
/-- the order comes to rest -/
theorem co_rest {C El A P a M E x y : Nat} {ck : Int32} {st ow gt gv lm lf fi pd rL bk ho : Nat → Int32} (h : co_R C El A P a M E ck st ow gt gv lm lf fi pd rL bk ho) (hM : 1 ≤ M) (hst : st M = 0) (hgx : gt M = nI x) (hx : x < 5) (hgy : gv M = nI y) (hy : y < 5)
    (h1 : 1 ≤ (lf M).toInt) (h2 : (lf M).toInt ≤ 99) (h3 : (rl_L st M).length ≤ 23) (hF : ∀ q, wk_W (ar_N gv) (ar_N gt) (rl_L st M) q x y → 0 ≤ (5 * wk_S (ar_c lm) q - q.length) + (5 * ar_c lm M - 1)) :
    rl_L (upd st M 1) M = rl_L st M ++ [M] ∧ co_R C El A P a M E ck (upd st M 1) ow gt gv lm lf fi pd rL (upd bk (rl_L st M).length (nI M)) ho := by
  have hrl : rl_L (upd st M 1) M = rl_L st M ++ [M] := by
    cases M with
    | zero => omega
    | succ M =>
      have e1 : rl_L (upd st (M + 1) 1) (M + 1) = rl_L (upd st (M + 1) 1) M ++ [M + 1] := if_pos pk_us
      have e2 : rl_L (upd st (M + 1) 1) M = rl_L st M := rl_ext (fun e _ he => by rw [pk_un (show e ≠ M + 1 by omega)])
      rw [e1, e2, rl_new hst]
  refine ⟨hrl, ?_⟩
  have gx : ar_N gt M = x := by unfold ar_N; rw [hgx]; exact nI_clamp (by omega)
  have gy : ar_N gv M = y := by unfold ar_N; rw [hgy]; exact nI_clamp (by omega)
  obtain ⟨hS, hB, hE, hFr, hR, hH⟩ := h
  refine ⟨hS, ⟨?_, ?_, ?_⟩, ?_, ?_, hR, hH⟩
  · rw [hrl, List.length_append]
    show _ + 1 ≤ 24
    omega
  · rw [hrl]
    exact hd_snoc (Nat.zero_add _).symm hB.2.1
  · rw [hrl]
    refine wk_add hB.2.2 ?_
    rw [gx, gy]
    exact hF
  · intro e e1 e2
    obtain ⟨a1, a2, a3⟩ := hE e e1 e2
    refine ⟨a1, a2, ?_⟩
    by_cases he : e = M
    · subst he
      intro _
      exact ⟨h1, h2⟩
    · rw [pk_un he]
      exact a3
  · intro e he
    rw [pk_un (by omega)]
    exact hFr e he
section
variable {cp el ac pl ca ck m n ex un pL pC pQ bL bC lW : Int32} {st ow gt gv lm lf fi pd bk ho rL rO rC rE di po pa yb nx yp be : Nat → Int32}
/-- enter, behind its checks: one outcome -/
theorem et_ok {C El A P a M E x y : Nat} {lim lots : Int32} (h : co_R C El A P a M E ck st ow gt gv lm lf fi pd rL bk ho) (hx : x < 5) (hy : y < 5) (hxy : x ≠ y) (hME : M < El) (hl1 : -999 ≤ lim.toInt) (hl2 : lim.toInt ≤ 999)
    (ho1 : 1 ≤ lots.toInt) (ho2 : lots.toInt ≤ 99) (hfull : ck = 0 → (rl_L st M).length < C) :
    ∃ (E' : Nat) (pL' pC' pQ' : Int32) (st' ow' gt' gv' lm' lf' fi' pd' bk' ho' rL' rO' rC' rE' di' pa' : Nat → Int32), co_R C El A P a (M + 1) E' ck st' ow' gt' gv' lm' lf' fi' pd' rL' bk' ho' ∧
      (∀ (post : Int32 → SX → Prop), post (nI (M + 1)) (nI C, nI El, nI A, nI P, nI a, ck, nI (M + 1), nI (rl_L st' (M + 1)).length, nI E', un, pL', pC', pQ', st', ow', gt', gv', lm', lf', fi', pd', bk', ho', rL', rO', rC', rE', di', po, pa') → wpX_enter post (nI C, nI El, nI A, nI P, nI a, ck, nI M, nI (rl_L st M).length, nI E, un, pL, pC, pQ, st, ow, gt, gv, lm, lf, fi, pd, bk, ho, rL, rO, rC, rE, di, po, pa) (nI x) (nI y) lim lots) ∧
      (∀ (post : Int32 → SY → Prop), (∀ (bL' bC' lW' : Int32) (yb' nx' yp' be' : Nat → Int32), post (nI (M + 1)) (nI C, nI El, nI A, nI P, nI a, ck, nI (M + 1), nI E', bL', bC', lW', st', ow', gt', gv', lm', lf', fi', pd', rL', rO', rC', rE', yb', nx', yp', be')) → wY_enter_75 post (nI x) (nI y) lim lots (nI C) (nI El) (nI A) (nI P) (nI a) ck (nI M) (nI E) bL bC lW st ow gt gv lm lf fi pd rL rO rC rE yb nx yp be) := by
  obtain ⟨s1, s2, s3, s4, s5, s6, s7, s8⟩ := h.1
  have hfr := h.2.2.2.1 (M + 1) (by omega)
  have hMl : (nI (M + 1)).toNatClampNeg = M + 1 := nI_clamp (by omega)
  have hMi : vp_in (nI (M + 1)) 201 := vp_in_nI (by omega) (by decide)
  have hacc := co_acc (lots := lots) h hx hy hME hl1 hl2
  obtain ⟨E', pL', pC', pQ', st', lf', fi', pd', bk', ho', rL', rO', rC', rE', di', pa', n1, n2, n3, n4, n5⟩ := en_l (un := un) (po := po) (M := M + 1) (x := x) (y := y) (by omega) hx hy hxy pk_us pk_us 24 0 pL pC pQ st (upd lf (M + 1) lots) fi pd bk ho rL rO rC rE di pa rfl hacc hfr.1 (by rw [pk_us]; omega) (by
    intro h1 _
    rw [rl_new hfr.1]
    have := hfull h1
    omega)
  have hX0 : ∀ (post : Int32 → SX → Prop), wX_enter_43 post (nI (M + 1)) (nI C) (nI El) (nI A) (nI P) (nI a) ck (nI (M + 1)) (nI (rl_L st' (M + 1)).length) (nI E') un pL' pC' pQ' st' (upd ow (M + 1) (nI a)) (upd gt (M + 1) (nI x)) (upd gv (M + 1) (nI y)) (upd lm (M + 1) lim) lf' fi' pd' bk' ho' rL' rO' rC' rE' di' po pa' → wpX_enter post (nI C, nI El, nI A, nI P, nI a, ck, nI M, nI (rl_L st M).length, nI E, un, pL, pC, pQ, st, ow, gt, gv, lm, lf, fi, pd, bk, ho, rL, rO, rC, rE, di, po, pa) (nI x) (nI y) lim lots := by
    intro post hp
    have hr := n4 post 26 (by omega) hp
    rw [rl_new hfr.1] at hr
    refine nm_r (nI_1 M) (And.intro hMi ?_)
    rw [hMl]
    exact nm_e ⟨hMi, nm_e ⟨hMi, nm_e ⟨hMi, nm_e ⟨hMi, nm_e ⟨hMi, nm_r (upd_0 hfr.2.1) ⟨hMi, nm_r (upd_0 hfr.2.2) (Exists.intro 26 hr)⟩⟩⟩⟩⟩⟩
  have hY0 : ∀ (post : Int32 → SY → Prop), (∀ (bL' bC' lW' : Int32) (yb' nx' yp' be' : Nat → Int32), wY_enter_360 post (nI (M + 1)) (nI C) (nI El) (nI A) (nI P) (nI a) ck (nI (M + 1)) (nI E') bL' bC' lW' st' (upd ow (M + 1) (nI a)) (upd gt (M + 1) (nI x)) (upd gv (M + 1) (nI y)) (upd lm (M + 1) lim) lf' fi' pd' rL' rO' rC' rE' yb' nx' yp' be') → wY_enter_75 post (nI x) (nI y) lim lots (nI C) (nI El) (nI A) (nI P) (nI a) ck (nI M) (nI E) bL bC lW st ow gt gv lm lf fi pd rL rO rC rE yb nx yp be := by
    intro post hp
    have hr := n5 post 25 bL bC lW yb nx yp be (by omega) hp
    rw [pk_us] at hr
    refine nm_r (nI_1 M) (And.intro hMi ?_)
    rw [hMl]
    exact nm_e ⟨hMi, nm_e ⟨hMi, nm_e ⟨hMi, nm_e ⟨hMi, nm_e (Exists.intro 25 hr)⟩⟩⟩⟩
  clear n4 n5
  by_cases hz : lf' (M + 1) = 0
  · obtain ⟨f1, f2⟩ := co_fin (x := 2) (lf' := lf') n1 (by omega) n2 (by decide) (fun _ _ => rfl)
    refine ⟨E', pL', pC', pQ', upd st' (M + 1) 2, upd ow (M + 1) (nI a), upd gt (M + 1) (nI x), upd gv (M + 1) (nI y), upd lm (M + 1) lim, lf', fi', pd', bk', ho', rL', rO', rC', rE', di', pa', f2, ?_, ?_⟩
    · intro post hp
      refine hX0 post (And.intro hMi ?_)
      rw [hMl]
      rw [f1] at hp
      exact br_t hz ⟨hMi, nm_e hp⟩
    · intro post hp
      refine hY0 post ?_
      intro bL' bC' lW' yb' nx' yp' be'
      refine And.intro hMi ?_
      rw [hMl]
      refine br_t hz (And.intro hMi ?_)
      rw [hMl]
      refine nm_e ⟨hMi, ?_⟩
      rw [pk_us]
      exact br_f (by decide) (hp _ _ _ _ _ _ _)
  · by_cases hc : ck = 0
    · obtain ⟨w1, w2, w3, w4⟩ := n3 hc hz
      obtain ⟨f1, f2⟩ := co_rest n1 (by omega) n2 pk_us hx pk_us hy w2 w1 w3 w4
      have hLl : (nI (rl_L st' (M + 1)).length).toNatClampNeg = (rl_L st' (M + 1)).length := nI_clamp (by omega)
      refine ⟨E', pL', pC', pQ', upd st' (M + 1) 1, upd ow (M + 1) (nI a), upd gt (M + 1) (nI x), upd gv (M + 1) (nI y), upd lm (M + 1) lim, lf', fi', pd', upd bk' (rl_L st' (M + 1)).length (nI (M + 1)), ho', rL', rO', rC', rE', di', pa', f2, ?_, ?_⟩
      · intro post hp
        refine hX0 post (And.intro hMi ?_)
        rw [hMl, hLl]
        rw [f1, List.length_append] at hp
        exact br_f hz (br_t hc (br_f (nI_ge (b := 24) (by omega) (by decide)) ⟨hMi, nm_e ⟨vp_in_nI (by omega) (by decide), nm_e (nm_r (nI_1 _) hp)⟩⟩))
      · intro post hp
        refine hY0 post ?_
        intro bL' bC' lW' yb' nx' yp' be'
        refine And.intro hMi ?_
        rw [hMl]
        refine br_f hz (br_t hc (And.intro hMi ?_))
        rw [hMl]
        refine nm_e ⟨hMi, ?_⟩
        rw [pk_us]
        exact br_f (by decide) (hp _ _ _ _ _ _ _)
    · obtain ⟨f1, f2⟩ := co_fin (x := 3) (lf' := upd lf' (M + 1) 0) n1 (by omega) n2 (by decide) (fun y hy => pk_un hy)
      refine ⟨E', pL', pC', pQ', upd st' (M + 1) 3, upd ow (M + 1) (nI a), upd gt (M + 1) (nI x), upd gv (M + 1) (nI y), upd lm (M + 1) lim, upd lf' (M + 1) 0, fi', pd', bk', ho', rL', rO', rC', rE', di', pa', f2, ?_, ?_⟩
      · intro post hp
        refine hX0 post (And.intro hMi ?_)
        rw [hMl]
        rw [f1] at hp
        refine br_f hz (br_f hc (And.intro hMi ?_))
        rw [hMl]
        exact nm_e ⟨hMi, nm_e hp⟩
      · intro post hp
        refine hY0 post ?_
        intro bL' bC' lW' yb' nx' yp' be'
        refine And.intro hMi ?_
        rw [hMl]
        refine br_f hz (br_f hc (And.intro hMi ?_))
        rw [hMl]
        refine nm_e ⟨hMi, ?_⟩
        rw [pk_us]
        exact br_t rfl ⟨hMi, nm_e (hp _ _ _ _ _ _ _)⟩
end
end
section
theorem pr_T {P : Nat} {p : Int32} (hP : P ≤ 999) (h1 : ¬ p < -(nI P)) (h2 : p ≤ nI P) : -999 ≤ p.toInt ∧ p.toInt ≤ 999 := by
  have e1 : (nI P).toInt = P := nI_toInt (by omega)
  have e2 : (-(nI P)).toInt = -(P : Int) := by rw [Jvm.Kit.i32_neg (by rw [e1]; omega), e1]
  rw [Int32.lt_iff_toInt_lt, e2] at h1
  rw [Int32.le_iff_toInt_le, e1] at h2
  omega
theorem lo_T {q : Int32} (h1 : ¬ q < 1) (h2 : q ≤ 99) : 1 ≤ q.toInt ∧ q.toInt ≤ 99 := by
  rw [Int32.lt_iff_toInt_lt, show (1 : Int32).toInt = 1 from by decide] at h1
  rw [Int32.le_iff_toInt_le, show (99 : Int32).toInt = 99 from by decide] at h2
  omega
theorem ng_T {p : Int32} (h1 : -999 ≤ p.toInt) (h2 : p.toInt ≤ 999) : (-p).toInt = -p.toInt := Jvm.Kit.i32_neg (by omega)
theorem mo_of {v : Int32} (h1 : ¬ v < 1) (h2 : v ≤ 4) : ∃ x, 1 ≤ x ∧ x ≤ 4 ∧ v = nI x := in_of (M := 4) (by decide) h1 (Int32.not_lt.mpr h2)
theorem i_vc_buy {k : Nat} {u : SX} {v : SY} (I : i_Rel k u v) (hk : k + 5 ≤ 2564) (v1 : Int32) (v2 : Int32) (v3 : Int32) : wpX_buy (fun r u' => wpY_buy (fun r' v' => r' = r ∧ i_Rel (k + 5) u' v') v v1 v2 v3) u v1 v2 v3 := by
  refine zz_el (Q := fun u v => wpX_buy (fun r u' => wpY_buy (fun r' v' => r' = r ∧ i_Rel (k + 5) u' v') v v1 v2 v3) u v1 v2 v3) ?_ I
  intro C El A P a M E ck un pL pC pQ bL bC lW st ow gt gv lm lf fi pd bk ho rL rO rC rE di po pa yb nx yp be h
  obtain ⟨s1, s2, s3, s4, s5, s6, s7, s8⟩ := h.1
  by_cases m1 : v1 < 1
  · exact br_t m1 (br_t rfl (br_t m1 (And.intro rfl (zz_in h))))
  by_cases m2 : v1 ≤ 4
  case neg => exact br_f m1 (br_t (Int32.not_le.mp m2) (br_t rfl (br_f m1 (br_f m2 (And.intro rfl (zz_in h))))))
  have m3 : ¬ 4 < v1 := Int32.not_lt.mpr m2
  obtain ⟨x, x1, x2, rfl⟩ := mo_of m1 m2
  refine br_f m1 (br_f m3 (br_f (by decide) ?_))
  by_cases c1 : v2 < -(nI P)
  · exact br_t c1 (br_f (by decide) (br_f m1 (br_t m2 (br_t c1 (And.intro rfl (zz_in h))))))
  by_cases c2 : v2 ≤ nI P
  case neg => exact br_f c1 (br_f c2 (br_f (by decide) (br_f m1 (br_t m2 (br_f c1 (br_f c2 (And.intro rfl (zz_in h))))))))
  by_cases c3 : v3 < 1
  · exact br_f c1 (br_t c2 (br_t c3 (br_f (by decide) (br_f m1 (br_t m2 (br_f c1 (br_t c2 (br_t c3 (And.intro rfl (zz_in h))))))))))
  by_cases c4 : v3 ≤ 99
  case neg => exact br_f c1 (br_t c2 (br_f c3 (br_f c4 (br_f (by decide) (br_f m1 (br_t m2 (br_f c1 (br_t c2 (br_f c3 (br_f c4 (And.intro rfl (zz_in h))))))))))))
  by_cases c5 : nI M < nI El
  case neg => exact br_f c1 (br_t c2 (br_f c3 (br_t c4 (br_f c5 (br_f (by decide) (br_f m1 (br_t m2 (br_f c1 (br_t c2 (br_f c3 (br_t c4 (br_f c5 (And.intro rfl (zz_in h))))))))))))))
  have hME : M < El := (nI_ltI (by omega) (by omega)).mp c5
  obtain ⟨p1, p2⟩ := pr_T s4 c1 c2
  obtain ⟨o1, o2⟩ := lo_T c3 c4
  by_cases c6 : ck = 0
  · by_cases c7 : nI (rl_L st M).length < nI C
    case neg => exact br_f c1 (br_t c2 (br_f c3 (br_t c4 (br_t c5 (br_t c6 (br_f c7 (br_f (by decide) (br_f m1 (br_t m2 (br_f c1 (br_t c2 (br_f c3 (br_t c4 (br_t c5 (yr_ok (by omega) (br_t c6 (br_f c7 (And.intro rfl (zz_in h)))))))))))))))))))
    have hfull : (rl_L st M).length < C := (nI_ltI (by have := h.2.1.1; omega) (by omega)).mp c7
    obtain ⟨E', pL', pC', pQ', st', ow', gt', gv', lm', lf', fi', pd', bk', ho', rL', rO', rC', rE', di', pa', n1, n2, n3⟩ := et_ok (un := un) (pL := pL) (pC := pC) (pQ := pQ) (bL := bL) (bC := bC) (lW := lW) (rO := rO) (rC := rC) (rE := rE) (di := di) (po := po) (pa := pa) (yb := yb) (nx := nx) (yp := yp) (be := be) (x := x) (y := 0) (lim := v2) (lots := v3) h (by omega) (by decide) (by omega) hME (by first | omega | (rw [ng_T p1 p2]; omega)) (by first | omega | (rw [ng_T p1 p2]; omega)) o1 o2 (fun _ => hfull)
    refine br_f c1 (br_t c2 (br_f c3 (br_t c4 (br_t c5 (br_t c6 (br_t c7 (br_t rfl (n2 _ (br_f m1 (br_t m2 (br_f c1 (br_t c2 (br_f c3 (br_t c4 (br_t c5 (yr_ok (by omega) (br_t c6 (br_t c7 (n3 _ ?_)))))))))))))))))))
    intro bL' bC' lW' yb' nx' yp' be'
    exact And.intro rfl (zz_in n1)
  · obtain ⟨E', pL', pC', pQ', st', ow', gt', gv', lm', lf', fi', pd', bk', ho', rL', rO', rC', rE', di', pa', n1, n2, n3⟩ := et_ok (un := un) (pL := pL) (pC := pC) (pQ := pQ) (bL := bL) (bC := bC) (lW := lW) (rO := rO) (rC := rC) (rE := rE) (di := di) (po := po) (pa := pa) (yb := yb) (nx := nx) (yp := yp) (be := be) (x := x) (y := 0) (lim := v2) (lots := v3) h (by omega) (by decide) (by omega) hME (by first | omega | (rw [ng_T p1 p2]; omega)) (by first | omega | (rw [ng_T p1 p2]; omega)) o1 o2 (fun z => absurd z c6)
    refine br_f c1 (br_t c2 (br_f c3 (br_t c4 (br_t c5 (br_f c6 (br_t rfl (n2 _ (br_f m1 (br_t m2 (br_f c1 (br_t c2 (br_f c3 (br_t c4 (br_t c5 (yr_ok (by omega) (br_f c6 (n3 _ ?_)))))))))))))))))
    intro bL' bC' lW' yb' nx' yp' be'
    exact And.intro rfl (zz_in n1)
theorem i_vc_sell {k : Nat} {u : SX} {v : SY} (I : i_Rel k u v) (hk : k + 5 ≤ 2564) (v1 : Int32) (v2 : Int32) (v3 : Int32) : wpX_sell (fun r u' => wpY_sell (fun r' v' => r' = r ∧ i_Rel (k + 5) u' v') v v1 v2 v3) u v1 v2 v3 := by
  refine zz_el (Q := fun u v => wpX_sell (fun r u' => wpY_sell (fun r' v' => r' = r ∧ i_Rel (k + 5) u' v') v v1 v2 v3) u v1 v2 v3) ?_ I
  intro C El A P a M E ck un pL pC pQ bL bC lW st ow gt gv lm lf fi pd bk ho rL rO rC rE di po pa yb nx yp be h
  obtain ⟨s1, s2, s3, s4, s5, s6, s7, s8⟩ := h.1
  by_cases m1 : v1 < 1
  · exact br_t m1 (br_t rfl (br_t m1 (And.intro rfl (zz_in h))))
  by_cases m2 : v1 ≤ 4
  case neg => exact br_f m1 (br_t (Int32.not_le.mp m2) (br_t rfl (br_f m1 (br_f m2 (And.intro rfl (zz_in h))))))
  have m3 : ¬ 4 < v1 := Int32.not_lt.mpr m2
  obtain ⟨x, x1, x2, rfl⟩ := mo_of m1 m2
  refine br_f m1 (br_f m3 (br_f (by decide) ?_))
  by_cases c1 : v2 < -(nI P)
  · exact br_t c1 (br_f (by decide) (br_f m1 (br_t m2 (br_t c1 (And.intro rfl (zz_in h))))))
  by_cases c2 : v2 ≤ nI P
  case neg => exact br_f c1 (br_f c2 (br_f (by decide) (br_f m1 (br_t m2 (br_f c1 (br_f c2 (And.intro rfl (zz_in h))))))))
  by_cases c3 : v3 < 1
  · exact br_f c1 (br_t c2 (br_t c3 (br_f (by decide) (br_f m1 (br_t m2 (br_f c1 (br_t c2 (br_t c3 (And.intro rfl (zz_in h))))))))))
  by_cases c4 : v3 ≤ 99
  case neg => exact br_f c1 (br_t c2 (br_f c3 (br_f c4 (br_f (by decide) (br_f m1 (br_t m2 (br_f c1 (br_t c2 (br_f c3 (br_f c4 (And.intro rfl (zz_in h))))))))))))
  by_cases c5 : nI M < nI El
  case neg => exact br_f c1 (br_t c2 (br_f c3 (br_t c4 (br_f c5 (br_f (by decide) (br_f m1 (br_t m2 (br_f c1 (br_t c2 (br_f c3 (br_t c4 (br_f c5 (And.intro rfl (zz_in h))))))))))))))
  have hME : M < El := (nI_ltI (by omega) (by omega)).mp c5
  obtain ⟨p1, p2⟩ := pr_T s4 c1 c2
  obtain ⟨o1, o2⟩ := lo_T c3 c4
  by_cases c6 : ck = 0
  · by_cases c7 : nI (rl_L st M).length < nI C
    case neg => exact br_f c1 (br_t c2 (br_f c3 (br_t c4 (br_t c5 (br_t c6 (br_f c7 (br_f (by decide) (br_f m1 (br_t m2 (br_f c1 (br_t c2 (br_f c3 (br_t c4 (br_t c5 (yr_ok (by omega) (br_t c6 (br_f c7 (And.intro rfl (zz_in h)))))))))))))))))))
    have hfull : (rl_L st M).length < C := (nI_ltI (by have := h.2.1.1; omega) (by omega)).mp c7
    obtain ⟨E', pL', pC', pQ', st', ow', gt', gv', lm', lf', fi', pd', bk', ho', rL', rO', rC', rE', di', pa', n1, n2, n3⟩ := et_ok (un := un) (pL := pL) (pC := pC) (pQ := pQ) (bL := bL) (bC := bC) (lW := lW) (rO := rO) (rC := rC) (rE := rE) (di := di) (po := po) (pa := pa) (yb := yb) (nx := nx) (yp := yp) (be := be) (x := 0) (y := x) (lim := -v2) (lots := v3) h (by decide) (by omega) (by omega) hME (by first | omega | (rw [ng_T p1 p2]; omega)) (by first | omega | (rw [ng_T p1 p2]; omega)) o1 o2 (fun _ => hfull)
    refine br_f c1 (br_t c2 (br_f c3 (br_t c4 (br_t c5 (br_t c6 (br_t c7 (br_t rfl (n2 _ (br_f m1 (br_t m2 (br_f c1 (br_t c2 (br_f c3 (br_t c4 (br_t c5 (yr_ok (by omega) (br_t c6 (br_t c7 (n3 _ ?_)))))))))))))))))))
    intro bL' bC' lW' yb' nx' yp' be'
    exact And.intro rfl (zz_in n1)
  · obtain ⟨E', pL', pC', pQ', st', ow', gt', gv', lm', lf', fi', pd', bk', ho', rL', rO', rC', rE', di', pa', n1, n2, n3⟩ := et_ok (un := un) (pL := pL) (pC := pC) (pQ := pQ) (bL := bL) (bC := bC) (lW := lW) (rO := rO) (rC := rC) (rE := rE) (di := di) (po := po) (pa := pa) (yb := yb) (nx := nx) (yp := yp) (be := be) (x := 0) (y := x) (lim := -v2) (lots := v3) h (by decide) (by omega) (by omega) hME (by first | omega | (rw [ng_T p1 p2]; omega)) (by first | omega | (rw [ng_T p1 p2]; omega)) o1 o2 (fun z => absurd z c6)
    refine br_f c1 (br_t c2 (br_f c3 (br_t c4 (br_t c5 (br_f c6 (br_t rfl (n2 _ (br_f m1 (br_t m2 (br_f c1 (br_t c2 (br_f c3 (br_t c4 (br_t c5 (yr_ok (by omega) (br_f c6 (n3 _ ?_)))))))))))))))))
    intro bL' bC' lW' yb' nx' yp' be'
    exact And.intro rfl (zz_in n1)
theorem i_vc_spread {k : Nat} {u : SX} {v : SY} (I : i_Rel k u v) (hk : k + 5 ≤ 2564) (v1 : Int32) (v2 : Int32) (v3 : Int32) (v4 : Int32) : wpX_spread (fun r u' => wpY_spread (fun r' v' => r' = r ∧ i_Rel (k + 5) u' v') v v1 v2 v3 v4) u v1 v2 v3 v4 := by
  refine zz_el (Q := fun u v => wpX_spread (fun r u' => wpY_spread (fun r' v' => r' = r ∧ i_Rel (k + 5) u' v') v v1 v2 v3 v4) u v1 v2 v3 v4) ?_ I
  intro C El A P a M E ck un pL pC pQ bL bC lW st ow gt gv lm lf fi pd bk ho rL rO rC rE di po pa yb nx yp be h
  obtain ⟨s1, s2, s3, s4, s5, s6, s7, s8⟩ := h.1
  by_cases m1 : v1 < 1
  · exact br_t m1 (br_t rfl (br_t m1 (And.intro rfl (zz_in h))))
  by_cases m2 : 4 < v1
  · exact br_f m1 (br_t m2 (br_t rfl (br_f m1 (br_t m2 (And.intro rfl (zz_in h))))))
  refine br_f m1 (br_f m2 (br_f (by decide) ?_))
  by_cases m3 : v2 < 1
  · exact br_t m3 (br_t rfl (br_f m1 (br_f m2 (br_t m3 (And.intro rfl (zz_in h))))))
  by_cases m4 : 4 < v2
  · exact br_f m3 (br_t m4 (br_t rfl (br_f m1 (br_f m2 (br_f m3 (br_t m4 (And.intro rfl (zz_in h))))))))
  refine br_f m3 (br_f m4 (br_f (by decide) ?_))
  by_cases m5 : v1 = v2
  · exact br_t m5 (br_f m1 (br_f m2 (br_f m3 (br_f m4 (br_t m5 (And.intro rfl (zz_in h)))))))
  obtain ⟨x, x1, x2, rfl⟩ := mo_of m1 (Int32.not_lt.mp m2)
  obtain ⟨y, y1, y2, rfl⟩ := mo_of m3 (Int32.not_lt.mp m4)
  have hxy : x ≠ y := fun z => m5 (by rw [z])
  refine br_f m5 ?_
  by_cases c1 : v3 < -(nI P)
  · exact br_t c1 (br_f (by decide) (br_f m1 (br_f m2 (br_f m3 (br_f m4 (br_f m5 (br_t c1 (And.intro rfl (zz_in h)))))))))
  by_cases c2 : v3 ≤ nI P
  case neg => exact br_f c1 (br_f c2 (br_f (by decide) (br_f m1 (br_f m2 (br_f m3 (br_f m4 (br_f m5 (br_f c1 (br_f c2 (And.intro rfl (zz_in h)))))))))))
  by_cases c3 : v4 < 1
  · exact br_f c1 (br_t c2 (br_t c3 (br_f (by decide) (br_f m1 (br_f m2 (br_f m3 (br_f m4 (br_f m5 (br_f c1 (br_t c2 (br_t c3 (And.intro rfl (zz_in h)))))))))))))
  by_cases c4 : v4 ≤ 99
  case neg => exact br_f c1 (br_t c2 (br_f c3 (br_f c4 (br_f (by decide) (br_f m1 (br_f m2 (br_f m3 (br_f m4 (br_f m5 (br_f c1 (br_t c2 (br_f c3 (br_f c4 (And.intro rfl (zz_in h)))))))))))))))
  by_cases c5 : nI M < nI El
  case neg => exact br_f c1 (br_t c2 (br_f c3 (br_t c4 (br_f c5 (br_f (by decide) (br_f m1 (br_f m2 (br_f m3 (br_f m4 (br_f m5 (br_f c1 (br_t c2 (br_f c3 (br_t c4 (br_f c5 (And.intro rfl (zz_in h)))))))))))))))))
  have hME : M < El := (nI_ltI (by omega) (by omega)).mp c5
  obtain ⟨p1, p2⟩ := pr_T s4 c1 c2
  obtain ⟨o1, o2⟩ := lo_T c3 c4
  by_cases c6 : ck = 0
  · by_cases c7 : nI (rl_L st M).length < nI C
    case neg => exact br_f c1 (br_t c2 (br_f c3 (br_t c4 (br_t c5 (br_t c6 (br_f c7 (br_f (by decide) (br_f m1 (br_f m2 (br_f m3 (br_f m4 (br_f m5 (br_f c1 (br_t c2 (br_f c3 (br_t c4 (br_t c5 (yr_ok (by omega) (br_t c6 (br_f c7 (And.intro rfl (zz_in h))))))))))))))))))))))
    have hfull : (rl_L st M).length < C := (nI_ltI (by have := h.2.1.1; omega) (by omega)).mp c7
    obtain ⟨E', pL', pC', pQ', st', ow', gt', gv', lm', lf', fi', pd', bk', ho', rL', rO', rC', rE', di', pa', n1, n2, n3⟩ := et_ok (un := un) (pL := pL) (pC := pC) (pQ := pQ) (bL := bL) (bC := bC) (lW := lW) (rO := rO) (rC := rC) (rE := rE) (di := di) (po := po) (pa := pa) (yb := yb) (nx := nx) (yp := yp) (be := be) (x := x) (y := y) (lim := v3) (lots := v4) h (by omega) (by omega) hxy hME (by first | omega | (rw [ng_T p1 p2]; omega)) (by first | omega | (rw [ng_T p1 p2]; omega)) o1 o2 (fun _ => hfull)
    refine br_f c1 (br_t c2 (br_f c3 (br_t c4 (br_t c5 (br_t c6 (br_t c7 (br_t rfl (n2 _ (br_f m1 (br_f m2 (br_f m3 (br_f m4 (br_f m5 (br_f c1 (br_t c2 (br_f c3 (br_t c4 (br_t c5 (yr_ok (by omega) (br_t c6 (br_t c7 (n3 _ ?_))))))))))))))))))))))
    intro bL' bC' lW' yb' nx' yp' be'
    exact And.intro rfl (zz_in n1)
  · obtain ⟨E', pL', pC', pQ', st', ow', gt', gv', lm', lf', fi', pd', bk', ho', rL', rO', rC', rE', di', pa', n1, n2, n3⟩ := et_ok (un := un) (pL := pL) (pC := pC) (pQ := pQ) (bL := bL) (bC := bC) (lW := lW) (rO := rO) (rC := rC) (rE := rE) (di := di) (po := po) (pa := pa) (yb := yb) (nx := nx) (yp := yp) (be := be) (x := x) (y := y) (lim := v3) (lots := v4) h (by omega) (by omega) hxy hME (by first | omega | (rw [ng_T p1 p2]; omega)) (by first | omega | (rw [ng_T p1 p2]; omega)) o1 o2 (fun z => absurd z c6)
    refine br_f c1 (br_t c2 (br_f c3 (br_t c4 (br_t c5 (br_f c6 (br_t rfl (n2 _ (br_f m1 (br_f m2 (br_f m3 (br_f m4 (br_f m5 (br_f c1 (br_t c2 (br_f c3 (br_t c4 (br_t c5 (yr_ok (by omega) (br_f c6 (n3 _ ?_))))))))))))))))))))
    intro bL' bC' lW' yb' nx' yp' be'
    exact And.intro rfl (zz_in n1)
end
