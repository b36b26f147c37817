section
/-! pasted of the rows to paste: stores, numbers, branches by naturals -/
theorem pk_us {f : Nat → Int32} {k : Nat} {x : Int32} : upd f k x k = x := if_pos rfl
theorem pk_un {f : Nat → Int32} {k j : Nat} {x : Int32} (h : j ≠ k) : upd f k x j = f j := if_neg h
theorem pk_sub {a b : Nat} (h : b ≤ a) : nI a - nI b = nI (a - b) := by
  obtain ⟨c, rfl⟩ : ∃ c, a = c + b := ⟨a - b, by omega⟩
  rw [← nI_add, Int32.add_sub_cancel, Nat.add_sub_cancel]
theorem pk_m1 (n : Nat) : nI (n + 1) + (-1) = nI n := by
  rw [← nI_1, Int32.add_assoc, show (1 : Int32) + (-1) = 0 from rfl, Int32.add_zero]
theorem pk_mul (a b : Nat) : nI a * nI b = nI (a * b) := (Int32.ofNat_mul a b).symm
theorem pk_ix (x : Int32) {n : Nat} (hn : n < 2 ^ 31) : x < 0 ∨ nI n ≤ x ∨ ∃ j : Nat, j < n ∧ x = nI j := by
  by_cases h : x < 0
  · exact Or.inl h
  · obtain ⟨j, hj, rfl⟩ := nI_of h
    by_cases h2 : j < n
    · exact Or.inr (Or.inr ⟨j, h2, rfl⟩)
    · exact Or.inr (Or.inl (nI_le (by omega) hj))
theorem pk_le {x y : Int32} {A B : Prop} (a b : Nat) (f : a ≤ b → A) (g : b < a → B) (hx : x = nI a := by rfl) (hy : y = nI b := by rfl) (ha : a < 2 ^ 31 := by omega) (hb : b < 2 ^ 31 := by omega) : (x ≤ y → A) ∧ (¬ x ≤ y → B) := by
  subst hx hy
  rw [nI_leI ha hb]
  exact ⟨f, fun z => g (by omega)⟩
theorem pk_lt {x y : Int32} {A B : Prop} (a b : Nat) (f : a < b → A) (g : b ≤ a → B) (hx : x = nI a := by rfl) (hy : y = nI b := by rfl) (ha : a < 2 ^ 31 := by omega) (hb : b < 2 ^ 31 := by omega) : (x < y → A) ∧ (¬ x < y → B) := by
  subst hx hy
  rw [nI_ltI ha hb]
  exact ⟨f, fun z => g (by omega)⟩
theorem pk_eq {x y : Int32} {A B : Prop} (a b : Nat) (f : a = b → A) (g : a ≠ b → B) (hx : x = nI a := by rfl) (hy : y = nI b := by rfl) (ha : a < 2 ^ 31 := by omega) (hb : b < 2 ^ 31 := by omega) : (x = y → A) ∧ (¬ x = y → B) := by
  subst hx hy
  rw [nI_eq ha hb]
  exact ⟨f, g⟩
theorem pk_in {x : Int32} (n N : Nat) (h : n < N) (hx : x = nI n := by rfl) (hN : N < 2 ^ 31 := by omega) : vp_in x N := by
  subst hx
  exact vp_in_nI h hN
theorem pk_cl {x : Int32} (n : Nat) (hx : x = nI n := by rfl) (h : n < 2 ^ 31 := by omega) : x.toNatClampNeg = n := by
  subst hx
  exact nI_clamp h
end
section
/-! the order of paths: a path ahead of its extensions; at the first difference the greater key comes first -/
def rg_lt : List Nat → List Nat → Prop
  | _, [] => False
  | [], _ :: _ => True
  | a :: s, b :: t => b < a ∨ (a = b ∧ rg_lt s t)
theorem rg_lt_nil (s : List Nat) : ¬ rg_lt s [] := by
  cases s <;> simp [rg_lt]
theorem rg_nil_lt (b : Nat) (t : List Nat) : rg_lt [] (b :: t) := by simp [rg_lt]
theorem rg_cons {a b : Nat} {s t : List Nat} : rg_lt (a :: s) (b :: t) ↔ b < a ∨ (a = b ∧ rg_lt s t) := by simp only [rg_lt]
theorem rg_irr (s : List Nat) : ¬ rg_lt s s := by
  induction s with
  | nil => exact rg_lt_nil _
  | cons a s ih =>
    intro h
    rcases rg_cons.mp h with h | ⟨_, h⟩
    · omega
    · exact ih h
theorem rg_trans {a b c : List Nat} (h1 : rg_lt a b) (h2 : rg_lt b c) : rg_lt a c := by
  induction a generalizing b c with
  | nil =>
    cases c with
    | nil => exact absurd h2 (rg_lt_nil _)
    | cons z c => exact rg_nil_lt z c
  | cons x a ih =>
    cases b with
    | nil => exact absurd h1 (rg_lt_nil _)
    | cons y b =>
      cases c with
      | nil => exact absurd h2 (rg_lt_nil _)
      | cons z c =>
        rcases rg_cons.mp h1 with h1 | ⟨e1, h1⟩ <;> rcases rg_cons.mp h2 with h2 | ⟨e2, h2⟩
        · exact rg_cons.mpr (Or.inl (by omega))
        · exact rg_cons.mpr (Or.inl (by omega))
        · exact rg_cons.mpr (Or.inl (by omega))
        · exact rg_cons.mpr (Or.inr ⟨by omega, ih h1 h2⟩)
theorem rg_tot (a b : List Nat) : rg_lt a b ∨ a = b ∨ rg_lt b a := by
  induction a generalizing b with
  | nil =>
    cases b with
    | nil => exact Or.inr (Or.inl rfl)
    | cons y b => exact Or.inl (rg_nil_lt y b)
  | cons x a ih =>
    cases b with
    | nil => exact Or.inr (Or.inr (rg_nil_lt x a))
    | cons y b =>
      rcases Nat.lt_trichotomy x y with h | h | h
      · exact Or.inr (Or.inr (rg_cons.mpr (Or.inl h)))
      · subst h
        rcases ih b with h | h | h
        · exact Or.inl (rg_cons.mpr (Or.inr ⟨rfl, h⟩))
        · exact Or.inr (Or.inl (by rw [h]))
        · exact Or.inr (Or.inr (rg_cons.mpr (Or.inr ⟨rfl, h⟩)))
      · exact Or.inl (rg_cons.mpr (Or.inl h))
theorem rg_asym {a b : List Nat} (h : rg_lt a b) (h2 : rg_lt b a) : False := rg_irr a (rg_trans h h2)
theorem rg_app {q s t : List Nat} : rg_lt (q ++ s) (q ++ t) ↔ rg_lt s t := by
  induction q with
  | nil => exact Iff.rfl
  | cons x q ih =>
    constructor
    · intro h
      rcases rg_cons.mp h with h | ⟨_, h⟩
      · omega
      · exact ih.mp h
    · intro h
      exact rg_cons.mpr (Or.inr ⟨rfl, ih.mpr h⟩)
theorem rg_ext (p : List Nat) (k : Nat) (t : List Nat) : rg_lt p (p ++ k :: t) := by
  have h : rg_lt (p ++ []) (p ++ k :: t) := rg_app.mpr (rg_nil_lt k t)
  rwa [List.append_nil] at h
theorem rg_dif (q : List Nat) {k1 k2 : Nat} (s t : List Nat) (h : k2 < k1) : rg_lt (q ++ k1 :: s) (q ++ k2 :: t) :=
  rg_app.mpr (rg_cons.mpr (Or.inl h))
theorem rg_split {p z : List Nat} (h : rg_lt p z) : (∃ k t, z = p ++ k :: t) ∨ (∃ q k1 s k2 t, p = q ++ k1 :: s ∧ z = q ++ k2 :: t ∧ k2 < k1) := by
  induction p generalizing z with
  | nil =>
    cases z with
    | nil => exact absurd h (rg_lt_nil _)
    | cons k t => exact Or.inl ⟨k, t, rfl⟩
  | cons x p ih =>
    cases z with
    | nil => exact absurd h (rg_lt_nil _)
    | cons y z =>
      rcases rg_cons.mp h with h4 | ⟨e, h4⟩
      · exact Or.inr ⟨[], x, p, y, z, rfl, rfl, h4⟩
      · subst e
        rcases ih h4 with ⟨k, t, e⟩ | ⟨q, k1, s, k2, t, e1, e2, h3⟩
        · exact Or.inl ⟨k, t, by rw [e]; rfl⟩
        · exact Or.inr ⟨x :: q, k1, s, k2, t, by rw [e1]; rfl, by rw [e2]; rfl, h3⟩
/-- what lies between two extensions of q is one too -/
theorem rg_conv {q u v z : List Nat} (h1 : rg_lt (q ++ u) z) (h2 : rg_lt z (q ++ v)) : ∃ z', z = q ++ z' ∧ rg_lt u z' ∧ rg_lt z' v := by
  induction q generalizing z with
  | nil => exact ⟨z, rfl, h1, h2⟩
  | cons x q ih =>
    cases z with
    | nil => exact absurd h1 (rg_lt_nil _)
    | cons y z =>
      rcases rg_cons.mp h1 with h1 | ⟨e1, h1⟩ <;> rcases rg_cons.mp h2 with h2 | ⟨e2, h2⟩
      · omega
      · omega
      · omega
      · obtain ⟨z', e, a, b⟩ := ih h1 h2
        exact ⟨z', by rw [e, e1]; rfl, a, b⟩
theorem rg_one {z : List Nat} {k : Nat} {u : List Nat} (h1 : rg_lt u z) (h2 : rg_lt z [k]) : ∃ k' t, z = k' :: t ∧ k < k' := by
  cases z with
  | nil => exact absurd h1 (rg_lt_nil _)
  | cons k' t =>
    rcases rg_cons.mp h2 with h | ⟨_, h⟩
    · exact ⟨k', t, rfl, h⟩
    · exact absurd h (rg_lt_nil _)
/-! the row: inserts sorted by their paths -/
def rg_pa (P : Nat → List Nat) : Nat → List Nat
  | 0 => []
  | j + 1 => P j
def rg_row (P : Nat → List Nat) (ky tg : Nat → Nat) (L : List Nat) : Prop :=
  (∀ c, c ∈ L → P c = rg_pa P (tg c) ++ [ky c]) ∧
  (∀ c, c ∈ L → ∀ j, tg c = j + 1 → j ∈ L ∧ ky j < ky c) ∧
  (∀ c, c ∈ L → ∀ d, d ∈ L → ky c = ky d → c = d) ∧
  L.Pairwise (fun a b => rg_lt (P a) (P b))
theorem rg_snoc (t : List Nat) : t = [] ∨ ∃ s x, t = s ++ [x] := by
  induction t with
  | nil => exact Or.inl rfl
  | cons a t ih =>
    rcases ih with e | ⟨s, x, e⟩
    · exact Or.inr ⟨[], a, by rw [e]; rfl⟩
    · exact Or.inr ⟨a :: s, x, by rw [e]; rfl⟩
theorem rg_pre_n {P : Nat → List Nat} {ky tg : Nat → Nat} {L : List Nat} (R : rg_row P ky tg L) : ∀ (n : Nat) (c : Nat) (q : List Nat) (k : Nat) (t : List Nat), t.length = n → c ∈ L → P c = q ++ k :: t → k ≤ ky c ∧ ∃ d, d ∈ L ∧ P d = q ++ [k] ∧ ky d = k ∧ rg_pa P (tg d) = q := by
  intro n
  induction n with
  | zero =>
    intro c q k t ht hc e
    have ht0 : t = [] := List.eq_nil_of_length_eq_zero ht
    subst ht0
    have h := (R.1 c hc).symm.trans e
    have ⟨h1, h2⟩ := List.append_inj' h rfl
    have h3 : ky c = k := by simpa using h2
    exact ⟨by omega, c, hc, e, h3, h1⟩
  | succ n ih =>
    intro c q k t ht hc e
    rcases rg_snoc t with et | ⟨s, x, et⟩
    · rw [et] at ht
      simp at ht
    · subst et
      have h := (R.1 c hc).symm.trans e
      have e2 : q ++ k :: (s ++ [x]) = (q ++ k :: s) ++ [x] := by simp
      rw [e2] at h
      have ⟨h1, h2⟩ := List.append_inj' h rfl
      cases ht2 : tg c with
      | zero =>
        rw [ht2] at h1
        simp [rg_pa] at h1
      | succ j =>
        rw [ht2] at h1
        have ⟨hj, hk⟩ := R.2.1 c hc j ht2
        have ⟨h4, h5⟩ := ih j q k s (by simpa using ht) hj h1
        exact ⟨by omega, h5⟩
section
variable {P : Nat → List Nat} {ky tg : Nat → Nat} {L : List Nat}
theorem rg_pre (R : rg_row P ky tg L) {c k : Nat} {q t : List Nat} (hc : c ∈ L) (e : P c = q ++ k :: t) : k ≤ ky c ∧ ∃ d, d ∈ L ∧ P d = q ++ [k] ∧ ky d = k ∧ rg_pa P (tg d) = q :=
  rg_pre_n R t.length c q k t rfl hc e
theorem rg_inj (R : rg_row P ky tg L) {c d : Nat} (hc : c ∈ L) (hd : d ∈ L) (e : P c = P d) : c = d := by
  have h := (R.1 c hc).symm.trans (e.trans (R.1 d hd))
  have ⟨_, h2⟩ := List.append_inj' h rfl
  exact R.2.2.1 c hc d hd (by simpa using h2)
theorem rg_ne (R : rg_row P ky tg L) {c : Nat} (hc : c ∈ L) : P c ≠ [] := by
  rw [R.1 c hc]
  simp
theorem rg_pinj (R : rg_row P ky tg L) {s t : Nat} (hs : ∀ j, s = j + 1 → j ∈ L) (ht : ∀ j, t = j + 1 → j ∈ L) (e : rg_pa P s = rg_pa P t) : s = t := by
  cases s with
  | zero =>
    cases t with
    | zero => rfl
    | succ j => exact absurd e.symm (rg_ne R (ht j rfl))
  | succ i =>
    cases t with
    | zero => exact absurd e (rg_ne R (hs i rfl))
    | succ j => rw [rg_inj R (hs i rfl) (ht j rfl) e]
/-- the insert with the path q ++ [k] and its anchor -/
theorem rg_kid (R : rg_row P ky tg L) {c k t : Nat} {w : List Nat} (ht : ∀ j, t = j + 1 → j ∈ L) (hc : c ∈ L) (e : P c = rg_pa P t ++ k :: w) : k ≤ ky c ∧ ∃ d, d ∈ L ∧ ky d = k ∧ tg d = t ∧ P d = rg_pa P t ++ [k] := by
  obtain ⟨h, d, hd, e1, e2, e3⟩ := rg_pre R hc e
  exact ⟨h, d, hd, e2, rg_pinj R (fun j ej => (R.2.1 d hd j ej).1) ht e3, e1⟩
theorem rg_nin (R : rg_row P ky tg L) {c : Nat} (hc : c ∈ L) : rg_lt [] (P c) := by
  cases h : P c with
  | nil => exact absurd h (rg_ne R hc)
  | cons a l => exact rg_nil_lt a l
/-- what lies between the anchor's path and the new one has greater keys -/
theorem rg_btw (R : rg_row P ky tg L) {x k : Nat} {p : List Nat} (hx : x ∈ L) (h1 : rg_lt p (P x)) (h2 : rg_lt (P x) (p ++ [k])) : k < ky x := by
  have h1' : rg_lt (p ++ []) (P x) := by rwa [List.append_nil]
  obtain ⟨z, e, a, b⟩ := rg_conv h1' h2
  obtain ⟨k', t, e2, h⟩ := rg_one a b
  rw [e2] at e
  have := (rg_pre R hx e).1
  omega
theorem rg_cut (p : List Nat) : ∀ (L : List Nat), L.Pairwise (fun a b => rg_lt (P a) (P b)) → (∀ x, x ∈ L → P x ≠ p) → ∃ L1 L2, L = L1 ++ L2 ∧ (∀ x, x ∈ L1 → rg_lt (P x) p) ∧ (∀ x, x ∈ L2 → rg_lt p (P x)) := by
  intro L
  induction L with
  | nil => intro _ _; exact ⟨[], [], rfl, by simp, by simp⟩
  | cons a L ih =>
    intro hp hn
    rw [List.pairwise_cons] at hp
    rcases rg_tot (P a) p with h | h | h
    · obtain ⟨L1, L2, e, h1, h2⟩ := ih hp.2 (fun x hx => hn x (List.mem_cons_of_mem _ hx))
      refine ⟨a :: L1, L2, by rw [e]; rfl, ?_, h2⟩
      intro x hx
      rcases List.mem_cons.mp hx with e | hx
      · rw [e]; exact h
      · exact h1 x hx
    · exact absurd h (hn a (List.mem_cons_self ..))
    · refine ⟨[], a :: L, rfl, by simp, ?_⟩
      intro x hx
      rcases List.mem_cons.mp hx with e | hx
      · rw [e]; exact h
      · exact rg_trans h (hp.1 x hx)
/-- the head of what comes behind the new path has a smaller key -/
theorem rg_hd (R : rg_row P ky tg L) {t k y : Nat} {L1 L3 : List Nat} (e : L = L1 ++ y :: L3) (ht : ∀ j, t = j + 1 → j ∈ L ∧ ky j < k) (hk : ∀ d, d ∈ L → ky d ≠ k)
    (h1 : ∀ x, x ∈ L1 → rg_lt (P x) (rg_pa P t ++ [k])) (h2 : rg_lt (rg_pa P t ++ [k]) (P y)) : ky y < k := by
  have hy : y ∈ L := by rw [e]; simp
  rcases rg_split h2 with ⟨k', w, ez⟩ | ⟨q, k1, s, k2, w, e1, e2, h3⟩
  · have ez' : P y = rg_pa P t ++ k :: (k' :: w) := by rw [ez]; simp
    obtain ⟨_, d, hd, _, e4, _⟩ := rg_pre R hy ez'
    exact absurd e4 (hk d hd)
  · obtain ⟨_, d, hd, ed, ek, _⟩ := rg_pre R hy e2
    have hcd : rg_lt (rg_pa P t ++ [k]) (P d) := by rw [e1, ed]; exact rg_dif q s [] h3
    have hp := R.2.2.2
    rw [e, List.pairwise_append] at hp
    rw [List.pairwise_cons] at hp
    have hyd : y = d := by
      rw [e] at hd
      rcases List.mem_append.mp hd with hd | hd
      · exact (rg_asym (h1 d hd) hcd).elim
      · rcases List.mem_cons.mp hd with hd | hd
        · exact hd.symm
        · have h5 := hp.2.1.1 d hd
          cases w with
          | nil => rw [e2, ed] at h5; exact (rg_irr _ h5).elim
          | cons a w =>
            have h6 : rg_lt (P d) (P y) := by
              have e7 : P y = P d ++ a :: w := by rw [e2, ed]; simp
              rw [e7]
              exact rg_ext _ _ _
            exact (rg_asym h5 h6).elim
    subst hyd
    have hk1 : k1 ≤ k := by
      rcases rg_snoc s with es | ⟨s', x, es⟩
      · subst es
        have := (List.append_inj' e1 rfl).2
        simp at this
        omega
      · subst es
        have e8 : rg_pa P t ++ [k] = (q ++ k1 :: s') ++ [x] := by rw [e1]; simp
        have e9 := (List.append_inj' e8 rfl).1
        cases t with
        | zero => simp [rg_pa] at e9
        | succ j =>
          have ⟨hj, hjk⟩ := ht j rfl
          have := (rg_pre R hj e9).1
          omega
    omega
theorem rg_ins (R : rg_row P ky tg L) {t k : Nat} (ht : ∀ j, t = j + 1 → j ∈ L ∧ ky j < k) (hk : ∀ d, d ∈ L → ky d ≠ k) :
    ∃ A B L2, L = A ++ B ++ L2 ∧ (∀ x, x ∈ A ++ B → rg_lt (P x) (rg_pa P t ++ [k])) ∧ (∀ x, x ∈ L2 → rg_lt (rg_pa P t ++ [k]) (P x)) ∧
      ((t = 0 ∧ A = []) ∨ (∃ j A', t = j + 1 ∧ A = A' ++ [j])) ∧ (∀ x, x ∈ B → k < ky x) ∧ (∀ y L3, L2 = y :: L3 → ky y < k) := by
  have hn : ∀ x, x ∈ L → P x ≠ rg_pa P t ++ [k] := by
    intro x hx e
    have h := (R.1 x hx).symm.trans e
    have h2 := (List.append_inj' h rfl).2
    exact hk x hx (by simpa using h2)
  obtain ⟨L1, L2, e, h1, h2⟩ := rg_cut (rg_pa P t ++ [k]) L R.2.2.2 hn
  have hhd : ∀ y L3, L2 = y :: L3 → ky y < k := by
    intro y L3 e2
    exact rg_hd R (by rw [e, e2]) ht hk h1 (h2 y (by rw [e2]; simp))
  cases t with
  | zero =>
    refine ⟨[], L1, L2, by rw [e]; rfl, h1, h2, Or.inl ⟨rfl, rfl⟩, ?_, hhd⟩
    intro x hx
    have hxL : x ∈ L := by rw [e]; simp [hx]
    exact rg_btw R hxL (p := []) (rg_nin R hxL) (h1 x hx)
  | succ j =>
    have ⟨hj, hjk⟩ := ht j rfl
    have hj1 : j ∈ L1 := by
      rw [e] at hj
      rcases List.mem_append.mp hj with h | h
      · exact h
      · exact (rg_asym (h2 j h) (rg_ext (P j) k [])).elim
    obtain ⟨A', B, eA⟩ := List.append_of_mem hj1
    refine ⟨A' ++ [j], B, L2, by rw [e, eA]; simp, ?_, h2, Or.inr ⟨j, A', rfl, rfl⟩, ?_, hhd⟩
    · intro x hx
      exact h1 x (by rw [eA]; simpa using hx)
    · intro x hx
      have hxL : x ∈ L := by rw [e, eA]; simp [hx]
      have hp := R.2.2.2
      rw [e, List.pairwise_append] at hp
      have hp1 := hp.1
      rw [eA, List.pairwise_append, List.pairwise_cons] at hp1
      exact rg_btw R hxL (p := P j) (hp1.2.1.1 x hx) (h1 x (by rw [eA]; simp [hx]))
/-- the greatest child comes next -/
theorem rg_child (R : rg_row P ky tg L) {t d : Nat} {A B : List Nat} (e : L = A ++ B) (ht : ∀ j, t = j + 1 → j ∈ L) (hA : ∀ x, x ∈ A → ¬ rg_lt (rg_pa P t) (P x)) (hB : ∀ x, x ∈ B → rg_lt (rg_pa P t) (P x))
    (hd : d ∈ L) (htd : tg d = t) (hmax : ∀ c, c ∈ L → tg c = t → ky c ≤ ky d) : ∃ B', B = d :: B' := by
  have ed := R.1 d hd
  rw [htd] at ed
  have hpd : rg_lt (rg_pa P t) (P d) := by rw [ed]; exact rg_ext _ _ _
  have hdB : d ∈ B := by
    rw [e] at hd
    rcases List.mem_append.mp hd with h | h
    · exact absurd hpd (hA d h)
    · exact h
  cases B with
  | nil => simp at hdB
  | cons b B' =>
    by_cases hbd : b = d
    · exact ⟨B', by rw [hbd]⟩
    · have hdB' : d ∈ B' := by
        rcases List.mem_cons.mp hdB with h | h
        · exact absurd h.symm hbd
        · exact h
      have hp := R.2.2.2
      rw [e, List.pairwise_append, List.pairwise_cons] at hp
      have h5 := hp.2.1.1 d hdB'
      rw [ed] at h5
      have hbL : b ∈ L := by rw [e]; simp
      have h6 : rg_lt (rg_pa P t ++ []) (P b) := by rw [List.append_nil]; exact hB b (by simp)
      obtain ⟨z, ez, a1, a2⟩ := rg_conv h6 h5
      obtain ⟨k', w, ew, hk⟩ := rg_one a1 a2
      rw [ew] at ez
      obtain ⟨_, f, hf, ef, etf, _⟩ := rg_kid R ht hbL ez
      have := hmax f hf etf
      omega
theorem rg_nochild (R : rg_row P ky tg L) {t : Nat} (ht : ∀ j, t = j + 1 → j ∈ L) (hno : ∀ c, c ∈ L → tg c ≠ t) {z : Nat} (hz : z ∈ L) {w : List Nat} (e : P z = rg_pa P t ++ w) : w = [] := by
  cases w with
  | nil => rfl
  | cons k w =>
    obtain ⟨_, f, hf, _, etf, _⟩ := rg_kid R ht hz e
    exact absurd etf (hno f hf)
/-- the next brother of an insert on the way up comes next -/
theorem rg_bro (R : rg_row P ky tg L) {x a d : Nat} {A B w : List Nat} (e : L = A ++ x :: B) (ha : a ∈ L) (hw : P x = P a ++ w) (hz : ∀ z, z ∈ B → ∀ w', P z ≠ P a ++ w')
    (hd : d ∈ L) (htd : tg d = tg a) (hlt : ky d < ky a) (hmax : ∀ c, c ∈ L → tg c = tg a → ky c < ky a → ky c ≤ ky d) : ∃ B', B = d :: B' := by
  have ea := R.1 a ha
  have ed := R.1 d hd
  rw [htd] at ed
  have ex : P x = rg_pa P (tg a) ++ ky a :: w := by rw [hw, ea]; simp
  have hxd : rg_lt (P x) (P d) := by rw [ex, ed]; exact rg_dif _ _ _ hlt
  have hp := R.2.2.2
  rw [e, List.pairwise_append, List.pairwise_cons] at hp
  have hdB : d ∈ B := by
    rw [e] at hd
    rcases List.mem_append.mp hd with h | h
    · exact (rg_asym hxd (hp.2.2 d h x (by simp))).elim
    · rcases List.mem_cons.mp h with h | h
      · rw [h] at hxd; exact (rg_irr _ hxd).elim
      · exact h
  cases B with
  | nil => simp at hdB
  | cons b B' =>
    by_cases hbd : b = d
    · exact ⟨B', by rw [hbd]⟩
    · have hdB' : d ∈ B' := by
        rcases List.mem_cons.mp hdB with h | h
        · exact absurd h.symm hbd
        · exact h
      have hp2 := hp.2.1.2
      rw [List.pairwise_cons] at hp2
      have h5 := hp2.1 d hdB'
      have h6 := hp.2.1.1 b (by simp)
      rw [ed] at h5
      rw [ex] at h6
      have hbL : b ∈ L := by rw [e]; simp
      obtain ⟨z, ez, a1, a2⟩ := rg_conv h6 h5
      obtain ⟨k', w', ew, hk⟩ := rg_one a1 a2
      rw [ew] at ez a1
      obtain ⟨_, f, hf, ef, etf, _⟩ := rg_kid R (fun j ej => (R.2.1 a ha j ej).1) hbL ez
      rcases rg_cons.mp a1 with h7 | ⟨h7, _⟩
      · have := hmax f hf etf (by omega)
        omega
      · refine absurd ?_ (hz b (by simp) w')
        rw [ez, ea, h7]
        simp
theorem rg_up (R : rg_row P ky tg L) {x a : Nat} {A B w : List Nat} (e : L = A ++ x :: B) (ha : a ∈ L) (hw : P x = P a ++ w) (hz : ∀ z, z ∈ B → ∀ w', P z ≠ P a ++ w')
    (hno : ∀ c, c ∈ L → tg c = tg a → ¬ ky c < ky a) : (∃ w, P x = rg_pa P (tg a) ++ w) ∧ ∀ z, z ∈ B → ∀ w', P z ≠ rg_pa P (tg a) ++ w' := by
  have ea := R.1 a ha
  have ex : P x = rg_pa P (tg a) ++ ky a :: w := by rw [hw, ea]; simp
  refine ⟨⟨_, ex⟩, ?_⟩
  intro z hzB w' ez
  have hp := R.2.2.2
  rw [e, List.pairwise_append, List.pairwise_cons] at hp
  have h6 := hp.2.1.1 z hzB
  rw [ex, ez] at h6
  have h7 := rg_app.mp h6
  have hzL : z ∈ L := by rw [e]; simp [hzB]
  cases w' with
  | nil => exact rg_lt_nil _ h7
  | cons k2 t' =>
    obtain ⟨_, f, hf, ef, etf, _⟩ := rg_kid R (fun j ej => (R.2.1 a ha j ej).1) hzL ez
    rcases rg_cons.mp h7 with h8 | ⟨h8, _⟩
    · exact hno f hf etf (by omega)
    · refine hz z hzB t' ?_
      rw [ez, ea, h8]
      simp
end
end
section
/-! ghosts: a flag, a change by its number plus one, a chain of followers -/
def rg_b : Bool → Int32
  | true => 1
  | false => 0
def rg_t : Nat → Int32
  | 0 => -1
  | j + 1 => nI j
def rg_u {α : Type} (f : Nat → α) (k : Nat) (x : α) : Nat → α := fun j => if j = k then x else f j
theorem rg_us {α : Type} {f : Nat → α} {k : Nat} {x : α} : rg_u f k x k = x := if_pos rfl
theorem rg_un {α : Type} {f : Nat → α} {k j : Nat} {x : α} (h : j ≠ k) : rg_u f k x j = f j := if_neg h
theorem rg_b0 {b : Bool} : rg_b b = 0 ↔ b = false := by cases b <;> simp [rg_b]
theorem rg_t_add (b t : Nat) : nI b + 1 + rg_t t = nI (b + t) := by
  cases t with
  | zero =>
    show nI b + 1 + (-1) = nI b
    rw [nI_1, pk_m1]
  | succ j =>
    show nI b + 1 + nI j = nI (b + (j + 1))
    rw [nI_1, nI_add]
    congr 1
    omega
theorem rg_t_neg {t : Nat} (h : t < 1000) : rg_t t < 0 ↔ t = 0 := by
  cases t with
  | zero => exact ⟨fun _ => rfl, fun _ => by show (-1 : Int32) < 0; decide⟩
  | succ j => exact ⟨fun z => absurd z (nI_pos (by omega)), fun z => absurd z (by omega)⟩
theorem rg_t_eq {s t : Nat} (hs : s < 1000) (ht : t < 1000) : rg_t s = rg_t t ↔ s = t := by
  constructor
  · intro e
    have h1 := rg_t_add 0 s
    rw [e, rg_t_add 0 t] at h1
    have := (nI_eq (by omega) (by omega)).mp h1
    omega
  · intro e; rw [e]
def rg_lk (f : Nat → Int32) (b : Nat) : Nat → List Nat → Prop
  | i, [] => f (b + i) = -1
  | i, c :: L => f (b + i) = nI c ∧ rg_lk f b (c + 1) L
def rg_last : Nat → List Nat → Nat
  | i, [] => i
  | _, c :: L => rg_last (c + 1) L
theorem rg_last_in (a : Nat) (A : List Nat) : ∃ x, x ∈ a :: A ∧ rg_last (a + 1) A = x + 1 := by
  induction A generalizing a with
  | nil => exact ⟨a, by simp, rfl⟩
  | cons b A ih =>
    obtain ⟨x, hx, e⟩ := ih b
    exact ⟨x, List.mem_cons_of_mem _ hx, e⟩
theorem rg_last_app (A : List Nat) (i j : Nat) : rg_last i (A ++ [j]) = j + 1 := by
  induction A generalizing i with
  | nil => rfl
  | cons a A ih => exact ih (a + 1)
theorem rg_last_two (A B : List Nat) (i : Nat) : rg_last i (A ++ B) = rg_last (rg_last i A) B := by
  induction A generalizing i with
  | nil => rfl
  | cons a A ih => exact ih (a + 1)
theorem rg_lk_fr {f f' : Nat → Int32} {b : Nat} : ∀ (L : List Nat) (i : Nat), (∀ x, x ∈ L → f' (b + (x + 1)) = f (b + (x + 1))) → f' (b + i) = f (b + i) → rg_lk f b i L → rg_lk f' b i L := by
  intro L
  induction L with
  | nil => intro i _ h1 h; exact h1.trans h
  | cons c L ih =>
    intro i h0 h1 h
    exact ⟨h1.trans h.1, ih (c + 1) (fun x hx => h0 x (List.mem_cons_of_mem _ hx)) (h0 c (by simp)) h.2⟩
theorem rg_lk_drop {f : Nat → Int32} {b : Nat} : ∀ (A : List Nat) (i : Nat) (B : List Nat), rg_lk f b i (A ++ B) → rg_lk f b (rg_last i A) B := by
  intro A
  induction A with
  | nil => intro i B h; exact h
  | cons c A ih => intro i B h; exact ih (c + 1) B h.2
theorem rg_lk_ins {f : Nat → Int32} {b c : Nat} : ∀ (A : List Nat) (i : Nat) (B : List Nat), rg_lk f b i (A ++ B) → (A ++ B).Nodup → c ∉ A ++ B → (∀ x, x ∈ A ++ B → x + 1 ≠ i) → c + 1 ≠ i →
    rg_lk (upd (upd f (b + (c + 1)) (f (b + rg_last i A))) (b + rg_last i A) (nI c)) b i (A ++ c :: B) := by
  intro A
  induction A with
  | nil =>
    intro i B h hn hc hi hci
    refine ⟨pk_us, ?_⟩
    have e1 : upd (upd f (b + (c + 1)) (f (b + rg_last i []))) (b + rg_last i []) (nI c) (b + (c + 1)) = f (b + i) := by
      rw [pk_un (show b + (c + 1) ≠ b + rg_last i [] by show b + (c + 1) ≠ b + i; omega), pk_us]
      rfl
    cases B with
    | nil => exact e1.trans h
    | cons y B =>
      refine ⟨e1.trans h.1, ?_⟩
      have hf : ∀ x, x ∈ y :: B → upd (upd f (b + (c + 1)) (f (b + rg_last i []))) (b + rg_last i []) (nI c) (b + (x + 1)) = f (b + (x + 1)) := by
        intro x hx
        have h1 := hi x hx
        have h2 : x ≠ c := fun e => hc (by rw [← e]; exact hx)
        rw [pk_un (show b + (x + 1) ≠ b + rg_last i [] by show b + (x + 1) ≠ b + i; omega), pk_un (by omega)]
      exact rg_lk_fr B (y + 1) (fun x hx => hf x (List.mem_cons_of_mem _ hx)) (hf y (by simp)) h.2
  | cons a A ih =>
    intro i B h hn hc hi hci
    rw [List.cons_append, List.nodup_cons] at hn
    have hc' : c ∉ A ++ B := fun z => hc (List.mem_cons_of_mem _ z)
    have hca : c ≠ a := fun e => hc (by rw [e]; exact List.mem_cons_self ..)
    refine ⟨?_, ih (a + 1) B h.2 hn.2 hc' (fun x hx e => ?_) (by omega)⟩
    · obtain ⟨x, hx, ex⟩ := rg_last_in a A
      have h1 : x + 1 ≠ i := hi x (by
        rcases List.mem_cons.mp hx with h | h
        · rw [h]; exact List.mem_cons_self ..
        · exact List.mem_cons_of_mem _ (List.mem_append_left _ h))
      have e2 : rg_last i (a :: A) = x + 1 := ex
      rw [e2, pk_un (by omega), pk_un (by omega)]
      exact h.1
    · have : x = a := by omega
      subst this
      exact hn.1 hx
/-! counting -/
theorem rg_cnt (L : List Nat) (hn : L.Nodup) (i : Nat) : (L.filter (fun x => decide (x < i + 1))).length = (L.filter (fun x => decide (x < i))).length + (if i ∈ L then 1 else 0) := by
  induction L with
  | nil => simp
  | cons a L ih =>
    rw [List.nodup_cons] at hn
    have ih := ih hn.2
    by_cases h : a = i
    · subst h
      rw [if_neg hn.1] at ih
      rw [List.filter_cons_of_pos (by simp), List.filter_cons_of_neg (by simp), if_pos (by simp), List.length_cons]
      omega
    · have e : (i ∈ a :: L) = (i ∈ L) := by
        simp only [List.mem_cons, eq_iff_iff]
        constructor
        · intro z
          rcases z with z | z
          · exact absurd z.symm h
          · exact z
        · exact Or.inr
      simp only [e]
      by_cases h2 : a < i
      · rw [List.filter_cons_of_pos (by simp; omega), List.filter_cons_of_pos (by simp; omega), List.length_cons, List.length_cons]
        omega
      · rw [List.filter_cons_of_neg (by simp; omega), List.filter_cons_of_neg (by simp; omega)]
        omega
theorem rg_cnt0 (L : List Nat) : (L.filter (fun x => decide (x < 0))).length = 0 := by
  induction L with
  | nil => rfl
  | cons a L ih => rw [List.filter_cons_of_neg (by simp)]; exact ih
theorem rg_cntAll (L : List Nat) {n : Nat} (h : ∀ x, x ∈ L → x < n) : L.filter (fun x => decide (x < n)) = L := by
  rw [List.filter_eq_self]
  intro a ha
  simp [h a ha]
theorem rg_len_le (L : List Nat) (hn : L.Nodup) {n : Nat} (h : ∀ x, x ∈ L → x < n) : L.length ≤ n := by
  have h2 : ∀ i, (L.filter (fun x => decide (x < i))).length ≤ i := by
    intro i
    induction i with
    | zero => rw [rg_cnt0]; exact Nat.le_refl _
    | succ i ih =>
      rw [rg_cnt L hn i]
      split <;> omega
  have h3 := h2 n
  rwa [rg_cntAll L h] at h3
/-! the log of changes, a replica, and the arrays that hold them -/
def rg_log (m : Nat) (ins : Nat → Bool) (org num tg st mb : Nat → Nat) (P : Nat → List Nat) : Prop :=
  m ≤ 48 ∧
  (∀ c, c < m → org c < 3 ∧ 1 ≤ num c ∧ num c ≤ mb (org c) ∧ tg c ≤ c) ∧
  (∀ c d, c < d → d < m → org c = org d → num c < num d) ∧
  (∀ o n, o < 3 → 1 ≤ n → n ≤ mb o → ∃ c, c < m ∧ org c = o ∧ num c = n) ∧
  (∀ o, o < 3 → mb o ≤ m) ∧
  (∀ c j, c < m → tg c = j + 1 → ins j = true) ∧
  (∀ c, c < m → ins c = false → 1 ≤ tg c) ∧
  (∀ c, c < m → ins c = true → st c ≤ c + 1 ∧ P c = rg_pa P (tg c) ++ [3 * st c + org c] ∧ (∀ j, tg c = j + 1 → st j < st c)) ∧
  (∀ c d, c < m → d < m → ins c = true → ins d = true → org c = org d → st c = st d → c = d)
def rg_rep (m : Nat) (ins : Nat → Bool) (org num tg st mb : Nat → Nat) (P : Nat → List Nat) (kn : Nat → Nat) (L : List Nat) (tk : Nat → Bool) (g : Nat) : Prop :=
  (∀ o, o < 3 → kn o ≤ mb o) ∧
  (∀ c j, c < m → num c ≤ kn (org c) → tg c = j + 1 → num j ≤ kn (org j)) ∧
  L.Pairwise (fun a b => rg_lt (P a) (P b)) ∧
  (∀ c, c ∈ L ↔ c < m ∧ ins c = true ∧ num c ≤ kn (org c)) ∧
  (∀ c, c ∈ L → (tk c = true ↔ ∃ d, d < m ∧ ins d = false ∧ num d ≤ kn (org d) ∧ tg d = c + 1)) ∧
  (∀ c, c ∈ L → st c ≤ g) ∧ (g = 0 ∨ ∃ c, c ∈ L ∧ st c = g)
def rg_xl (m : Nat) (ins : Nat → Bool) (org num tg st mb : Nat → Nat) (xm : Int32) (xI xO xN xA xS xT xB xC : Nat → Int32) : Prop :=
  xm = nI m ∧
  (∀ c, c < m → xI c = rg_b (ins c) ∧ xO c = nI (org c) ∧ xN c = nI (num c) ∧ xC (49 * org c + num c) = nI c) ∧
  (∀ c, c < m → ins c = true → xA c = rg_t (tg c) ∧ xS c = nI (st c)) ∧
  (∀ c, c < m → ins c = false → xT c = rg_t (tg c)) ∧
  (∀ o, o < 3 → xB o = nI (mb o))
def rg_yl (m : Nat) (ins : Nat → Bool) (org tg st : Nat → Nat) (ym : Int32) (yO yI yT yS : Nat → Int32) : Prop :=
  ym = nI m ∧
  (∀ c, c < m → yI c = rg_b (ins c) ∧ yO c = nI (org c) ∧ yT c = rg_t (tg c)) ∧
  (∀ c, c < m → ins c = true → yS c = nI (st c))
def rg_xr (q : Nat) (kn : Nat → Nat) (L : List Nat) (tk : Nat → Bool) (g : Nat) (xK xG xF xD xR xW : Nat → Int32) : Prop :=
  (∀ o, o < 3 → xK (3 * q + o) = nI (kn o)) ∧ xG q = nI g ∧ rg_lk xF (49 * q) 0 L ∧
  (∀ c, c ∈ L → xD (49 * q + (c + 1)) = rg_b (tk c)) ∧ xR q = nI L.length ∧ xW q = nI (L.filter (fun c => !tk c)).length
def rg_yr (m : Nat) (org num : Nat → Nat) (q : Nat) (kn : Nat → Nat) (yK : Nat → Int32) : Prop :=
  ∀ c, c < 48 → yK (48 * q + c) = rg_b (decide (c < m ∧ num c ≤ kn (org c)))
def rg_ky (st org : Nat → Nat) : Nat → Nat := fun c => 3 * st c + org c
section
variable {m : Nat} {ins : Nat → Bool} {org num tg st mb : Nat → Nat} {P : Nat → List Nat} {kn : Nat → Nat} {L : List Nat} {tk : Nat → Bool} {g : Nat}
theorem rg_rowOf (G : rg_log m ins org num tg st mb P) (R : rg_rep m ins org num tg st mb P kn L tk g) : rg_row P (rg_ky st org) tg L := by
  obtain ⟨g1, g2, g3, g4, g5, g6, g7, g8, g9⟩ := G
  obtain ⟨r1, r2, r3, r4, r5, r6, r7⟩ := R
  refine ⟨?_, ?_, ?_, r3⟩
  · intro c hc
    have h := (r4 c).mp hc
    exact (g8 c h.1 h.2.1).2.1
  · intro c hc j ej
    have h := (r4 c).mp hc
    have h1 := g2 c h.1
    have h2 := g2 j (by omega)
    have h3 := (g8 c h.1 h.2.1).2.2 j ej
    refine ⟨(r4 j).mpr ⟨by omega, g6 c j h.1 ej, r2 c j h.1 h.2.2 ej⟩, ?_⟩
    show 3 * st j + org j < 3 * st c + org c
    omega
  · intro c hc d hd e
    have e : 3 * st c + org c = 3 * st d + org d := e
    have h := (r4 c).mp hc
    have h' := (r4 d).mp hd
    have h1 := g2 c h.1
    have h2 := g2 d h'.1
    exact g9 c d h.1 h'.1 h.2.1 h'.2.1 (by omega) (by omega)
theorem rg_nodup (R : rg_rep m ins org num tg st mb P kn L tk g) : L.Nodup := by
  refine List.Pairwise.imp (fun {a b} h => ?_) R.2.2.1
  intro e
  rw [e] at h
  exact rg_irr _ h
theorem rg_lenL (G : rg_log m ins org num tg st mb P) (R : rg_rep m ins org num tg st mb P kn L tk g) : L.length ≤ m :=
  rg_len_le L (rg_nodup R) (fun x hx => ((R.2.2.2.1 x).mp hx).1)
theorem rg_g_le (G : rg_log m ins org num tg st mb P) (R : rg_rep m ins org num tg st mb P kn L tk g) : g ≤ m := by
  rcases R.2.2.2.2.2.2 with h | ⟨c, hc, e⟩
  · omega
  · have h := (R.2.2.2.1 c).mp hc
    have := (G.2.2.2.2.2.2.2.1 c h.1 h.2.1).1
    omega
/-- what is known once c has been learned -/
theorem rg_known (G : rg_log m ins org num tg st mb P) {c : Nat} (hc : c < m) (hn : num c = kn (org c) + 1) {kn' : Nat → Nat} (h1 : kn' (org c) = num c) (h2 : ∀ o, o ≠ org c → kn' o = kn o) :
    ∀ d, d < m → (num d ≤ kn' (org d) ↔ num d ≤ kn (org d) ∨ d = c) := by
  intro d hd
  by_cases e : org d = org c
  · rw [e, h1]
    constructor
    · intro h
      rcases Nat.lt_trichotomy d c with z | z | z
      · have := G.2.2.1 d c z hc e
        omega
      · exact Or.inr z
      · have := G.2.2.1 c d z hd e.symm
        omega
    · intro h
      rcases h with h | h
      · omega
      · rw [h]; exact Nat.le_refl _
  · rw [h2 _ e]
    constructor
    · exact Or.inl
    · intro h
      rcases h with h | h
      · exact h
      · rw [h] at e; exact absurd rfl e
end
end
section
/-! what a replica holds once it has learned a change; and once a change has been made -/
theorem rg_fdel (tk : Nat → Bool) (j : Nat) (hk : tk j = false) : ∀ L : List Nat, L.Nodup → j ∈ L → (L.filter (fun x => !rg_u tk j true x)).length + 1 = (L.filter (fun x => !tk x)).length := by
  intro L
  induction L with
  | nil => intro _ h; simp at h
  | cons a L ih =>
    intro hn hj
    rw [List.nodup_cons] at hn
    by_cases e : a = j
    · subst e
      have h1 : L.filter (fun x => !rg_u tk a true x) = L.filter (fun x => !tk x) := by
        apply List.filter_congr
        intro x hx
        rw [rg_un (fun e => hn.1 (by rw [← e]; exact hx))]
      rw [List.filter_cons_of_neg (by rw [rg_us]; simp), List.filter_cons_of_pos (by rw [hk]; rfl), h1, List.length_cons]
    · have hj' : j ∈ L := by
        rcases List.mem_cons.mp hj with h | h
        · exact absurd h.symm e
        · exact h
      have ih := ih hn.2 hj'
      have e2 : rg_u tk j true a = tk a := rg_un e
      cases h : tk a with
      | true => rw [List.filter_cons_of_neg (by rw [e2, h]; simp), List.filter_cons_of_neg (by rw [h]; simp)]; exact ih
      | false => rw [List.filter_cons_of_pos (by rw [e2, h]; rfl), List.filter_cons_of_pos (by rw [h]; rfl), List.length_cons, List.length_cons]; omega
section
variable {m : Nat} {ins : Nat → Bool} {org num tg st mb : Nat → Nat} {P : Nat → List Nat} {kn : Nat → Nat} {L : List Nat} {tk : Nat → Bool} {g : Nat}
theorem rg_learnI (G : rg_log m ins org num tg st mb P) (R : rg_rep m ins org num tg st mb P kn L tk g) {c : Nat} (hc : c < m) (hi : ins c = true) (hn : num c = kn (org c) + 1)
    (hcl : ∀ j, tg c = j + 1 → num j ≤ kn (org j)) {kn' : Nat → Nat} (h1 : kn' (org c) = num c) (h2 : ∀ o, o ≠ org c → kn' o = kn o) :
    ∃ A B L2, L = A ++ B ++ L2 ∧ c ∉ L ∧ ((tg c = 0 ∧ A = []) ∨ (∃ j A', tg c = j + 1 ∧ A = A' ++ [j])) ∧ (∀ x, x ∈ B → rg_ky st org c < rg_ky st org x) ∧
      (∀ y L3, L2 = y :: L3 → rg_ky st org y < rg_ky st org c) ∧
      rg_rep m ins org num tg st mb P kn' (A ++ B ++ c :: L2) (rg_u tk c false) (if st c ≤ g then g else st c) ∧
      ((A ++ B ++ c :: L2).filter (fun x => !rg_u tk c false x)).length = (L.filter (fun x => !tk x)).length + 1 := by
  have K := rg_known G hc hn h1 h2
  have W := rg_rowOf G R
  have ND := rg_nodup R
  obtain ⟨g1, g2, g3, g4, g5, g6, g7, g8, g9⟩ := G
  obtain ⟨r1, r2, r3, r4, r5, r6, r7⟩ := R
  have hcL : c ∉ L := by
    intro h
    have := ((r4 c).mp h).2.2
    omega
  have h8 := g8 c hc hi
  have hc2 := g2 c hc
  have ht : ∀ j, tg c = j + 1 → j ∈ L ∧ rg_ky st org j < rg_ky st org c := by
    intro j ej
    have hj := g2 j (by omega)
    have := h8.2.2 j ej
    refine ⟨(r4 j).mpr ⟨by omega, g6 c j hc ej, hcl j ej⟩, ?_⟩
    show 3 * st j + org j < 3 * st c + org c
    omega
  have hk : ∀ d, d ∈ L → rg_ky st org d ≠ rg_ky st org c := by
    intro d hd e
    have e : 3 * st d + org d = 3 * st c + org c := e
    have hd' := (r4 d).mp hd
    have hd2 := g2 d hd'.1
    have := g9 d c hd'.1 hc hd'.2.1 hi (by omega) (by omega)
    rw [this] at hd
    exact hcL hd
  obtain ⟨A, B, L2, e, q1, q2, q3, q4, q5⟩ := rg_ins W ht hk
  have hPc : P c = rg_pa P (tg c) ++ [rg_ky st org c] := h8.2.1
  rw [← hPc] at q1 q2
  have hmem : ∀ x, x ∈ A ++ B ++ c :: L2 ↔ x ∈ L ∨ x = c := by
    intro x
    rw [e]
    simp only [List.mem_append, List.mem_cons]
    constructor
    · rintro ((h | h) | h | h)
      · exact Or.inl (Or.inl (Or.inl h))
      · exact Or.inl (Or.inl (Or.inr h))
      · exact Or.inr h
      · exact Or.inl (Or.inr h)
    · rintro (((h | h) | h) | h)
      · exact Or.inl (Or.inl h)
      · exact Or.inl (Or.inr h)
      · exact Or.inr (Or.inr h)
      · exact Or.inr (Or.inl h)
  have htk : ∀ x, x ∈ L → rg_u tk c false x = tk x := fun x hx => rg_un (fun z => hcL (by rw [← z]; exact hx))
  refine ⟨A, B, L2, e, hcL, q3, q4, q5, ⟨?_, ?_, ?_, ?_, ?_, ?_, ?_⟩, ?_⟩
  · intro o ho
    by_cases z : o = org c
    · rw [z, h1]; exact hc2.2.2.1
    · rw [h2 o z]; exact r1 o ho
  · intro d j hd hkd ej
    have hd2 := g2 d hd
    have hj : j < m := by omega
    rw [K j hj]
    rcases (K d hd).mp hkd with z | z
    · exact Or.inl (r2 d j hd z ej)
    · rw [z] at ej; exact Or.inl (hcl j ej)
  · rw [e, List.pairwise_append] at r3
    rw [List.pairwise_append, List.pairwise_cons]
    refine ⟨r3.1, ⟨q2, r3.2.1⟩, ?_⟩
    intro a ha b hb
    rcases List.mem_cons.mp hb with hb | hb
    · rw [hb]; exact q1 a ha
    · exact r3.2.2 a ha b hb
  · intro x
    rw [hmem x]
    constructor
    · rintro (h | h)
      · have h' := (r4 x).mp h
        exact ⟨h'.1, h'.2.1, (K x h'.1).mpr (Or.inl h'.2.2)⟩
      · rw [h]; exact ⟨hc, hi, (K c hc).mpr (Or.inr rfl)⟩
    · rintro ⟨ha, hb, hd⟩
      rcases (K x ha).mp hd with z | z
      · exact Or.inl ((r4 x).mpr ⟨ha, hb, z⟩)
      · exact Or.inr z
  · intro x hx
    have hde : (∃ d, d < m ∧ ins d = false ∧ num d ≤ kn' (org d) ∧ tg d = x + 1) ↔ (∃ d, d < m ∧ ins d = false ∧ num d ≤ kn (org d) ∧ tg d = x + 1) := by
      constructor
      · rintro ⟨d, d1, d2, d3, d4⟩
        rcases (K d d1).mp d3 with z | z
        · exact ⟨d, d1, d2, z, d4⟩
        · rw [z, hi] at d2; cases d2
      · rintro ⟨d, d1, d2, d3, d4⟩
        exact ⟨d, d1, d2, (K d d1).mpr (Or.inl d3), d4⟩
    rw [hde]
    rcases (hmem x).mp hx with z | z
    · rw [htk x z]; exact r5 x z
    · rw [z, rg_us]
      constructor
      · intro y; cases y
      · rintro ⟨d, d1, d2, d3, d4⟩
        have := r2 d c d1 d3 d4
        omega
  · intro x hx
    rcases (hmem x).mp hx with z | z
    · have := r6 x z
      split <;> omega
    · rw [z]; split <;> omega
  · split
    · rcases r7 with z | ⟨x, hx, z⟩
      · exact Or.inl z
      · exact Or.inr ⟨x, (hmem x).mpr (Or.inl hx), z⟩
    · exact Or.inr ⟨c, (hmem c).mpr (Or.inr rfl), rfl⟩
  · have e1 : (A ++ B).filter (fun x => !rg_u tk c false x) = (A ++ B).filter (fun x => !tk x) := by
      apply List.filter_congr
      intro x hx
      rw [htk x (by rw [e]; exact List.mem_append_left _ hx)]
    have e2 : L2.filter (fun x => !rg_u tk c false x) = L2.filter (fun x => !tk x) := by
      apply List.filter_congr
      intro x hx
      rw [htk x (by rw [e]; exact List.mem_append_right _ hx)]
    rw [List.filter_append, e1, List.filter_cons_of_pos (by rw [rg_us]; rfl), e2, e, List.filter_append (l₁ := A ++ B) (l₂ := L2)]
    simp only [List.length_append, List.length_cons]
    omega
theorem rg_learnD (G : rg_log m ins org num tg st mb P) (R : rg_rep m ins org num tg st mb P kn L tk g) {c : Nat} (hc : c < m) (hi : ins c = false) (hn : num c = kn (org c) + 1)
    (hcl : ∀ j, tg c = j + 1 → num j ≤ kn (org j)) {kn' : Nat → Nat} (h1 : kn' (org c) = num c) (h2 : ∀ o, o ≠ org c → kn' o = kn o) :
    ∃ j, tg c = j + 1 ∧ j ∈ L ∧ rg_rep m ins org num tg st mb P kn' L (rg_u tk j true) g := by
  have K := rg_known G hc hn h1 h2
  obtain ⟨g1, g2, g3, g4, g5, g6, g7, g8, g9⟩ := G
  obtain ⟨r1, r2, r3, r4, r5, r6, r7⟩ := R
  have hc2 := g2 c hc
  have hc7 := g7 c hc hi
  obtain ⟨j, ej⟩ : ∃ j, tg c = j + 1 := ⟨tg c - 1, by omega⟩
  have hjL : j ∈ L := (r4 j).mpr ⟨by omega, g6 c j hc ej, hcl j ej⟩
  refine ⟨j, ej, hjL, ?_, ?_, r3, ?_, ?_, r6, r7⟩
  · intro o ho
    by_cases z : o = org c
    · rw [z, h1]; exact hc2.2.2.1
    · rw [h2 o z]; exact r1 o ho
  · intro d i hd hkd ei
    have hd2 := g2 d hd
    have hj : i < m := by omega
    rw [K i hj]
    rcases (K d hd).mp hkd with z | z
    · exact Or.inl (r2 d i hd z ei)
    · rw [z] at ei; exact Or.inl (hcl i ei)
  · intro x
    rw [r4 x]
    constructor
    · rintro ⟨a1, a2, a3⟩
      exact ⟨a1, a2, (K x a1).mpr (Or.inl a3)⟩
    · rintro ⟨a1, a2, a3⟩
      rcases (K x a1).mp a3 with z | z
      · exact ⟨a1, a2, z⟩
      · rw [z, hi] at a2; cases a2
  · intro x hx
    by_cases z : x = j
    · rw [z, rg_us]
      exact ⟨fun _ => ⟨c, hc, hi, (K c hc).mpr (Or.inr rfl), ej⟩, fun _ => rfl⟩
    · rw [rg_un z, r5 x hx]
      constructor
      · rintro ⟨d, d1, d2, d3, d4⟩
        exact ⟨d, d1, d2, (K d d1).mpr (Or.inl d3), d4⟩
      · rintro ⟨d, d1, d2, d3, d4⟩
        rcases (K d d1).mp d3 with y | y
        · exact ⟨d, d1, d2, y, d4⟩
        · rw [y, ej] at d4; omega
theorem rg_learnY (G : rg_log m ins org num tg st mb P) {c q : Nat} (hc : c < m) (hn : num c = kn (org c) + 1) {kn' : Nat → Nat} (h1 : kn' (org c) = num c) (h2 : ∀ o, o ≠ org c → kn' o = kn o)
    {yK : Nat → Int32} (Y : rg_yr m org num q kn yK) : rg_yr m org num q kn' (upd yK (48 * q + c) 1) := by
  have K := rg_known G hc hn h1 h2
  intro d hd
  by_cases e : d = c
  · rw [e, pk_us, decide_eq_true ⟨hc, (K c hc).mpr (Or.inr rfl)⟩]
    rfl
  · rw [pk_un (by omega), Y d hd]
    congr 1
    by_cases hdm : d < m
    · have := K d hdm
      by_cases z : num d ≤ kn (org d)
      · rw [decide_eq_true ⟨hdm, z⟩, decide_eq_true ⟨hdm, this.mpr (Or.inl z)⟩]
      · rw [decide_eq_false (fun y => z y.2), decide_eq_false]
        rintro ⟨_, y⟩
        rcases this.mp y with y | y
        · exact z y
        · exact e y
    · rw [decide_eq_false (fun y => hdm y.1), decide_eq_false (fun y => hdm y.1)]
theorem rg_learnYo {c q r : Nat} (hc : c < 48) (hq : q ≠ r) {yK : Nat → Int32} (x : Int32) (Y : rg_yr m org num q kn yK) : rg_yr m org num q kn (upd yK (48 * r + c) x) := by
  intro d hd
  rw [pk_un (by omega)]
  exact Y d hd
section
variable {ins' : Nat → Bool} {org' num' tg' st' mb' : Nat → Nat} {P' : Nat → List Nat}
theorem rg_growL (G : rg_log m ins org num tg st mb P) (hm : m < 48) {r : Nat} (hr : r < 3)
    (ag : ∀ c, c < m → ins' c = ins c ∧ org' c = org c ∧ num' c = num c ∧ tg' c = tg c ∧ st' c = st c ∧ P' c = P c)
    (ho : org' m = r) (hnum : num' m = mb r + 1) (ht : tg' m ≤ m) (hmb : mb' r = mb r + 1) (hmb2 : ∀ o, o ≠ r → mb' o = mb o)
    (hin : ∀ j, tg' m = j + 1 → ins j = true) (hdel : ins' m = false → 1 ≤ tg' m)
    (hst : ins' m = true → st' m ≤ m + 1 ∧ P' m = rg_pa P (tg' m) ++ [3 * st' m + r] ∧ (∀ j, tg' m = j + 1 → st j < st' m))
    (hun : ins' m = true → ∀ c, c < m → ins c = true → org c = r → st c < st' m) : rg_log (m + 1) ins' org' num' tg' st' mb' P' := by
  obtain ⟨g1, g2, g3, g4, g5, g6, g7, g8, g9⟩ := G
  have hpa : ∀ t, t ≤ m → rg_pa P' t = rg_pa P t := by
    intro t h
    cases t with
    | zero => rfl
    | succ j => exact (ag j (by omega)).2.2.2.2.2
  have hcs : ∀ c, c < m + 1 → c < m ∨ c = m := fun c h => by omega
  refine ⟨by omega, ?_, ?_, ?_, ?_, ?_, ?_, ?_, ?_⟩
  · intro c h
    rcases hcs c h with z | z
    · have a := ag c z
      have b := g2 c z
      rw [a.2.1, a.2.2.1, a.2.2.2.1]
      refine ⟨b.1, b.2.1, ?_, b.2.2.2⟩
      by_cases y : org c = r
      · have := b.2.2.1
        rw [y] at this ⊢
        omega
      · rw [hmb2 _ y]; exact b.2.2.1
    · rw [z, ho, hnum, hmb]
      exact ⟨hr, by omega, Nat.le_refl _, ht⟩
  · intro c d hcd hd e
    have a := ag c (by omega)
    rcases hcs d hd with z | z
    · have b := ag d z
      rw [a.2.2.1, b.2.2.1]
      rw [a.2.1, b.2.1] at e
      exact g3 c d hcd z e
    · rw [z] at hcd e ⊢
      rw [a.2.1, ho] at e
      rw [a.2.2.1, hnum, ← e]
      have := (g2 c hcd).2.2.1
      omega
  · intro o n ho3 hn hle
    by_cases y : o = r
    · rw [y, hmb] at hle
      by_cases w : n = mb r + 1
      · exact ⟨m, by omega, by rw [ho, y], by rw [hnum, w]⟩
      · obtain ⟨c, c1, c2, c3⟩ := g4 r n hr hn (by omega)
        have a := ag c c1
        exact ⟨c, by omega, by rw [a.2.1, c2, y], by rw [a.2.2.1, c3]⟩
    · rw [hmb2 o y] at hle
      obtain ⟨c, c1, c2, c3⟩ := g4 o n ho3 hn hle
      have a := ag c c1
      exact ⟨c, by omega, by rw [a.2.1, c2], by rw [a.2.2.1, c3]⟩
  · intro o ho3
    have := g5 o ho3
    by_cases y : o = r
    · rw [y] at this ⊢; omega
    · rw [hmb2 o y]; omega
  · intro c j h ej
    rcases hcs c h with z | z
    · have a := ag c z
      have b := g2 c z
      rw [a.2.2.2.1] at ej
      rw [(ag j (by omega)).1]
      exact g6 c j z ej
    · rw [z] at ej
      rw [(ag j (by omega)).1]
      exact hin j ej
  · intro c h hi
    rcases hcs c h with z | z
    · have a := ag c z
      rw [a.2.2.2.1]
      rw [a.1] at hi
      exact g7 c z hi
    · rw [z] at hi ⊢
      exact hdel hi
  · intro c h hi
    rcases hcs c h with z | z
    · have a := ag c z
      have b := g2 c z
      rw [a.1] at hi
      have d := g8 c z hi
      rw [a.2.2.2.2.1, a.2.2.2.2.2, a.2.2.2.1, a.2.1, hpa _ (by omega)]
      refine ⟨d.1, d.2.1, ?_⟩
      intro j ej
      rw [(ag j (by omega)).2.2.2.2.1]
      exact d.2.2 j ej
    · rw [z] at hi ⊢
      have d := hst hi
      rw [hpa _ ht, ho]
      refine ⟨d.1, d.2.1, ?_⟩
      intro j ej
      rw [(ag j (by omega)).2.2.2.2.1]
      exact d.2.2 j ej
  · intro c d h h' hi hi' eo es
    rcases hcs c h with z | z
    · have a := ag c z
      rcases hcs d h' with z' | z'
      · have a' := ag d z'
        rw [a.1] at hi
        rw [a'.1] at hi'
        rw [a.2.1, a'.2.1] at eo
        rw [a.2.2.2.2.1, a'.2.2.2.2.1] at es
        exact g9 c d z z' hi hi' eo es
      · rw [z'] at hi' eo es
        rw [a.1] at hi
        rw [a.2.1, ho] at eo
        rw [a.2.2.2.2.1] at es
        have := hun hi' c z hi eo
        omega
    · rcases hcs d h' with z' | z'
      · have a' := ag d z'
        rw [z] at hi eo es
        rw [a'.1] at hi'
        rw [a'.2.1, ho] at eo
        rw [a'.2.2.2.2.1] at es
        have := hun hi d z' hi' eo.symm
        omega
      · omega
theorem rg_growR (G : rg_log m ins org num tg st mb P) (R : rg_rep m ins org num tg st mb P kn L tk g) {r : Nat} (hr : r < 3)
    (ag : ∀ c, c < m → ins' c = ins c ∧ org' c = org c ∧ num' c = num c ∧ tg' c = tg c ∧ st' c = st c ∧ P' c = P c)
    (ho : org' m = r) (hnum : num' m = mb r + 1) (hmb : ∀ o, mb o ≤ mb' o) : rg_rep (m + 1) ins' org' num' tg' st' mb' P' kn L tk g := by
  obtain ⟨g1, g2, g3, g4, g5, g6, g7, g8, g9⟩ := G
  obtain ⟨r1, r2, r3, r4, r5, r6, r7⟩ := R
  have hcs : ∀ c, c < m + 1 → c < m ∨ c = m := fun c h => by omega
  have hno : ¬ num' m ≤ kn (org' m) := by
    rw [ho, hnum]
    have := r1 r hr
    omega
  have hLm : ∀ c, c ∈ L → c < m := fun c h => ((r4 c).mp h).1
  refine ⟨?_, ?_, ?_, ?_, ?_, ?_, ?_⟩
  · intro o h
    exact Nat.le_trans (r1 o h) (hmb o)
  · intro c j h hk ej
    rcases hcs c h with z | z
    · have a := ag c z
      have b := g2 c z
      rw [a.2.2.1, a.2.1] at hk
      rw [a.2.2.2.1] at ej
      have a' := ag j (by omega)
      rw [a'.2.2.1, a'.2.1]
      exact r2 c j z hk ej
    · rw [z] at hk; exact absurd hk hno
  · refine List.Pairwise.imp_of_mem (fun {a b} ha hb h => ?_) r3
    rw [(ag a (hLm a ha)).2.2.2.2.2, (ag b (hLm b hb)).2.2.2.2.2]
    exact h
  · intro c
    rw [r4 c]
    constructor
    · rintro ⟨a1, a2, a3⟩
      have a := ag c a1
      rw [a.1, a.2.1, a.2.2.1]
      exact ⟨by omega, a2, a3⟩
    · rintro ⟨a1, a2, a3⟩
      rcases hcs c a1 with z | z
      · have a := ag c z
        rw [a.1] at a2
        rw [a.2.1, a.2.2.1] at a3
        exact ⟨z, a2, a3⟩
      · rw [z] at a3; exact absurd a3 hno
  · intro c hc
    rw [r5 c hc]
    constructor
    · rintro ⟨d, d1, d2, d3, d4⟩
      have a := ag d d1
      exact ⟨d, by omega, by rw [a.1]; exact d2, by rw [a.2.1, a.2.2.1]; exact d3, by rw [a.2.2.2.1]; exact d4⟩
    · rintro ⟨d, d1, d2, d3, d4⟩
      rcases hcs d d1 with z | z
      · have a := ag d z
        rw [a.1] at d2
        rw [a.2.1, a.2.2.1] at d3
        rw [a.2.2.2.1] at d4
        exact ⟨d, z, d2, d3, d4⟩
      · rw [z] at d3; exact absurd d3 hno
  · intro c hc
    rw [(ag c (hLm c hc)).2.2.2.2.1]
    exact r6 c hc
  · rcases r7 with z | ⟨c, hc, z⟩
    · exact Or.inl z
    · exact Or.inr ⟨c, hc, by rw [(ag c (hLm c hc)).2.2.2.2.1]; exact z⟩
theorem rg_growY (R : rg_rep m ins org num tg st mb P kn L tk g) {r q : Nat} (hr : r < 3)
    (ag : ∀ c, c < m → ins' c = ins c ∧ org' c = org c ∧ num' c = num c ∧ tg' c = tg c ∧ st' c = st c ∧ P' c = P c)
    (ho : org' m = r) (hnum : num' m = mb r + 1) {yK : Nat → Int32} (Y : rg_yr m org num q kn yK) : rg_yr (m + 1) org' num' q kn yK := by
  intro c hc
  rw [Y c hc]
  congr 1
  by_cases h : c < m
  · have a := ag c h
    rw [a.2.1, a.2.2.1]
    by_cases z : num c ≤ kn (org c)
    · rw [decide_eq_true ⟨h, z⟩, decide_eq_true ⟨by omega, z⟩]
    · rw [decide_eq_false (fun y => z y.2), decide_eq_false (fun y => z y.2)]
  · rw [decide_eq_false (fun y => h y.1), decide_eq_false]
    rintro ⟨y1, y2⟩
    have : c = m := by omega
    rw [this, ho, hnum] at y2
    have := R.1 r hr
    omega
end
end
end
section
/-! walks of X: the small methods -/
theorem rg_v0 : vp_nar .boolean 0 = 0 := rfl
theorem rg_v1 : vp_nar .boolean 1 = 1 := rfl
theorem rg_m3 (a b : Nat) : 3 * nI a + nI b = nI (3 * a + b) := by
  show nI 3 * nI a + nI b = _
  rw [pk_mul, nI_add]
theorem rg_m48 (a b : Nat) : 48 * nI a + nI b = nI (48 * a + b) := by
  show nI 48 * nI a + nI b = _
  rw [pk_mul, nI_add]
theorem rg_m49 (a : Nat) : 49 * nI a = nI (49 * a) := by
  show nI 49 * nI a = _
  rw [pk_mul]
theorem rg_ix (b c : Nat) : nI b + 1 + nI c = nI (b + (c + 1)) := by
  rw [nI_1, nI_add]
  congr 1
  omega
theorem rg_rc (v : Int32) : (∃ r, r < 3 ∧ v = nI r) ∨ (v < 0 ∨ 2 < v) := by
  rcases pk_ix v (n := 3) (by decide) with h | h | h
  · exact Or.inr (Or.inl h)
  · exact Or.inr (Or.inr (Int32.lt_of_lt_of_le (show (2 : Int32) < nI 3 by decide) h))
  · exact Or.inl h
theorem xw_rep {post : Int32 → Prop} {r : Nat} (hr : r < 3) (h : post 1) : wpX_isReplica post (nI r) :=
  br_f (nI_pos (by omega)) (br_f (nI_nlt (a := 2) (b := r) (by omega) (by decide)) h)
theorem xw_nrep {post : Int32 → Prop} {v : Int32} (hv : v < 0 ∨ 2 < v) (h : post 0) : wpX_isReplica post v :=
  br_c (fun _ => h) (fun z => br_t (hv.resolve_left z) h)
theorem yw_ok {post : Int32 → Prop} {r : Nat} (hr : r < 3) (h : post 0) : wpY_bad post (nI r) :=
  br_f (nI_pos (by omega)) (br_t (nI_le (a := r) (b := 2) (by omega) (by decide)) h)
theorem yw_bad {post : Int32 → Prop} {v : Int32} (hv : v < 0 ∨ 2 < v) (h : post 1) : wpY_bad post v :=
  br_c (fun _ => h) (fun z => br_f (Int32.not_le.mpr (hv.resolve_left z)) h)
def rg_h : List Nat → Int32
  | [] => -1
  | c :: _ => nI c
theorem rg_lk_h {f : Nat → Int32} {b i : Nat} {R : List Nat} (h : rg_lk f b i R) : f (b + i) = rg_h R := by
  cases R with
  | nil => exact h
  | cons c R => exact h.1
section
variable {m : Nat} {ins : Nat → Bool} {org num tg st mb : Nat → Nat} {P : Nat → List Nat} {kn : Nat → Nat} {L : List Nat} {tk : Nat → Bool} {g : Nat} {xm : Int32} {xI xO xN xL xA xS xT xB xC xK xG xF xD xR xW : Nat → Int32}
theorem xw_gr (G : rg_log m ins org num tg st mb P) (X : rg_xl m ins org num tg st mb xm xI xO xN xA xS xT xB xC) {a b : Nat} (ha : a < m) (hb : b < m) (ia : ins a = true) (ib : ins b = true)
    {post : Int32 → Prop} (h1 : rg_ky st org b < rg_ky st org a → post 1) (h0 : ¬ rg_ky st org b < rg_ky st org a → post 0) : wpX_isGreater post (xm, xI, xO, xN, xL, xA, xS, xT, xB, xC, xK, xG, xF, xD, xR, xW) (nI a) (nI b) := by
  obtain ⟨x1, x2, x3, x4, x5⟩ := X
  have hm := G.1
  have oa := (G.2.1 a ha).1
  have ob := (G.2.1 b hb).1
  have sa := (G.2.2.2.2.2.2.2.1 a ha ia).1
  have sb := (G.2.2.2.2.2.2.2.1 b hb ib).1
  have va : vp_in (nI a) 48 := vp_in_nI (by omega) (by decide)
  have vb : vp_in (nI b) 48 := vp_in_nI (by omega) (by decide)
  have h1 : 3 * st b + org b < 3 * st a + org a → post 1 := h1
  have h0 : ¬ 3 * st b + org b < 3 * st a + org a → post 0 := h0
  unfold wpX_isGreater
  dsimp only
  rw [nI_clamp (show a < 2 ^ 31 by omega), nI_clamp (show b < 2 ^ 31 by omega), (x3 a ha ia).2, (x3 b hb ib).2, (x2 a ha).2.1, (x2 b hb).2.1]
  exact ⟨va, vb, pk_eq (st a) (st b) (fun e => ⟨va, vb, pk_le (org a) (org b) (fun l => h0 (by omega)) (fun l => h1 (by omega))⟩) (fun e => ⟨va, vb, pk_le (st a) (st b) (fun l => h0 (by omega)) (fun l => h1 (by omega))⟩)⟩
theorem xw_kn (G : rg_log m ins org num tg st mb P) (X : rg_xl m ins org num tg st mb xm xI xO xN xA xS xT xB xC) (R : rg_rep m ins org num tg st mb P kn L tk g) {q : Nat} (hq : q < 3) (XR : rg_xr q kn L tk g xK xG xF xD xR xW)
    {c : Nat} (hc : c < m) {post : Int32 → Prop} (h1 : num c ≤ kn (org c) → post 1) (h0 : ¬ num c ≤ kn (org c) → post 0) : wpX_isKnown post (xm, xI, xO, xN, xL, xA, xS, xT, xB, xC, xK, xG, xF, xD, xR, xW) (nI q) (nI c) := by
  obtain ⟨x1, x2, x3, x4, x5⟩ := X
  have hm := G.1
  have oc := G.2.1 c hc
  have om := G.2.2.2.2.1 (org c) oc.1
  have km := R.1 (org c) oc.1
  have vc : vp_in (nI c) 48 := vp_in_nI (by omega) (by decide)
  unfold wpX_isKnown
  dsimp only
  rw [nI_clamp (show c < 2 ^ 31 by omega), (x2 c hc).2.1, (x2 c hc).2.2.1, rg_m3, nI_clamp (show 3 * q + org c < 2 ^ 31 by omega), XR.1 (org c) oc.1]
  exact ⟨vc, vc, vp_in_nI (by omega) (by decide), pk_lt (kn (org c)) (num c) (fun l => h0 (by omega)) (fun l => h1 (by omega))⟩
theorem xw_at_56 {post : Int32 → Prop} {J : Int32 → Int32 → Int32 → Prop} {q c s : Nat} (hq : q < 3) (hc : c < 48) {y : Int32} (h : J y (xF (49 * q + (c + 1))) (nI (s + 1))) : wX_insertAt_56 post J (nI (49 * q)) y (nI c) (nI s) xm xI xO xN xL xA xS xT xB xC xK xG xF xD xR xW := by
  unfold wX_insertAt_56
  rw [rg_ix, nI_clamp (show 49 * q + (c + 1) < 2 ^ 31 by omega)]
  exact ⟨vp_in_nI (by omega) (by decide), nm_e (nm_r (nI_1 s) h)⟩
theorem xw_at_loop {q : Nat} (hq : q < 3) {a : Nat} {post : Int32 → Prop} (hp : post (nI a)) : ∀ (R : List Nat) (i s left n : Nat), rg_lk xF (49 * q) i R → (∀ c, c ∈ R → c < 48 ∧ xD (49 * q + (c + 1)) = rg_b (tk c)) →
    s + R.length ≤ 48 → (R.filter (fun c => !tk c))[left]? = some a → left < 1000 → R.length < n → wX_insertAt_19 post (nI (49 * q)) xm xI xO xN xL xA xS xT xB xC xK xG xF xD xR xW n (nI left) (xF (49 * q + i)) (nI s) := by
  intro R
  induction R with
  | nil => intro i s left n _ _ _ h _ _; simp at h
  | cons c R ih =>
    intro i s left n hl hR hs hf hle hn
    rw [List.length_cons] at hs hn
    obtain ⟨n, rfl⟩ : ∃ k, n = k + 1 := ⟨n - 1, by omega⟩
    have ⟨hc, hD⟩ := hR c (by simp)
    have hR' : ∀ c, c ∈ R → c < 48 ∧ xD (49 * q + (c + 1)) = rg_b (tk c) := fun x hx => hR x (List.mem_cons_of_mem _ hx)
    rw [hl.1, wX_insertAt_19]
    dsimp only
    rw [rg_ix, nI_clamp (show 49 * q + (c + 1) < 2 ^ 31 by omega), hD]
    refine br_f (nI_ge (a := s) (b := 48) (by omega) (by decide)) (br_f (nI_pos (by omega)) ⟨vp_in_nI (by omega) (by decide), ?_⟩)
    cases hk : tk c with
    | true =>
      rw [List.filter_cons_of_neg (by rw [hk]; simp)] at hf
      exact br_f (by decide) (xw_at_56 hq hc (ih (c + 1) (s + 1) left n hl.2 hR' (by omega) hf hle (by omega)))
    | false =>
      rw [List.filter_cons_of_pos (by rw [hk]; rfl)] at hf
      refine br_t rfl (pk_eq left 0 (fun e => ?_) (fun e => ?_))
      · rw [e] at hf
        have e2 : c = a := by simpa using hf
        rw [e2]
        exact hp
      · obtain ⟨l, rfl⟩ : ∃ l, left = l + 1 := ⟨left - 1, by omega⟩
        have hf' : (R.filter (fun c => !tk c))[l]? = some a := by simpa using hf
        exact nm_r (pk_m1 l) (xw_at_56 hq hc (ih (c + 1) (s + 1) l n hl.2 hR' (by omega) hf' (by omega) (by omega)))
theorem xw_at {q : Nat} (hq : q < 3) (XR : rg_xr q kn L tk g xK xG xF xD xR xW) (hL : ∀ c, c ∈ L → c < 48) (hlen : L.length ≤ 48) {p a : Nat} (hf : (L.filter (fun c => !tk c))[p]? = some a) (hp : p < 1000)
    {post : Int32 → Prop} (h : post (nI a)) : wpX_insertAt post (xm, xI, xO, xN, xL, xA, xS, xT, xB, xC, xK, xG, xF, xD, xR, xW) (nI q) (nI p) := by
  unfold wpX_insertAt
  dsimp only
  refine nm_r (rg_m49 q) ⟨vp_in_nI (by omega) (by decide), nm_e ⟨L.length + 1, ?_⟩⟩
  rw [nI_clamp (show 49 * q < 2 ^ 31 by omega)]
  exact xw_at_loop hq h L 0 0 p (L.length + 1) XR.2.2.1 (fun c hc => ⟨hL c hc, XR.2.2.2.1 c hc⟩) (by omega) hf hp (by omega)
theorem xw_new {q : Nat} (hq : q < 3) (hm : m < 48) (e0 : xm = nI m) (eB : xB q = nI (mb q)) (hb : mb q ≤ m) {p v : Int32} (ev : vp_nar .boolean p = v) {post : Int32 → SX → Prop}
    (h : post (nI m) (nI (m + 1), upd xI m v, upd xO m (nI q), upd xN m (nI (mb q + 1)), xL, xA, xS, xT, upd xB q (nI (mb q + 1)), upd xC (49 * q + (mb q + 1)) (nI m), xK, xG, xF, xD, xR, xW)) : wpX_newChange post (xm, xI, xO, xN, xL, xA, xS, xT, xB, xC, xK, xG, xF, xD, xR, xW) (nI q) p := by
  subst e0
  have vm : vp_in (nI m) 48 := vp_in_nI (by omega) (by decide)
  have vq : vp_in (nI q) 3 := vp_in_nI (by omega) (by decide)
  have e3 : 49 * nI q + upd xB q (nI (mb q + 1)) q = nI (49 * q + (mb q + 1)) := by rw [pk_us, rg_m49, nI_add]
  unfold wpX_newChange
  dsimp only
  rw [nI_clamp (show m < 2 ^ 31 by omega), nI_clamp (show q < 2 ^ 31 by omega), eB, nI_1, nI_1, ev]
  refine nm_e ⟨vm, nm_e ⟨vm, nm_e ⟨vq, vq, nm_e ⟨vq, vm, ?_⟩⟩⟩⟩
  rw [pk_us]
  refine nm_e ⟨vq, ?_⟩
  rw [rg_m49, nI_add, nI_clamp (show 49 * q + (mb q + 1) < 2 ^ 31 by omega)]
  exact ⟨vp_in_nI (by omega) (by decide), nm_e h⟩
theorem xw_take {q j : Nat} (hq : q < 3) (hj : j < 48) {b : Bool} (hD : xD (49 * q + (j + 1)) = rg_b b) {post : SX → Prop}
    (h1 : b = false → post (xm, xI, xO, xN, xL, xA, xS, xT, xB, xC, xK, xG, xF, upd xD (49 * q + (j + 1)) 1, xR, upd xW q (xW q - 1))) (h2 : b = true → post (xm, xI, xO, xN, xL, xA, xS, xT, xB, xC, xK, xG, xF, xD, xR, xW)) : wpX_takeAway post (xm, xI, xO, xN, xL, xA, xS, xT, xB, xC, xK, xG, xF, xD, xR, xW) (nI q) (nI j) := by
  unfold wpX_takeAway
  dsimp only
  have vq : vp_in (nI q) 3 := vp_in_nI (by omega) (by decide)
  have vj : vp_in (nI (49 * q + (j + 1))) 147 := vp_in_nI (by omega) (by decide)
  refine nm_r (e' := nI (49 * q + (j + 1))) (by rw [rg_m49, rg_ix]) ⟨vj, ?_⟩
  rw [nI_clamp (show 49 * q + (j + 1) < 2 ^ 31 by omega), nI_clamp (show q < 2 ^ 31 by omega), hD]
  cases b with
  | true => exact br_f (by decide) (h2 rfl)
  | false => exact br_t rfl ⟨vj, nm_e ⟨vq, vq, nm_e (h1 rfl)⟩⟩
theorem xw_put71 {q c p sc : Nat} (hq : q < 3) (hc : c < 48) (hp : p < 49) (hS : xS c = nI sc) (hG : xG q = nI g) (hsc : sc < 1000) (hg : g < 1000) {post : SX → Prop}
    (h : post (xm, xI, xO, xN, xL, xA, xS, xT, xB, xC, xK, if sc ≤ g then xG else upd xG q (nI sc), upd (upd xF (49 * q + (c + 1)) (xF (49 * q + p))) (49 * q + p) (nI c), upd xD (49 * q + (c + 1)) 0, upd xR q (xR q + 1), upd xW q (xW q + 1))) :
    wX_putInRow_71 post (nI q) (nI c) (nI (49 * q)) (nI (49 * q + p)) xm xI xO xN xL xA xS xT xB xC xK xG xF xD xR xW := by
  have vq : vp_in (nI q) 3 := vp_in_nI (by omega) (by decide)
  have vc : vp_in (nI c) 48 := vp_in_nI (by omega) (by decide)
  have vc1 : vp_in (nI (49 * q + (c + 1))) 147 := vp_in_nI (by omega) (by decide)
  have vp : vp_in (nI (49 * q + p)) 147 := vp_in_nI (by omega) (by decide)
  unfold wX_putInRow_71
  rw [rg_ix, nI_clamp (show 49 * q + (c + 1) < 2 ^ 31 by omega), nI_clamp (show 49 * q + p < 2 ^ 31 by omega), nI_clamp (show q < 2 ^ 31 by omega), nI_clamp (show c < 2 ^ 31 by omega), hS, hG]
  refine ⟨vp, vc1, nm_e ⟨vp, nm_e ⟨vc1, nm_e ⟨vq, vq, nm_e ⟨vq, vq, nm_e ⟨vc, vq, pk_le sc g (fun l => ?_) (fun l => ⟨vc, vq, nm_e ?_⟩)⟩⟩⟩⟩⟩⟩
  · rw [if_pos l] at h
    exact h
  · rw [if_neg (by omega)] at h
    exact h
end
end
section
/-! X learns a change -/
theorem rg_last_lt : ∀ (B : List Nat) (i : Nat), i < 49 → (∀ x, x ∈ B → x < 48) → rg_last i B < 49 := by
  intro B
  induction B with
  | nil => intro i h _; exact h
  | cons b B ih =>
    intro i _ hB
    have := hB b (by simp)
    exact ih (b + 1) (by omega) (fun x hx => hB x (List.mem_cons_of_mem _ hx))
section
variable {m : Nat} {ins : Nat → Bool} {org num tg st mb : Nat → Nat} {P : Nat → List Nat} {kn : Nat → Nat} {L : List Nat} {tk : Nat → Bool} {g : Nat} {xm : Int32} {xI xO xN xL xA xS xT xB xC xK xG xF xD xR xW : Nat → Int32}
theorem xw_put_loop (G : rg_log m ins org num tg st mb P) (X : rg_xl m ins org num tg st mb xm xI xO xN xA xS xT xB xC) {q c : Nat} (hq : q < 3) (hc : c < m) (ic : ins c = true) {post : SX → Prop} {L2 : List Nat}
    (hL2 : ∀ y L3, L2 = y :: L3 → y < m ∧ ins y = true ∧ rg_ky st org y < rg_ky st org c) :
    ∀ (B : List Nat) (i s n : Nat), rg_lk xF (49 * q) i (B ++ L2) → (∀ x, x ∈ B → x < m ∧ ins x = true ∧ rg_ky st org c < rg_ky st org x) → i < 49 → s + B.length < 48 → B.length < n →
      wX_putInRow_71 post (nI q) (nI c) (nI (49 * q)) (nI (49 * q + rg_last i B)) xm xI xO xN xL xA xS xT xB xC xK xG xF xD xR xW → wX_putInRow_20 post (nI q) (nI c) (nI (49 * q)) xm xI xO xN xL xA xS xT xB xC xK xG xF xD xR xW n (nI (49 * q + i)) (nI s) := by
  have hm := G.1
  intro B
  induction B with
  | nil =>
    intro i s n hl _ hi hs hn h
    obtain ⟨n, rfl⟩ : ∃ k, n = k + 1 := ⟨n - 1, by omega⟩
    have h : wX_putInRow_71 post (nI q) (nI c) (nI (49 * q)) (nI (49 * q + i)) xm xI xO xN xL xA xS xT xB xC xK xG xF xD xR xW := h
    have vi : vp_in (nI (49 * q + i)) 147 := vp_in_nI (by omega) (by decide)
    rw [wX_putInRow_20]
    dsimp only
    rw [nI_clamp (show 49 * q + i < 2 ^ 31 by omega)]
    refine br_f (nI_ge (a := s) (b := 48) (by omega) (by decide)) ⟨vi, ?_⟩
    cases L2 with
    | nil =>
      have e : xF (49 * q + i) = -1 := hl
      rw [e]
      exact br_t (by decide) h
    | cons y L3 =>
      have e : xF (49 * q + i) = nI y := hl.1
      have ⟨hy, iy, ky⟩ := hL2 y L3 rfl
      rw [e]
      exact br_f (nI_pos (by omega)) ⟨vi, xw_gr G X hy hc iy ic (fun z => absurd z (by omega)) (fun _ => br_t rfl h)⟩
  | cons b B ih =>
    intro i s n hl hB hi hs hn h
    rw [List.length_cons] at hs hn
    obtain ⟨n, rfl⟩ : ∃ k, n = k + 1 := ⟨n - 1, by omega⟩
    have vi : vp_in (nI (49 * q + i)) 147 := vp_in_nI (by omega) (by decide)
    have e : xF (49 * q + i) = nI b := hl.1
    have ⟨hb, ib, kb⟩ := hB b (by simp)
    rw [wX_putInRow_20]
    dsimp only
    rw [nI_clamp (show 49 * q + i < 2 ^ 31 by omega), e]
    refine br_f (nI_ge (a := s) (b := 48) (by omega) (by decide)) ⟨vi, br_f (nI_pos (by omega)) ⟨vi, xw_gr G X hb hc ib ic (fun _ => br_f (by decide) ⟨vi, nm_r (rg_ix (49 * q) b) (nm_r (nI_1 s) ?_)⟩) (fun z => absurd kb z)⟩⟩
    exact ih (b + 1) (s + 1) n hl.2 (fun x hx => hB x (List.mem_cons_of_mem _ hx)) (by omega) (by omega) (by omega) h
theorem xw_learn (G : rg_log m ins org num tg st mb P) (X : rg_xl m ins org num tg st mb xm xI xO xN xA xS xT xB xC) (R : rg_rep m ins org num tg st mb P kn L tk g) {q : Nat} (hq : q < 3) (XR : rg_xr q kn L tk g xK xG xF xD xR xW)
    {c : Nat} (hc : c < m) (hn : num c = kn (org c) + 1) (hcl : ∀ j, tg c = j + 1 → num j ≤ kn (org j)) :
    ∃ (L' : List Nat) (tk' : Nat → Bool) (g' : Nat) (xG' xF' xD' xR' xW' : Nat → Int32), rg_rep m ins org num tg st mb P (rg_u kn (org c) (num c)) L' tk' g' ∧
      rg_xr q (rg_u kn (org c) (num c)) L' tk' g' (upd xK (3 * q + org c) (nI (num c))) xG' xF' xD' xR' xW' ∧
      (∀ p, p ≠ q → xG' p = xG p ∧ xR' p = xR p ∧ xW' p = xW p) ∧ (∀ i, (i < 49 * q ∨ 49 * q + 49 ≤ i) → xF' i = xF i ∧ xD' i = xD i) ∧
      ∀ post : SX → Prop, post (xm, xI, xO, xN, xL, xA, xS, xT, xB, xC, upd xK (3 * q + org c) (nI (num c)), xG', xF', xD', xR', xW') → wpX_learn post (xm, xI, xO, xN, xL, xA, xS, xT, xB, xC, xK, xG, xF, xD, xR, xW) (nI q) (nI c) := by
  have hm := G.1
  have oc := G.2.1 c hc
  have vc : vp_in (nI c) 48 := vp_in_nI (by omega) (by decide)
  have vk : vp_in (nI (3 * q + org c)) 9 := vp_in_nI (by omega) (by decide)
  have hLm : ∀ x, x ∈ L → x < m ∧ ins x = true := fun x hx => ⟨((R.2.2.2.1 x).mp hx).1, ((R.2.2.2.1 x).mp hx).2.1⟩
  have hlenL := rg_lenL G R
  have hgl := rg_g_le G R
  have ND := rg_nodup R
  obtain ⟨x1, x2, x3, x4, x5⟩ := id X
  obtain ⟨k1, k2, k3, k4, k5, k6⟩ := XR
  have hK : ∀ o, o < 3 → upd xK (3 * q + org c) (nI (num c)) (3 * q + o) = nI (rg_u kn (org c) (num c) o) := by
    intro o ho
    by_cases e : o = org c
    · rw [e, pk_us, rg_us]
    · rw [pk_un (by omega), rg_un e]
      exact k1 o ho
  have xc := x2 c hc
  cases hi : ins c with
  | true =>
    obtain ⟨A, B, L2, e, hcL, hA, hB, hL2, R', hlen⟩ := rg_learnI G R hc hi hn hcl (kn' := rg_u kn (org c) (num c)) rg_us (fun o ho => rg_un ho)
    have eA : rg_last 0 A = tg c := by
      rcases hA with ⟨a, b⟩ | ⟨j, A', a, b⟩
      · rw [a, b]; rfl
      · rw [a, b]; exact rg_last_app A' 0 j
    have eAB : rg_last 0 (A ++ B) = rg_last (tg c) B := by rw [rg_last_two, eA]
    have hBm : ∀ x, x ∈ B → x < m ∧ ins x = true ∧ rg_ky st org c < rg_ky st org x := fun x hx => by
      have h := hLm x (by rw [e]; simp [hx])
      exact ⟨h.1, h.2, hB x hx⟩
    have hp : rg_last (tg c) B < 49 := rg_last_lt B (tg c) (by omega) (fun x hx => by have := (hBm x hx).1; omega)
    have hsc := (G.2.2.2.2.2.2.2.1 c hc hi).1
    have hlen2 : L.length + 1 ≤ m := by
      have h := rg_lenL G R'
      rw [e]
      simp only [List.length_append, List.length_cons] at h ⊢
      omega
    refine ⟨A ++ B ++ c :: L2, rg_u tk c false, if st c ≤ g then g else st c, if st c ≤ g then xG else upd xG q (nI (st c)),
      upd (upd xF (49 * q + (c + 1)) (xF (49 * q + rg_last (tg c) B))) (49 * q + rg_last (tg c) B) (nI c), upd xD (49 * q + (c + 1)) 0, upd xR q (xR q + 1), upd xW q (xW q + 1), R', ⟨hK, ?_, ?_, ?_, ?_, ?_⟩, ?_, ?_, ?_⟩
    · split
      · exact k2
      · exact pk_us
    · rw [← eAB]
      rw [e] at k3 ND hcL
      exact rg_lk_ins (A ++ B) 0 L2 k3 ND hcL (fun x _ => by omega) (by omega)
    · intro d hd
      by_cases ed : d = c
      · rw [ed, pk_us, rg_us]; rfl
      · rw [pk_un (by omega), rg_un ed]
        refine k4 d ?_
        rw [e]
        simp only [List.mem_append, List.mem_cons] at hd ⊢
        rcases hd with hd | hd | hd
        · exact Or.inl hd
        · exact absurd hd ed
        · exact Or.inr hd
    · rw [pk_us, k5, nI_1, e]
      congr 1
      simp only [List.length_append, List.length_cons]
      omega
    · rw [pk_us, k6, nI_1, hlen]
    · intro p hp
      refine ⟨?_, pk_un hp, pk_un hp⟩
      split
      · rfl
      · exact pk_un hp
    · intro i hi
      rw [pk_un (by omega), pk_un (by omega), pk_un (by omega)]
      exact ⟨rfl, rfl⟩
    · intro post h
      unfold wpX_learn
      dsimp only
      rw [nI_clamp (show c < 2 ^ 31 by omega), xc.2.1, xc.2.2.1, rg_m3, nI_clamp (show 3 * q + org c < 2 ^ 31 by omega), xc.1, hi]
      refine ⟨vc, vc, vk, nm_e ⟨vc, br_f (by decide) ?_⟩⟩
      unfold wpX_putInRow
      dsimp only
      rw [nI_clamp (show c < 2 ^ 31 by omega), (x3 c hc hi).1]
      refine nm_r (rg_m49 q) ⟨vc, nm_r (rg_t_add (49 * q) (tg c)) ⟨B.length + 1, ?_⟩⟩
      have hl : rg_lk xF (49 * q) (tg c) (B ++ L2) := by
        rw [e, List.append_assoc] at k3
        have := rg_lk_drop A 0 (B ++ L2) k3
        rwa [eA] at this
      refine xw_put_loop G X hq hc hi (L2 := L2) ?_ B (tg c) 0 (B.length + 1) hl hBm (by omega) ?_ (by omega) ?_
      · intro y L3 ey
        have hy := hLm y (by rw [e, ey]; simp)
        exact ⟨hy.1, hy.2, hL2 y L3 ey⟩
      · rw [e] at hlen2
        simp only [List.length_append] at hlen2
        omega
      · exact xw_put71 hq (by omega) hp (x3 c hc hi).2 k2 (by omega) (by omega) h
  | false =>
    obtain ⟨j, ej, hjL, R'⟩ := rg_learnD G R hc hi hn hcl (kn' := rg_u kn (org c) (num c)) rg_us (fun o ho => rg_un ho)
    have hj := hLm j hjL
    have walk : ∀ post : SX → Prop, (tk j = false → post (xm, xI, xO, xN, xL, xA, xS, xT, xB, xC, upd xK (3 * q + org c) (nI (num c)), xG, xF, upd xD (49 * q + (j + 1)) 1, xR, upd xW q (xW q - 1))) → (tk j = true → post (xm, xI, xO, xN, xL, xA, xS, xT, xB, xC, upd xK (3 * q + org c) (nI (num c)), xG, xF, xD, xR, xW)) → wpX_learn post (xm, xI, xO, xN, xL, xA, xS, xT, xB, xC, xK, xG, xF, xD, xR, xW) (nI q) (nI c) := by
      intro post h1 h2
      unfold wpX_learn
      dsimp only
      rw [nI_clamp (show c < 2 ^ 31 by omega), xc.2.1, xc.2.2.1, rg_m3, nI_clamp (show 3 * q + org c < 2 ^ 31 by omega), xc.1, hi, x4 c hc hi, ej]
      exact ⟨vc, vc, vk, nm_e ⟨vc, br_t rfl ⟨vc, xw_take hq (by omega) (k4 j hjL) h1 h2⟩⟩⟩
    cases hk : tk j with
    | true =>
      have etk : rg_u tk j true = tk := by
        funext x
        by_cases z : x = j
        · rw [z, rg_us, hk]
        · rw [rg_un z]
      rw [etk] at R'
      refine ⟨L, tk, g, xG, xF, xD, xR, xW, R', ⟨hK, k2, k3, k4, k5, k6⟩, fun p _ => ⟨rfl, rfl, rfl⟩, fun i _ => ⟨rfl, rfl⟩, ?_⟩
      intro post h
      exact walk post (fun z => by rw [hk] at z; cases z) (fun _ => h)
    | false =>
      refine ⟨L, rg_u tk j true, g, xG, xF, upd xD (49 * q + (j + 1)) 1, xR, upd xW q (xW q - 1), R', ⟨hK, k2, k3, ?_, k5, ?_⟩, ?_, ?_, ?_⟩
      · intro d hd
        by_cases ed : d = j
        · rw [ed, pk_us, rg_us]; rfl
        · rw [pk_un (by omega), rg_un ed]
          exact k4 d hd
      · have := rg_fdel tk j hk L ND hjL
        rw [pk_us, k6, ← this]
        exact nI_pred _
      · intro p hp
        exact ⟨rfl, rfl, pk_un hp⟩
      · intro i hi
        exact ⟨rfl, pk_un (by omega)⟩
      · intro post h
        exact walk post (fun _ => h) (fun z => by rw [hk] at z; cases z)
theorem rg_xr_fr {p q : Nat} (hp3 : p < 3) (hp : p ≠ q) (hL : ∀ x, x ∈ L → x < 48) {xK' xG' xF' xD' xR' xW' : Nat → Int32} (hK : ∀ o, o < 3 → xK' (3 * p + o) = xK (3 * p + o))
    (h1 : ∀ p, p ≠ q → xG' p = xG p ∧ xR' p = xR p ∧ xW' p = xW p) (h2 : ∀ i, (i < 49 * q ∨ 49 * q + 49 ≤ i) → xF' i = xF i ∧ xD' i = xD i)
    (XR : rg_xr p kn L tk g xK xG xF xD xR xW) : rg_xr p kn L tk g xK' xG' xF' xD' xR' xW' := by
  obtain ⟨k1, k2, k3, k4, k5, k6⟩ := XR
  have a := h1 p hp
  have hi : ∀ x, x < 49 → (49 * p + x < 49 * q ∨ 49 * q + 49 ≤ 49 * p + x) := fun x hx => by omega
  refine ⟨fun o ho => (hK o ho).trans (k1 o ho), a.1.trans k2, ?_, ?_, a.2.1.trans k5, a.2.2.trans k6⟩
  · refine rg_lk_fr L 0 (fun x hx => (h2 _ (hi (x + 1) ?_)).1) (h2 _ (hi 0 (by decide))).1 k3
    have := hL x hx
    omega
  · intro c hc
    have := hL c hc
    exact (h2 _ (hi (c + 1) (by omega))).2.trans (k4 c hc)
end
end
section
/-! walks of Y: the row laid out from the tree of anchors -/
def rg_fit (L : List Nat) (tg ky : Nat → Nat) (t bl c : Nat) : Prop := c ∈ L ∧ tg c = t ∧ ∀ b, bl = b + 1 → ky c < ky b
theorem rg_sj {p : Nat → Prop} {a : Nat} (h : p a) : ∀ b, a + 1 = b + 1 → p b := fun b e => Nat.succ.inj e ▸ h
section
variable {m : Nat} {ins : Nat → Bool} {org num tg st mb : Nat → Nat} {P : Nat → List Nat} {kn : Nat → Nat} {L : List Nat} {tk : Nat → Bool} {g : Nat} {ym ys : Int32} {yO yI yL yT yS yK yX : Nat → Int32} {q : Nat}
theorem yw_in (G : rg_log m ins org num tg st mb P) (Y : rg_yl m ins org tg st ym yO yI yT yS) (R : rg_rep m ins org num tg st mb P kn L tk g) (hq : q < 3) (YR : rg_yr m org num q kn yK)
    {c : Nat} (hc : c < m) {post : Int32 → Prop} (h1 : c ∈ L → post 1) (h0 : c ∉ L → post 0) : wpY_inRow post (ym, ys, yO, yI, yL, yT, yS, yK, yX) (nI q) (nI c) := by
  have hm := G.1
  unfold wpY_inRow
  dsimp only
  rw [rg_m48, nI_clamp (show 48 * q + c < 2 ^ 31 by omega), nI_clamp (show c < 2 ^ 31 by omega), YR c (by omega), (Y.2.1 c hc).1]
  refine ⟨vp_in_nI (by omega) (by decide), ?_⟩
  by_cases hk : num c ≤ kn (org c)
  · rw [decide_eq_true ⟨hc, hk⟩]
    refine br_f (by decide) ⟨vp_in_nI (by omega) (by decide), ?_⟩
    cases hi : ins c with
    | true => exact br_f (by decide) (h1 ((R.2.2.2.1 c).mpr ⟨hc, hi, hk⟩))
    | false => exact br_t rfl (h0 (fun z => by have := ((R.2.2.2.1 c).mp z).2.1; rw [hi] at this; cases this))
  · rw [decide_eq_false (fun z => hk z.2)]
    exact br_t rfl (h0 (fun z => hk ((R.2.2.2.1 c).mp z).2.2))
theorem yw_gr (G : rg_log m ins org num tg st mb P) (Y : rg_yl m ins org tg st ym yO yI yT yS) {a b : Nat} (ha : a < m) (hb : b < m) (ia : ins a = true) (ib : ins b = true)
    {post : Int32 → Prop} (h1 : rg_ky st org b < rg_ky st org a → post 1) (h0 : ¬ rg_ky st org b < rg_ky st org a → post 0) : wpY_greater post (ym, ys, yO, yI, yL, yT, yS, yK, yX) (nI a) (nI b) := by
  have hm := G.1
  have oa := (G.2.1 a ha).1
  have ob := (G.2.1 b hb).1
  have sa := (G.2.2.2.2.2.2.2.1 a ha ia).1
  have sb := (G.2.2.2.2.2.2.2.1 b hb ib).1
  have va : vp_in (nI a) 48 := vp_in_nI (by omega) (by decide)
  have vb : vp_in (nI b) 48 := vp_in_nI (by omega) (by decide)
  have h1 : 3 * st b + org b < 3 * st a + org a → post 1 := h1
  have h0 : ¬ 3 * st b + org b < 3 * st a + org a → post 0 := h0
  unfold wpY_greater
  dsimp only
  rw [nI_clamp (show a < 2 ^ 31 by omega), nI_clamp (show b < 2 ^ 31 by omega), Y.2.2 a ha ia, Y.2.2 b hb ib, (Y.2.1 a ha).2.1, (Y.2.1 b hb).2.1]
  exact ⟨va, vb, pk_lt (st b) (st a) (fun l => h1 (by omega)) (fun l => ⟨va, vb, pk_eq (st a) (st b) (fun e => ⟨va, vb, pk_le (org a) (org b) (fun l => h0 (by omega)) (fun l => h1 (by omega))⟩) (fun e => h0 (by omega))⟩)⟩
theorem yw_f0 {post : Int32 → Prop} {J : Int32 → Int32 → Prop} {x1 x2 x3 x4 : Int32} {i : Nat} (h : J x4 (nI (i + 1))) : wY_following_54 post J x1 x2 x3 x4 (nI i) ym ys yO yI yL yT yS yK yX := by
  unfold wY_following_54 wY_following_55
  exact br_t rfl (nm_r (nI_1 i) h)
theorem yw_f1 (G : rg_log m ins org num tg st mb P) (Y : rg_yl m ins org tg st ym yO yI yT yS) {i z : Nat} (hi : i < m) (ii : ins i = true) (hz : ∀ d, z = d + 1 → d < m ∧ ins d = true)
    {post : Int32 → Prop} {J : Int32 → Int32 → Prop} {x1 x2 x3 : Int32} (h0 : z = 0 → J (nI i) (nI (i + 1))) (h1 : ∀ d, z = d + 1 → rg_ky st org d < rg_ky st org i → J (nI i) (nI (i + 1)))
    (h2 : ∀ d, z = d + 1 → ¬ rg_ky st org d < rg_ky st org i → J (nI d) (nI (i + 1))) : wY_following_50 post J x1 x2 x3 (rg_t z) (nI i) ym ys yO yI yL yT yS yK yX := by
  have hm := G.1
  unfold wY_following_50 wY_following_55
  refine br_f (by decide) ?_
  cases z with
  | zero => exact br_t (by decide) (nm_r (nI_1 i) (h0 rfl))
  | succ d =>
    have hd := hz d rfl
    exact br_f (nI_pos (by omega)) (yw_gr G Y hi hd.1 ii hd.2 (fun l => br_f (by decide) (nm_r (nI_1 i) (h1 d rfl l))) (fun l => br_t rfl (nm_r (nI_1 i) (h2 d rfl l))))
theorem yw_fol_loop (G : rg_log m ins org num tg st mb P) (Y : rg_yl m ins org tg st ym yO yI yT yS) (R : rg_rep m ins org num tg st mb P kn L tk g) (hq : q < 3) (YR : rg_yr m org num q kn yK)
    {t bl : Nat} (ht : t < 1000) (hbl : ∀ b, bl = b + 1 → b ∈ L) {post : Int32 → Prop} (h0 : (∀ c, ¬ rg_fit L tg (rg_ky st org) t bl c) → post (-1))
    (h1 : ∀ d, rg_fit L tg (rg_ky st org) t bl d → (∀ c, rg_fit L tg (rg_ky st org) t bl c → rg_ky st org c ≤ rg_ky st org d) → post (nI d)) :
    ∀ (k i z n : Nat), i + k = m → k < n → ((z = 0 ∧ ∀ c, c < i → ¬ rg_fit L tg (rg_ky st org) t bl c) ∨ (∃ d, z = d + 1 ∧ rg_fit L tg (rg_ky st org) t bl d ∧ ∀ c, c < i → rg_fit L tg (rg_ky st org) t bl c → rg_ky st org c ≤ rg_ky st org d)) →
      wY_following_6 post (nI q) (rg_t t) (rg_t bl) ym ys yO yI yL yT yS yK yX n (rg_t z) (nI i) := by
  have hm := G.1
  have hLm : ∀ x, x ∈ L → x < m ∧ ins x = true := fun x hx => ⟨((R.2.2.2.1 x).mp hx).1, ((R.2.2.2.1 x).mp hx).2.1⟩
  intro k
  induction k with
  | zero =>
    intro i z n hi hn inv
    obtain ⟨n, rfl⟩ : ∃ k, n = k + 1 := ⟨n - 1, by omega⟩
    rw [wY_following_6]
    dsimp only
    rw [Y.1]
    refine br_t (nI_le (by omega) (by omega)) ?_
    rcases inv with ⟨ez, h⟩ | ⟨d, ez, hd, h⟩
    · rw [ez]
      exact h0 (fun c hc => h c (by have := (hLm c hc.1).1; omega) hc)
    · rw [ez]
      exact h1 d hd (fun c hc => h c (by have := (hLm c hc.1).1; omega) hc)
  | succ k ih =>
    intro i z n hi hn inv
    obtain ⟨n, rfl⟩ : ∃ k, n = k + 1 := ⟨n - 1, by omega⟩
    have him : i < m := by omega
    have vi : vp_in (nI i) 48 := vp_in_nI (by omega) (by decide)
    have S0 : ¬ rg_fit L tg (rg_ky st org) t bl i → wY_following_6 post (nI q) (rg_t t) (rg_t bl) ym ys yO yI yL yT yS yK yX n (rg_t z) (nI (i + 1)) := by
      intro hno
      refine ih (i + 1) z n (by omega) (by omega) ?_
      rcases inv with ⟨ez, h⟩ | ⟨d, ez, hd, h⟩
      · refine Or.inl ⟨ez, fun c hc => ?_⟩
        by_cases e : c = i
        · rw [e]; exact hno
        · exact h c (by omega)
      · refine Or.inr ⟨d, ez, hd, fun c hc hf => ?_⟩
        by_cases e : c = i
        · rw [e] at hf; exact absurd hf hno
        · exact h c (by omega) hf
    have S1 : rg_fit L tg (rg_ky st org) t bl i → wY_following_50 post (wY_following_6 post (nI q) (rg_t t) (rg_t bl) ym ys yO yI yL yT yS yK yX n) (nI q) (rg_t t) (rg_t bl) (rg_t z) (nI i) ym ys yO yI yL yT yS yK yX := by
      intro hf
      have new : (∀ c, c < i → rg_fit L tg (rg_ky st org) t bl c → rg_ky st org c ≤ rg_ky st org i) → wY_following_6 post (nI q) (rg_t t) (rg_t bl) ym ys yO yI yL yT yS yK yX n (nI i) (nI (i + 1)) := by
        intro hle
        refine ih (i + 1) (i + 1) n (by omega) (by omega) (Or.inr ⟨i, rfl, hf, fun c hc hfc => ?_⟩)
        by_cases e : c = i
        · rw [e]; exact Nat.le_refl _
        · exact hle c (by omega) hfc
      refine yw_f1 G Y him (hLm i hf.1).2 ?_ ?_ ?_ ?_
      · intro d ed
        rcases inv with ⟨ez, h⟩ | ⟨d', ez, hd, h⟩
        · omega
        · have : d' = d := by omega
          rw [← this]
          exact hLm d' hd.1
      · intro ez0
        rcases inv with ⟨ez, h⟩ | ⟨d', ez, hd, h⟩
        · exact new (fun c hc hfc => absurd hfc (h c hc))
        · omega
      · intro d ed hlt
        rcases inv with ⟨ez, h⟩ | ⟨d', ez, hd, h⟩
        · omega
        · have : d' = d := by omega
          subst this
          exact new (fun c hc hfc => by have := h c hc hfc; omega)
      · intro d ed hlt
        rcases inv with ⟨ez, h⟩ | ⟨d', ez, hd, h⟩
        · omega
        · have : d' = d := by omega
          subst this
          refine ih (i + 1) (d' + 1) n (by omega) (by omega) (Or.inr ⟨d', rfl, hd, fun c hc hfc => ?_⟩)
          by_cases e : c = i
          · rw [e]; omega
          · exact h c (by omega) hfc
    rw [wY_following_6]
    dsimp only
    rw [nI_clamp (show i < 2 ^ 31 by omega), (Y.2.1 i him).2.2]
    have hti := (G.2.1 i him).2.2.2
    refine br_f (by rw [Y.1]; exact nI_ge him (by omega)) (yw_in G Y R hq YR him (fun hin => br_f (by decide) ⟨vi, ?_⟩) (fun hno => br_t rfl (yw_f0 (S0 (fun z => hno z.1)))))
    by_cases e : tg i = t
    · refine br_t ((rg_t_eq (by omega) ht).mpr e) ?_
      cases bl with
      | zero => exact br_t (by decide) (S1 ⟨hin, e, fun b hb => by omega⟩)
      | succ b =>
        have hb := hLm b (hbl b rfl)
        refine br_f (nI_pos (by omega)) (yw_gr G Y hb.1 him hb.2 (hLm i hin).2 (fun l => br_f (by decide) (S1 ⟨hin, e, fun b' hb' => ?_⟩)) (fun l => br_t rfl (yw_f0 (S0 (fun z => l (z.2.2 b rfl))))))
        have : b' = b := by omega
        rw [this]
        exact l
    · exact br_f (fun z => e ((rg_t_eq (by omega) ht).mp z)) (yw_f0 (S0 (fun z => e z.2.1)))
theorem yw_fol (G : rg_log m ins org num tg st mb P) (Y : rg_yl m ins org tg st ym yO yI yT yS) (R : rg_rep m ins org num tg st mb P kn L tk g) (hq : q < 3) (YR : rg_yr m org num q kn yK)
    (t bl : Nat) (ht : t < 1000) (hbl : ∀ b, bl = b + 1 → b ∈ L) {post : Int32 → Prop} (h0 : (∀ c, ¬ rg_fit L tg (rg_ky st org) t bl c) → post (-1))
    (h1 : ∀ d, rg_fit L tg (rg_ky st org) t bl d → (∀ c, rg_fit L tg (rg_ky st org) t bl c → rg_ky st org c ≤ rg_ky st org d) → post (nI d)) :
    wpY_following post (ym, ys, yO, yI, yL, yT, yS, yK, yX) (nI q) (rg_t t) (rg_t bl) :=
  ⟨m + 1, yw_fol_loop G Y R hq YR ht hbl h0 h1 m 0 0 (m + 1) (by omega) (by omega) (Or.inl ⟨rfl, fun c hc => absurd hc (by omega)⟩)⟩
theorem yw_gone_loop (G : rg_log m ins org num tg st mb P) (Y : rg_yl m ins org tg st ym yO yI yT yS) (R : rg_rep m ins org num tg st mb P kn L tk g) (hq : q < 3) (YR : rg_yr m org num q kn yK)
    {c : Nat} (hc : c ∈ L) {post : Int32 → Prop} (h1 : tk c = true → post 1) (h0 : tk c = false → post 0) :
    ∀ (k i n : Nat), i + k = m → k < n → (∀ d, d < i → ¬ (ins d = false ∧ num d ≤ kn (org d) ∧ tg d = c + 1)) → wY_gone_2 post (nI q) (nI c) ym ys yO yI yL yT yS yK yX n (nI i) := by
  have hm := G.1
  have hcm := ((R.2.2.2.1 c).mp hc).1
  intro k
  induction k with
  | zero =>
    intro i n hi hn inv
    obtain ⟨n, rfl⟩ : ∃ k, n = k + 1 := ⟨n - 1, by omega⟩
    rw [wY_gone_2]
    dsimp only
    rw [Y.1]
    refine br_t (nI_le (by omega) (by omega)) (h0 ?_)
    cases hk : tk c with
    | false => rfl
    | true =>
      obtain ⟨d, d1, d2, d3, d4⟩ := (R.2.2.2.2.1 c hc).mp hk
      exact absurd ⟨d2, d3, d4⟩ (inv d (by omega))
  | succ k ih =>
    intro i n hi hn inv
    obtain ⟨n, rfl⟩ : ∃ k, n = k + 1 := ⟨n - 1, by omega⟩
    have him : i < m := by omega
    have vi : vp_in (nI i) 48 := vp_in_nI (by omega) (by decide)
    have S : ¬ (ins i = false ∧ num i ≤ kn (org i) ∧ tg i = c + 1) → wY_gone_2 post (nI q) (nI c) ym ys yO yI yL yT yS yK yX n (nI (i + 1)) := by
      intro hno
      refine ih (i + 1) n (by omega) (by omega) (fun d hd => ?_)
      by_cases e : d = i
      · rw [e]; exact hno
      · exact inv d (by omega)
    have hti := (G.2.1 i him).2.2.2
    rw [wY_gone_2]
    dsimp only
    rw [rg_m48, nI_clamp (show 48 * q + i < 2 ^ 31 by omega), nI_clamp (show i < 2 ^ 31 by omega), (Y.2.1 i him).1, (Y.2.1 i him).2.2, YR i (by omega)]
    refine br_f (by rw [Y.1]; exact nI_ge him (by omega)) ⟨vp_in_nI (by omega) (by decide), ?_⟩
    by_cases hk : num i ≤ kn (org i)
    · rw [decide_eq_true ⟨him, hk⟩]
      refine br_f (by decide) ⟨vi, ?_⟩
      cases hi2 : ins i with
      | true => exact br_f (by decide) (nm_r (nI_1 i) (S (fun z => by rw [hi2] at z; cases z.1)))
      | false =>
        refine br_t rfl ⟨vi, ?_⟩
        by_cases e : tg i = c + 1
        · refine br_t ?_ (h1 ((R.2.2.2.2.1 c hc).mpr ⟨i, him, hi2, hk, e⟩))
          rw [e]
          rfl
        · exact br_f (fun z => e ((rg_t_eq (t := c + 1) (by omega) (by omega)).mp z)) (nm_r (nI_1 i) (S (fun z => e z.2.2)))
    · rw [decide_eq_false (fun z => hk z.2)]
      exact br_t rfl (nm_r (nI_1 i) (S (fun z => hk z.2.1)))
theorem yw_gone (G : rg_log m ins org num tg st mb P) (Y : rg_yl m ins org tg st ym yO yI yT yS) (R : rg_rep m ins org num tg st mb P kn L tk g) (hq : q < 3) (YR : rg_yr m org num q kn yK)
    {c : Nat} (hc : c ∈ L) {post : Int32 → Prop} (h1 : tk c = true → post 1) (h0 : tk c = false → post 0) : wpY_gone post (ym, ys, yO, yI, yL, yT, yS, yK, yX) (nI q) (nI c) :=
  ⟨m + 1, yw_gone_loop G Y R hq YR hc h1 h0 m 0 (m + 1) (by omega) (by omega) (fun d hd => absurd hd (by omega))⟩
theorem yw_climb (G : rg_log m ins org num tg st mb P) (Y : rg_yl m ins org tg st ym yO yI yT yS) (R : rg_rep m ins org num tg st mb P kn L tk g) (hq : q < 3) (YR : rg_yr m org num q kn yK)
    {x : Nat} {A B : List Nat} (e : L = A ++ x :: B) {post : Int32 → Prop} (h : post (rg_h B)) :
    ∀ (n a s : Nat), a ∈ L → (∃ w, P x = P a ++ w) → (∀ z, z ∈ B → ∀ w, P z ≠ P a ++ w) → s + a ≤ 47 → a + 2 ≤ n → wY_next_20 post (nI q) ym ys yO yI yL yT yS yK yX n (nI a) (nI s) := by
  have hm := G.1
  have W := rg_rowOf G R
  intro n
  induction n with
  | zero => intro a s _ _ _ _ hn; omega
  | succ n ih =>
    intro a s ha hw hz hs hn
    have ham := ((R.2.2.2.1 a).mp ha).1
    have va : vp_in (nI a) 48 := vp_in_nI (by omega) (by decide)
    have hta := (G.2.1 a ham).2.2.2
    obtain ⟨w, hw⟩ := hw
    rw [wY_next_20]
    dsimp only
    rw [nI_clamp (show a < 2 ^ 31 by omega), (Y.2.1 a ham).2.2]
    refine br_f (nI_ge (a := s) (b := 48) (by omega) (by decide)) (br_f (nI_pos (by omega)) ⟨va, yw_fol G Y R hq YR (tg a) (a + 1) (by omega) (rg_sj (p := fun b => b ∈ L) ha) (fun hno => ?_) (fun d hd hmax => ?_)⟩)
    · refine br_t (by decide) ⟨va, nm_e (nm_r (nI_1 s) ?_)⟩
      have ⟨u1, u2⟩ := rg_up W e ha hw hz (fun c hc htc hlt => hno c ⟨hc, htc, rg_sj (p := fun b => rg_ky st org c < rg_ky st org b) hlt⟩)
      cases ht : tg a with
      | zero =>
        rw [ht] at u2
        have hB : B = [] := by
          cases B with
          | nil => rfl
          | cons z B => exact absurd rfl (u2 z (by simp) (P z))
        rw [hB] at h
        obtain ⟨n, rfl⟩ : ∃ k, n = k + 1 := ⟨n - 1, by omega⟩
        rw [wY_next_20]
        exact br_c (fun _ => h) (fun _ => br_t (by decide) h)
      | succ j =>
        rw [ht] at u1 u2
        have hj := (W.2.1 a ha j ht).1
        exact ih j (s + 1) hj u1 u2 (by omega) (by omega)
    · have hdm := ((R.2.2.2.1 d).mp hd.1).1
      obtain ⟨B', eB⟩ := rg_bro W e ha hw hz hd.1 hd.2.1 (hd.2.2 a rfl) (fun c hc htc hlt => hmax c ⟨hc, htc, rg_sj (p := fun b => rg_ky st org c < rg_ky st org b) hlt⟩)
      rw [eB] at h
      exact br_f (nI_pos (by omega)) h
theorem yw_next (G : rg_log m ins org num tg st mb P) (Y : rg_yl m ins org tg st ym yO yI yT yS) (R : rg_rep m ins org num tg st mb P kn L tk g) (hq : q < 3) (YR : rg_yr m org num q kn yK)
    {x : Nat} {A B : List Nat} (e : L = A ++ x :: B) {post : Int32 → Prop} (h : post (rg_h B)) : wpY_next post (ym, ys, yO, yI, yL, yT, yS, yK, yX) (nI q) (nI x) := by
  have hm := G.1
  have W := rg_rowOf G R
  have hx : x ∈ L := by rw [e]; simp
  have hxm := ((R.2.2.2.1 x).mp hx).1
  have hp := W.2.2.2
  rw [e, List.pairwise_append, List.pairwise_cons] at hp
  have ht : ∀ j, x + 1 = j + 1 → j ∈ L := fun j ej => by
    have : j = x := by omega
    rw [this]; exact hx
  unfold wpY_next
  dsimp only
  refine yw_fol G Y R hq YR (x + 1) 0 (by omega) (fun b hb => absurd hb (by omega)) (fun hno => ?_) (fun d hd hmax => ?_)
  · refine br_t (by decide) ⟨x + 2, yw_climb G Y R hq YR e h (x + 2) x 0 hx ⟨[], by simp⟩ ?_ (by omega) (by omega)⟩
    intro z hz w ez
    have hzL : z ∈ L := by rw [e]; simp [hz]
    have hw : w = [] := rg_nochild W (t := x + 1) ht (fun c hc htc => hno c ⟨hc, htc, fun b hb => absurd hb (by omega)⟩) hzL ez
    rw [hw, List.append_nil] at ez
    have := hp.2.1.1 z hz
    rw [ez] at this
    exact rg_irr _ this
  · have hdm := ((R.2.2.2.1 d).mp hd.1).1
    have hA : ∀ y, y ∈ A ++ [x] → ¬ rg_lt (rg_pa P (x + 1)) (P y) := by
      intro y hy hlt
      have hlt : rg_lt (P x) (P y) := hlt
      rcases List.mem_append.mp hy with hy | hy
      · exact rg_asym hlt (hp.2.2 y hy x (by simp))
      · have : y = x := by simpa using hy
        rw [this] at hlt
        exact rg_irr _ hlt
    obtain ⟨B', eB⟩ := rg_child W (t := x + 1) (A := A ++ [x]) (B := B) (by rw [e]; simp) ht hA (fun y hy => hp.2.1.1 y hy) hd.1 hd.2.1 (fun c hc htc => hmax c ⟨hc, htc, fun b hb => absurd hb (by omega)⟩)
    rw [eB] at h
    exact br_f (nI_pos (by omega)) h
theorem yw_lay_loop (G : rg_log m ins org num tg st mb P) (Y : rg_yl m ins org tg st ym yO yI yT yS) (R : rg_rep m ins org num tg st mb P kn L tk g) (hq : q < 3) (YR : rg_yr m org num q kn yK)
    {post : SY → Prop} (h : ∀ yX' : Nat → Int32, (∀ i a, (L.filter (fun c => !tk c))[i]? = some a → yX' i = nI a) → post (ym, nI (L.filter (fun c => !tk c)).length, yO, yI, yL, yT, yS, yK, yX')) :
    ∀ (B A : List Nat) (n : Nat) (yX : Nat → Int32), L = A ++ B → B.length < n → (∀ i a, (A.filter (fun c => !tk c))[i]? = some a → yX i = nI a) →
      wY_lay_15 post (nI q) ym n (rg_h B) (nI A.length) (nI (A.filter (fun c => !tk c)).length) yO yI yL yT yS yK yX := by
  have hm := G.1
  have hlen := rg_lenL G R
  intro B
  induction B with
  | nil =>
    intro A n yX e hn hX
    obtain ⟨n, rfl⟩ : ∃ k, n = k + 1 := ⟨n - 1, by omega⟩
    rw [List.append_nil] at e
    rw [← e] at hX ⊢
    have hp := h yX hX
    rw [wY_lay_15]
    exact br_c (fun _ => hp) (fun _ => br_t (by decide) hp)
  | cons x B ih =>
    intro A n yX e hn hX
    rw [List.length_cons] at hn
    obtain ⟨n, rfl⟩ : ∃ k, n = k + 1 := ⟨n - 1, by omega⟩
    have hx : x ∈ L := by rw [e]; simp
    have hxm := ((R.2.2.2.1 x).mp hx).1
    have hAl : A.length < 48 := by
      have : A.length + (B.length + 1) ≤ m := by
        rw [e] at hlen
        simpa using hlen
      omega
    have hfl : (A.filter (fun c => !tk c)).length ≤ A.length := List.length_filter_le _ _
    have eL : L = (A ++ [x]) ++ B := by rw [e]; simp
    have eN : nI A.length + 1 = nI (A ++ [x]).length := by
      rw [nI_1]
      congr 1
      simp
    rw [wY_lay_15]
    dsimp only
    refine br_f (nI_ge (a := A.length) (b := 48) (by omega) (by decide)) (br_f (nI_pos (by omega)) (yw_gone G Y R hq YR hx (fun hk => br_f (by decide) ?_) (fun hk => br_t rfl ⟨vp_in_nI (by omega) (by decide), nm_e (nm_r (nI_1 _) ?_)⟩)))
    · unfold wY_lay_54
      refine yw_next G Y R hq YR e (nm_r eN ?_)
      have ef : (A ++ [x]).filter (fun c => !tk c) = A.filter (fun c => !tk c) := by
        rw [List.filter_append, List.filter_cons_of_neg (by rw [hk]; simp)]
        simp
      have := ih (A ++ [x]) n yX eL (by omega) (by rw [ef]; exact hX)
      rwa [ef] at this
    · rw [nI_clamp (show (A.filter (fun c => !tk c)).length < 2 ^ 31 by omega)]
      unfold wY_lay_54
      refine yw_next G Y R hq YR e (nm_r eN ?_)
      have ef : (A ++ [x]).filter (fun c => !tk c) = A.filter (fun c => !tk c) ++ [x] := by
        rw [List.filter_append, List.filter_cons_of_pos (by rw [hk]; rfl)]
        simp
      have := ih (A ++ [x]) n (upd yX (A.filter (fun c => !tk c)).length (nI x)) eL (by omega) (by
        rw [ef]
        intro i a hia
        by_cases hi : i = (A.filter (fun c => !tk c)).length
        · rw [hi] at hia ⊢
          rw [pk_us]
          have : x = a := by simpa using hia
          rw [this]
        · rw [pk_un hi]
          refine hX i a ?_
          have hlt : i < (A.filter (fun c => !tk c) ++ [x]).length := (List.getElem?_eq_some_iff.mp hia).1
          simp only [List.length_append, List.length_cons, List.length_nil] at hlt
          rw [List.getElem?_append_left (by omega)] at hia
          exact hia)
      have e5 : (A.filter (fun c => !tk c) ++ [x]).length = (A.filter (fun c => !tk c)).length + 1 := by simp
      rw [ef, e5] at this
      exact this
theorem yw_lay (G : rg_log m ins org num tg st mb P) (Y : rg_yl m ins org tg st ym yO yI yT yS) (R : rg_rep m ins org num tg st mb P kn L tk g) (hq : q < 3) (YR : rg_yr m org num q kn yK)
    {post : SY → Prop} (h : ∀ yX' : Nat → Int32, (∀ i a, (L.filter (fun c => !tk c))[i]? = some a → yX' i = nI a) → post (ym, nI (L.filter (fun c => !tk c)).length, yO, yI, yL, yT, yS, yK, yX')) : wpY_lay post (ym, ys, yO, yI, yL, yT, yS, yK, yX) (nI q) := by
  have W := rg_rowOf G R
  unfold wpY_lay
  dsimp only
  have hl := yw_lay_loop G Y R hq YR h L [] (L.length + 1) yX rfl (by omega) (fun i a hia => by simp at hia)
  refine yw_fol G Y R hq YR 0 0 (by omega) (fun b hb => absurd hb (by omega)) (fun hno => ⟨L.length + 1, ?_⟩) (fun d hd hmax => ⟨L.length + 1, ?_⟩)
  · cases hL : L with
    | nil => rw [hL] at hl; exact hl
    | cons z B =>
      have hz : z ∈ L := by rw [hL]; simp
      exact absurd (rg_nochild W (t := 0) (fun j ej => absurd ej (by omega)) (fun c hc htc => hno c ⟨hc, htc, fun b hb => absurd hb (by omega)⟩) hz (w := P z) rfl) (rg_ne W hz)
  · obtain ⟨B', eB⟩ := rg_child W (t := 0) (A := []) (B := L) rfl (fun j ej => absurd ej (by omega)) (fun y hy => by simp at hy) (fun y hy => rg_nin W hy) hd.1 hd.2.1 (fun c hc htc => hmax c ⟨hc, htc, fun b hb => absurd hb (by omega)⟩)
    have e2 : rg_h L = nI d := by rw [eB]; rfl
    rw [e2] at hl
    exact hl
end
end
section
/-! walks of Y: greatest stamp, length, letter, counts, deliver's search -/
section
variable {m : Nat} {ins : Nat → Bool} {org num tg st mb : Nat → Nat} {P : Nat → List Nat} {kn : Nat → Nat} {L : List Nat} {tk : Nat → Bool} {g : Nat} {ym ys : Int32} {yO yI yL yT yS yK yX : Nat → Int32} {q : Nat}
theorem yw_greatest_loop (G : rg_log m ins org num tg st mb P) (Y : rg_yl m ins org tg st ym yO yI yT yS) (R : rg_rep m ins org num tg st mb P kn L tk g) (hq : q < 3) (YR : rg_yr m org num q kn yK)
    {post : Int32 → Prop} (h : post (nI g)) : ∀ (k i z n : Nat), i + k = m → k < n → (∀ c, c < i → c ∈ L → st c ≤ z) → (z = 0 ∨ ∃ c, c ∈ L ∧ st c = z) → wY_greatest_4 post (nI q) ym ys yO yI yL yT yS yK yX n (nI z) (nI i) := by
  have hm := G.1
  obtain ⟨r1, r2, r3, r4, r5, r6, r7⟩ := id R
  have hst : ∀ c, c ∈ L → st c ≤ 48 := fun c hc => by
    have := (r4 c).mp hc
    have := (G.2.2.2.2.2.2.2.1 c this.1 this.2.1).1
    omega
  have hz48 : ∀ z, (z = 0 ∨ ∃ c, c ∈ L ∧ st c = z) → z ≤ 48 := by
    rintro z (h | ⟨c, hc, e⟩)
    · omega
    · have := hst c hc; omega
  intro k
  induction k with
  | zero =>
    intro i z n hi hn h1 h2
    obtain ⟨n, rfl⟩ : ∃ k, n = k + 1 := ⟨n - 1, by omega⟩
    rw [wY_greatest_4]
    dsimp only
    rw [Y.1]
    refine br_t (nI_le (by omega) (by omega)) ?_
    have e : z = g := by
      have a : z ≤ g := by
        rcases h2 with h2 | ⟨c, hc, e⟩
        · omega
        · have := r6 c hc; omega
      have b : g ≤ z := by
        rcases r7 with h2 | ⟨c, hc, e⟩
        · omega
        · have := h1 c (by have := ((r4 c).mp hc).1; omega) hc; omega
      omega
    rw [e]
    exact h
  | succ k ih =>
    intro i z n hi hn h1 h2
    obtain ⟨n, rfl⟩ : ∃ k, n = k + 1 := ⟨n - 1, by omega⟩
    have him : i < m := by omega
    have vi : vp_in (nI i) 48 := vp_in_nI (by omega) (by decide)
    have hz := hz48 z h2
    rw [wY_greatest_4]
    dsimp only
    rw [nI_clamp (show i < 2 ^ 31 by omega)]
    refine br_f (by rw [Y.1]; exact nI_ge him (by omega)) (yw_in G Y R hq YR him (fun hin => br_f (by decide) ⟨vi, ?_⟩) (fun hno => br_t rfl (nm_r (nI_1 i) ?_)))
    · have hs := hst i hin
      rw [Y.2.2 i him ((r4 i).mp hin).2.1]
      refine pk_le (st i) z (fun l => nm_r (nI_1 i) (ih (i + 1) z n (by omega) (by omega) ?_ h2)) (fun l => ⟨vi, nm_e (nm_r (nI_1 i) (ih (i + 1) (st i) n (by omega) (by omega) ?_ (Or.inr ⟨i, hin, rfl⟩)))⟩)
      · intro c hc hcL
        by_cases e : c = i
        · rw [e]; exact l
        · exact h1 c (by omega) hcL
      · intro c hc hcL
        by_cases e : c = i
        · rw [e]; exact Nat.le_refl _
        · have := h1 c (by omega) hcL
          omega
    · refine ih (i + 1) z n (by omega) (by omega) ?_ h2
      intro c hc hcL
      by_cases e : c = i
      · rw [e] at hcL; exact absurd hcL hno
      · exact h1 c (by omega) hcL
theorem yw_greatest (G : rg_log m ins org num tg st mb P) (Y : rg_yl m ins org tg st ym yO yI yT yS) (R : rg_rep m ins org num tg st mb P kn L tk g) (hq : q < 3) (YR : rg_yr m org num q kn yK)
    {post : Int32 → Prop} (h : post (nI g)) : wpY_greatest post (ym, ys, yO, yI, yL, yT, yS, yK, yX) (nI q) :=
  ⟨m + 1, yw_greatest_loop G Y R hq YR h m 0 0 (m + 1) (by omega) (by omega) (fun c hc => absurd hc (by omega)) (Or.inl rfl)⟩
theorem yw_length (G : rg_log m ins org num tg st mb P) (Y : rg_yl m ins org tg st ym yO yI yT yS) (R : rg_rep m ins org num tg st mb P kn L tk g) (hq : q < 3) (YR : rg_yr m org num q kn yK)
    {post : Int32 → SY → Prop} (h : ∀ ys' yX', post (nI (L.filter (fun c => !tk c)).length) (ym, ys', yO, yI, yL, yT, yS, yK, yX')) : wpY_length post (ym, ys, yO, yI, yL, yT, yS, yK, yX) (nI q) := by
  unfold wpY_length
  dsimp only
  exact yw_ok hq (br_t rfl (yw_lay G Y R hq YR (fun yX' _ => h _ yX')))
theorem yw_letter (G : rg_log m ins org num tg st mb P) (Y : rg_yl m ins org tg st ym yO yI yT yS) (R : rg_rep m ins org num tg st mb P kn L tk g) (hq : q < 3) (YR : rg_yr m org num q kn yK)
    {j a : Nat} (hj : (L.filter (fun c => !tk c))[j]? = some a) {post : Int32 → SY → Prop} (h : ∀ ys' yX', post (yL a) (ym, ys', yO, yI, yL, yT, yS, yK, yX')) : wpY_letter post (ym, ys, yO, yI, yL, yT, yS, yK, yX) (nI q) (nI j) := by
  have hm := G.1
  have hlen := rg_lenL G R
  have hfl : (L.filter (fun c => !tk c)).length ≤ L.length := List.length_filter_le _ _
  have hjl : j < (L.filter (fun c => !tk c)).length := (List.getElem?_eq_some_iff.mp hj).1
  have haL : a ∈ L := (List.mem_filter.mp (List.mem_of_getElem? hj)).1
  have ham := ((R.2.2.2.1 a).mp haL).1
  unfold wpY_letter
  dsimp only
  refine yw_ok hq (br_t rfl (yw_lay G Y R hq YR (fun yX' hX => br_f (nI_pos (by omega)) (br_t (nI_lt hjl (by omega)) ⟨vp_in_nI (by omega) (by decide), ?_⟩))))
  dsimp only
  rw [nI_clamp (show j < 2 ^ 31 by omega), hX j a hj, nI_clamp (show a < 2 ^ 31 by omega)]
  exact ⟨vp_in_nI (by omega) (by decide), h _ yX'⟩
theorem yw_row_loop (G : rg_log m ins org num tg st mb P) (Y : rg_yl m ins org tg st ym yO yI yT yS) (R : rg_rep m ins org num tg st mb P kn L tk g) (hq : q < 3) (YR : rg_yr m org num q kn yK)
    {post : Int32 → Prop} (h : post (nI L.length)) : ∀ (k i n : Nat), i + k = m → k < n → wY_row_13 post (nI q) ym ys yO yI yL yT yS yK yX n (nI (L.filter (fun x => decide (x < i))).length) (nI i) := by
  have hm := G.1
  have ND := rg_nodup R
  intro k
  induction k with
  | zero =>
    intro i n hi hn
    obtain ⟨n, rfl⟩ : ∃ k, n = k + 1 := ⟨n - 1, by omega⟩
    rw [wY_row_13]
    dsimp only
    rw [Y.1, rg_cntAll L (n := i) (fun x hx => by have := ((R.2.2.2.1 x).mp hx).1; omega)]
    exact br_t (nI_le (by omega) (by omega)) h
  | succ k ih =>
    intro i n hi hn
    obtain ⟨n, rfl⟩ : ∃ k, n = k + 1 := ⟨n - 1, by omega⟩
    have him : i < m := by omega
    have e := rg_cnt L ND i
    have ih := ih (i + 1) n (by omega) (by omega)
    rw [wY_row_13]
    dsimp only
    refine br_f (by rw [Y.1]; exact nI_ge him (by omega)) (yw_in G Y R hq YR him (fun hin => br_f (by decide) (nm_r (nI_1 _) (nm_r (nI_1 i) ?_))) (fun hno => br_t rfl (nm_r (nI_1 i) ?_)))
    · rw [e, if_pos hin] at ih
      exact ih
    · rw [e, if_neg hno] at ih
      exact ih
theorem yw_row (G : rg_log m ins org num tg st mb P) (Y : rg_yl m ins org tg st ym yO yI yT yS) (R : rg_rep m ins org num tg st mb P kn L tk g) (hq : q < 3) (YR : rg_yr m org num q kn yK)
    {post : Int32 → Prop} (h : post (nI L.length)) : wpY_row post (ym, ys, yO, yI, yL, yT, yS, yK, yX) (nI q) := by
  have hl := yw_row_loop (ys := ys) (yL := yL) (yX := yX) G Y R hq YR h m 0 (m + 1) (by omega) (by omega)
  rw [rg_cnt0] at hl
  unfold wpY_row
  dsimp only
  exact yw_ok hq (br_t rfl ⟨m + 1, hl⟩)
theorem yw_known_loop (G : rg_log m ins org num tg st mb P) (Y : rg_yl m ins org tg st ym yO yI yT yS) (R : rg_rep m ins org num tg st mb P kn L tk g) (hq : q < 3) (YR : rg_yr m org num q kn yK)
    {o : Nat} (ho : o < 3) {post : Int32 → Prop} (h : post (nI (kn o))) : ∀ (k i z n : Nat), i + k = m → k < n → (∀ c, c < i → org c = o → num c ≤ kn o → num c ≤ z) → z ≤ kn o → (z = 0 ∨ ∃ c, c < i ∧ org c = o ∧ num c = z) →
      wY_known_21 post (nI q) (nI o) ym ys yO yI yL yT yS yK yX n (nI z) (nI i) := by
  obtain ⟨g1, g2, g3, g4, g5, g6, g7, g8, g9⟩ := id G
  have hko := R.1 o ho
  intro k
  induction k with
  | zero =>
    intro i z n hi hn h1 h2 h3
    obtain ⟨n, rfl⟩ : ∃ k, n = k + 1 := ⟨n - 1, by omega⟩
    rw [wY_known_21]
    dsimp only
    rw [Y.1]
    refine br_t (nI_le (by omega) (by omega)) ?_
    have e : z = kn o := by
      by_cases hz : kn o = 0
      · omega
      · obtain ⟨c, c1, c2, c3⟩ := g4 o (kn o) ho (by omega) hko
        have := h1 c (by omega) c2 (by omega)
        omega
    rw [e]
    exact h
  | succ k ih =>
    intro i z n hi hn h1 h2 h3
    obtain ⟨n, rfl⟩ : ∃ k, n = k + 1 := ⟨n - 1, by omega⟩
    have him : i < m := by omega
    have vi : vp_in (nI i) 48 := vp_in_nI (by omega) (by decide)
    have oi := g2 i him
    rw [wY_known_21]
    dsimp only
    rw [rg_m48, nI_clamp (show 48 * q + i < 2 ^ 31 by omega), nI_clamp (show i < 2 ^ 31 by omega), (Y.2.1 i him).2.1, YR i (by omega)]
    refine br_f (by rw [Y.1]; exact nI_ge him (by omega)) ⟨vp_in_nI (by omega) (by decide), ?_⟩
    have skip : ¬ (org i = o ∧ num i ≤ kn o) → wY_known_21 post (nI q) (nI o) ym ys yO yI yL yT yS yK yX n (nI z) (nI (i + 1)) := by
      intro hno
      refine ih (i + 1) z n (by omega) (by omega) ?_ h2 ?_
      · intro c hc e1 e2
        by_cases e : c = i
        · rw [e] at e1 e2; exact absurd ⟨e1, e2⟩ hno
        · exact h1 c (by omega) e1 e2
      · rcases h3 with h3 | ⟨c, c1, c2⟩
        · exact Or.inl h3
        · exact Or.inr ⟨c, by omega, c2⟩
    by_cases hk : num i ≤ kn (org i)
    · rw [decide_eq_true ⟨him, hk⟩]
      refine br_f (by decide) ⟨vi, pk_eq (org i) o (fun e => nm_r (nI_1 z) (nm_r (nI_1 i) ?_)) (fun e => nm_r (nI_1 i) (skip (fun y => e y.1)))⟩
      rw [e] at hk
      have hz : num i = z + 1 := by
        have a : z < num i := by
          rcases h3 with h3 | ⟨c, c1, c2, c3⟩
          · omega
          · have := g3 c i c1 him (by omega)
            omega
        by_cases hb : num i = z + 1
        · exact hb
        · obtain ⟨d, d1, d2, d3⟩ := g4 o (z + 1) ho (by omega) (by omega)
          rcases Nat.lt_trichotomy d i with y | y | y
          · have := h1 d y d2 (by omega)
            omega
          · rw [y] at d3; exact absurd d3 hb
          · have := g3 i d y d1 (by omega)
            omega
      refine ih (i + 1) (z + 1) n (by omega) (by omega) ?_ (by omega) (Or.inr ⟨i, by omega, e, hz⟩)
      intro c hc e1 e2
      by_cases ec : c = i
      · rw [ec]; omega
      · have := h1 c (by omega) e1 e2
        omega
    · rw [decide_eq_false (fun z => hk z.2)]
      refine br_t rfl (nm_r (nI_1 i) (skip ?_))
      rintro ⟨y1, y2⟩
      rw [y1] at hk
      exact hk y2
theorem yw_known (G : rg_log m ins org num tg st mb P) (Y : rg_yl m ins org tg st ym yO yI yT yS) (R : rg_rep m ins org num tg st mb P kn L tk g) (hq : q < 3) (YR : rg_yr m org num q kn yK)
    {o : Nat} (ho : o < 3) {post : Int32 → Prop} (h : post (nI (kn o))) : wpY_known post (ym, ys, yO, yI, yL, yT, yS, yK, yX) (nI q) (nI o) := by
  unfold wpY_known
  dsimp only
  exact yw_ok hq (br_t rfl (yw_ok ho (br_t rfl ⟨m + 1, yw_known_loop G Y R hq YR ho h m 0 0 (m + 1) (by omega) (by omega) (fun c hc => absurd hc (by omega)) (by omega) (Or.inl rfl)⟩)))
theorem yw_deliver_skip (G : rg_log m ins org num tg st mb P) (Y : rg_yl m ins org tg st ym yO yI yT yS) (R : rg_rep m ins org num tg st mb P kn L tk g) (hq : q < 3) (YR : rg_yr m org num q kn yK)
    {p e : Nat} (hp : p < 3) (he : e ≤ m) (hs : ∀ d, d < e → org d = p → num d ≤ kn p) {post : Int32 → SY → Prop} {n : Nat} (h : wY_deliver_18 post (nI p) (nI q) ym ys yO yI yL yT yS yK yX n (nI e)) :
    ∀ (k i : Nat), i + k = e → wY_deliver_18 post (nI p) (nI q) ym ys yO yI yL yT yS yK yX (n + k) (nI i) := by
  have hm := G.1
  intro k
  induction k with
  | zero =>
    intro i hi
    have : i = e := by omega
    rw [this]
    exact h
  | succ k ih =>
    intro i hi
    have him : i < m := by omega
    have ih := ih (i + 1) (by omega)
    have oi := (G.2.1 i him).1
    show wY_deliver_18 post (nI p) (nI q) ym ys yO yI yL yT yS yK yX ((n + k) + 1) (nI i)
    rw [wY_deliver_18]
    dsimp only
    rw [rg_m48, nI_clamp (show i < 2 ^ 31 by omega), nI_clamp (show 48 * q + i < 2 ^ 31 by omega), (Y.2.1 i him).2.1, YR i (by omega)]
    refine br_f (by rw [Y.1]; exact nI_ge him (by omega)) ⟨vp_in_nI (by omega) (by decide), pk_eq (org i) p (fun e => ⟨vp_in_nI (by omega) (by decide), ?_⟩) (fun e => nm_r (nI_1 i) ih)⟩
    rw [decide_eq_true ⟨him, by rw [e]; exact hs i (by omega) e⟩]
    exact br_f (by decide) (nm_r (nI_1 i) ih)
end
end
section
/-! alike: X goes along both rows, Y compares letter by letter -/
theorem rg_dw {f : Nat → Int32} {b : Nat} (tk : Nat → Bool) : ∀ (R : List Nat) (i : Nat), rg_lk f b i R → (R.dropWhile tk = [] ∧ R.filter (fun c => !tk c) = []) ∨
    (∃ c R', R.dropWhile tk = c :: R' ∧ R.filter (fun c => !tk c) = c :: R'.filter (fun c => !tk c) ∧ rg_lk f b (c + 1) R' ∧ c ∈ R ∧ (∀ x, x ∈ R' → x ∈ R) ∧ R'.length < R.length) := by
  intro R
  induction R with
  | nil => intro i _; exact Or.inl ⟨rfl, rfl⟩
  | cons a R ih =>
    intro i h
    cases hk : tk a with
    | true =>
      rw [List.dropWhile_cons_of_pos hk, List.filter_cons_of_neg (by rw [hk]; simp)]
      rcases ih (a + 1) h.2 with z | ⟨c, R', z1, z2, z3, z4, z5, z6⟩
      · exact Or.inl z
      · exact Or.inr ⟨c, R', z1, z2, z3, List.mem_cons_of_mem _ z4, fun x hx => List.mem_cons_of_mem _ (z5 x hx), by rw [List.length_cons]; omega⟩
    | false =>
      rw [List.dropWhile_cons_of_neg (by rw [hk]; simp), List.filter_cons_of_pos (by rw [hk]; rfl)]
      exact Or.inr ⟨a, R, rfl, rfl, h.2, by simp, fun x hx => List.mem_cons_of_mem _ hx, by rw [List.length_cons]; omega⟩
section
variable {m : Nat} {ins : Nat → Bool} {org num tg st mb : Nat → Nat} {P : Nat → List Nat} {kn kn2 : Nat → Nat} {L L2 : List Nat} {tk tk2 : Nat → Bool} {g g2 : Nat} {xm : Int32} {xI xO xN xL xA xS xT xB xC xK xG xF xD xR xW : Nat → Int32}
theorem xw_shown_loop {q : Nat} (hq : q < 3) {post : Int32 → Prop} : ∀ (R : List Nat) (i s n : Nat), rg_lk xF (49 * q) i R → (∀ c, c ∈ R → c < 48 ∧ xD (49 * q + (c + 1)) = rg_b (tk c)) → s + R.length ≤ 48 → R.length < n →
    post (rg_h (R.dropWhile tk)) → wX_shown_5 post (nI q) xm xI xO xN xL xA xS xT xB xC xK xG xF xD xR xW n (xF (49 * q + i)) (nI s) := by
  intro R
  induction R with
  | nil =>
    intro i s n hl _ _ hn h
    obtain ⟨n, rfl⟩ : ∃ k, n = k + 1 := ⟨n - 1, by omega⟩
    have e : xF (49 * q + i) = -1 := hl
    rw [e, wX_shown_5]
    exact br_c (fun _ => h) (fun _ => br_t (by decide) h)
  | cons c R ih =>
    intro i s n hl hR hs hn h
    rw [List.length_cons] at hs hn
    obtain ⟨n, rfl⟩ : ∃ k, n = k + 1 := ⟨n - 1, by omega⟩
    have ⟨hc, hD⟩ := hR c (by simp)
    have vc : vp_in (nI (49 * q + (c + 1))) 147 := vp_in_nI (by omega) (by decide)
    rw [hl.1, wX_shown_5]
    dsimp only
    rw [rg_m49, rg_ix, nI_clamp (show 49 * q + (c + 1) < 2 ^ 31 by omega), hD]
    refine br_f (nI_ge (a := s) (b := 48) (by omega) (by decide)) (br_f (nI_pos (by omega)) ⟨vc, ?_⟩)
    cases hk : tk c with
    | true =>
      rw [List.dropWhile_cons_of_pos hk] at h
      exact br_f (by decide) ⟨vc, nm_e (nm_r (nI_1 s) (ih (c + 1) (s + 1) n hl.2 (fun x hx => hR x (List.mem_cons_of_mem _ hx)) (by omega) (by omega) h))⟩
    | false =>
      rw [List.dropWhile_cons_of_neg (by rw [hk]; simp)] at h
      exact br_t rfl h
theorem xw_shown {q : Nat} (hq : q < 3) {post : Int32 → Prop} {R : List Nat} {i : Nat} (hl : rg_lk xF (49 * q) i R) (hR : ∀ c, c ∈ R → c < 48 ∧ xD (49 * q + (c + 1)) = rg_b (tk c)) (hn : R.length ≤ 48)
    (h : post (rg_h (R.dropWhile tk))) : wpX_shown post (xm, xI, xO, xN, xL, xA, xS, xT, xB, xC, xK, xG, xF, xD, xR, xW) (nI q) (xF (49 * q + i)) :=
  ⟨R.length + 1, xw_shown_loop hq R i 0 (R.length + 1) hl hR (by omega) (by omega) h⟩
theorem xw_alike_loop {a b : Nat} (ha : a < 3) (hb : b < 3) {post : Int32 → Prop} : ∀ (n : Nat) (Ra Rb : List Nat) (ia ib s : Nat), rg_lk xF (49 * a) ia Ra → rg_lk xF (49 * b) ib Rb →
    (∀ c, c ∈ Ra → c < 48 ∧ xD (49 * a + (c + 1)) = rg_b (tk c)) → (∀ c, c ∈ Rb → c < 48 ∧ xD (49 * b + (c + 1)) = rg_b (tk2 c)) → Ra.length ≤ 48 → Rb.length ≤ 48 →
    (Ra.filter (fun c => !tk c)).length = (Rb.filter (fun c => !tk2 c)).length → s + (Ra.filter (fun c => !tk c)).length ≤ 48 → (Ra.filter (fun c => !tk c)).length < n →
    ((Ra.filter (fun c => !tk c)).map xL = (Rb.filter (fun c => !tk2 c)).map xL → post 1) → (¬ (Ra.filter (fun c => !tk c)).map xL = (Rb.filter (fun c => !tk2 c)).map xL → post 0) →
    wX_alike_67 post (nI a) (nI b) xm xI xO xN xL xA xS xT xB xC xK xG xF xD xR xW n (rg_h (Ra.dropWhile tk)) (rg_h (Rb.dropWhile tk2)) (nI s) := by
  intro n
  induction n with
  | zero => intro Ra Rb ia ib s _ _ _ _ _ _ _ _ h; omega
  | succ n ih =>
    intro Ra Rb ia ib s hla hlb hRa hRb na nb hlen hs hn h1 h0
    rcases rg_dw tk Ra ia hla with ⟨z1, z2⟩ | ⟨c, Ra', z1, z2, z3, z4, z5, z6⟩
    · rcases rg_dw tk2 Rb ib hlb with ⟨y1, y2⟩ | ⟨d, Rb', y1, y2, y3, y4, y5, y6⟩
      · rw [z1, y1, wX_alike_67]
        have hp : post 1 := h1 (by rw [z2, y2])
        exact br_c (fun _ => hp) (fun _ => br_t (by decide) hp)
      · rw [z2, y2] at hlen
        simp at hlen
    · rcases rg_dw tk2 Rb ib hlb with ⟨y1, y2⟩ | ⟨d, Rb', y1, y2, y3, y4, y5, y6⟩
      · rw [z2, y2] at hlen
        simp at hlen
      · have hc := (hRa c z4).1
        have hd := (hRb d y4).1
        rw [z2, y2, List.length_cons, List.length_cons] at hlen
        rw [z2, List.length_cons] at hs hn
        rw [z2, y2, List.map_cons, List.map_cons] at h1 h0
        rw [z1, y1, wX_alike_67]
        show _ ∧ _
        dsimp only [rg_h]
        rw [rg_m49, rg_ix, rg_m49, rg_ix, nI_clamp (show 49 * a + (c + 1) < 2 ^ 31 by omega), nI_clamp (show 49 * b + (d + 1) < 2 ^ 31 by omega), nI_clamp (show c < 2 ^ 31 by omega), nI_clamp (show d < 2 ^ 31 by omega)]
        refine br_f (nI_ge (a := s) (b := 48) (by omega) (by decide)) (br_f (nI_pos (by omega)) (br_f (nI_pos (by omega)) ⟨vp_in_nI (by omega) (by decide), vp_in_nI (by omega) (by decide), br_c (fun e => ?_) (fun e => ?_)⟩))
        · refine ⟨vp_in_nI (by omega) (by decide), xw_shown ha z3 (fun x hx => hRa x (z5 x hx)) (by omega) ⟨vp_in_nI (by omega) (by decide), xw_shown hb y3 (fun x hx => hRb x (y5 x hx)) (by omega) (nm_r (nI_1 s) ?_)⟩⟩
          refine ih Ra' Rb' (c + 1) (d + 1) (s + 1) z3 y3 (fun x hx => hRa x (z5 x hx)) (fun x hx => hRb x (y5 x hx)) (by omega) (by omega) (by omega) (by omega) (by omega) (fun z => h1 ?_) (fun z => h0 ?_)
          · rw [e, z]
          · intro y
            exact z (List.cons.inj y).2
        · exact h0 (fun y => e (List.cons.inj y).1)
end
section
variable {m : Nat} {ins : Nat → Bool} {org num tg st mb : Nat → Nat} {P : Nat → List Nat} {kn kn2 : Nat → Nat} {L L2 : List Nat} {tk tk2 : Nat → Bool} {g g2 : Nat} {ym ys : Int32} {yO yI yL yT yS yK yX : Nat → Int32}
theorem yw_alike_loop (G : rg_log m ins org num tg st mb P) (Y : rg_yl m ins org tg st ym yO yI yT yS) {a b : Nat} (R : rg_rep m ins org num tg st mb P kn L tk g) (ha : a < 3) (YR : rg_yr m org num a kn yK)
    (R2 : rg_rep m ins org num tg st mb P kn2 L2 tk2 g2) (hb : b < 3) (YR2 : rg_yr m org num b kn2 yK) (hlen : (L.filter (fun c => !tk c)).length = (L2.filter (fun c => !tk2 c)).length)
    {post : Int32 → SY → Prop} (h1 : (L.filter (fun c => !tk c)).map yL = (L2.filter (fun c => !tk2 c)).map yL → ∀ ys' yX', post 1 (ym, ys', yO, yI, yL, yT, yS, yK, yX')) (h0 : ¬ (L.filter (fun c => !tk c)).map yL = (L2.filter (fun c => !tk2 c)).map yL → ∀ ys' yX', post 0 (ym, ys', yO, yI, yL, yT, yS, yK, yX')) :
    ∀ (k i n : Nat) (ys : Int32) (yX : Nat → Int32), i + k = (L.filter (fun c => !tk c)).length → k < n → (∀ j, j < i → ((L.filter (fun c => !tk c)).map yL)[j]? = ((L2.filter (fun c => !tk2 c)).map yL)[j]?) →
      wY_alike_36 post (nI a) (nI b) (nI (L.filter (fun c => !tk c)).length) n (nI i) ym ys yO yI yL yT yS yK yX := by
  have hm := G.1
  have hl := rg_lenL G R
  have hfl : (L.filter (fun c => !tk c)).length ≤ L.length := List.length_filter_le _ _
  intro k
  induction k with
  | zero =>
    intro i n ys yX hi hn inv
    obtain ⟨n, rfl⟩ : ∃ k, n = k + 1 := ⟨n - 1, by omega⟩
    rw [wY_alike_36]
    refine br_t (nI_le (by omega) (by omega)) (h1 ?_ _ _)
    apply List.ext_getElem?
    intro j
    by_cases hj : j < i
    · exact inv j hj
    · rw [List.getElem?_eq_none (by rw [List.length_map]; omega), List.getElem?_eq_none (by rw [List.length_map]; omega)]
  | succ k ih =>
    intro i n ys yX hi hn inv
    obtain ⟨n, rfl⟩ : ∃ k, n = k + 1 := ⟨n - 1, by omega⟩
    have hx : (L.filter (fun c => !tk c))[i]? = some ((L.filter (fun c => !tk c))[i]'(by omega)) := List.getElem?_eq_getElem _
    have hy : (L2.filter (fun c => !tk2 c))[i]? = some ((L2.filter (fun c => !tk2 c))[i]'(by omega)) := List.getElem?_eq_getElem _
    have ex : ((L.filter (fun c => !tk c)).map yL)[i]? = some (yL ((L.filter (fun c => !tk c))[i]'(by omega))) := by rw [List.getElem?_map, hx]; rfl
    have ey : ((L2.filter (fun c => !tk2 c)).map yL)[i]? = some (yL ((L2.filter (fun c => !tk2 c))[i]'(by omega))) := by rw [List.getElem?_map, hy]; rfl
    rw [wY_alike_36]
    refine br_f (nI_ge (by omega) (by omega)) (yw_letter G Y R ha YR hx (fun ys1 yX1 => yw_letter G Y R2 hb YR2 hy (fun ys2 yX2 => br_c (fun e => nm_r (nI_1 i) ?_) (fun e => h0 ?_ _ _))))
    · refine ih (i + 1) n ys2 yX2 (by omega) (by omega) ?_
      intro j hj
      by_cases ej : j = i
      · rw [ej, ex, ey, e]
      · exact inv j (by omega)
    · intro z
      rw [z, ey] at ex
      exact e (Option.some.inj ex).symm
end
end
section
/-! the relation; making a change -/
def rg_Q (ow : Nat → Nat) (m : Nat) (ins : Nat → Bool) (org num tg st mb : Nat → Nat) (P : Nat → List Nat) (xK xG xF xD xR xW yK : Nat → Int32) : Prop :=
  ∀ q, q < 3 → ∃ (kn : Nat → Nat) (L : List Nat) (tk : Nat → Bool) (g : Nat), kn q = ow q ∧ rg_rep m ins org num tg st mb P kn L tk g ∧ rg_xr q kn L tk g xK xG xF xD xR xW ∧ rg_yr m org num q kn yK
def rg_S (xm : Int32) (xI xO xN xL xA xS xT xB xC xK xG xF xD xR xW : Nat → Int32) (ym : Int32) (yO yI yL yT yS yK : Nat → Int32) : Prop :=
  ∃ (m : Nat) (ins : Nat → Bool) (org num tg st mb : Nat → Nat) (P : Nat → List Nat), rg_log m ins org num tg st mb P ∧ rg_xl m ins org num tg st mb xm xI xO xN xA xS xT xB xC ∧
    rg_yl m ins org tg st ym yO yI yT yS ∧ (∀ c, c < m → ins c = true → xL c = yL c) ∧ rg_Q mb m ins org num tg st mb P xK xG xF xD xR xW yK
section
variable {m : Nat} {ins : Nat → Bool} {org num tg st mb : Nat → Nat} {P : Nat → List Nat} {kn ow ow' : Nat → Nat} {L : List Nat} {tk : Nat → Bool} {g : Nat} {xm : Int32} {xI xO xN xL xA xS xT xB xC xK xG xF xD xR xW : Nat → Int32} {ym ys : Int32} {yO yI yL yT yS yK yX : Nat → Int32}
theorem rg_learnQ (G : rg_log m ins org num tg st mb P) (X : rg_xl m ins org num tg st mb xm xI xO xN xA xS xT xB xC) (Q : rg_Q ow m ins org num tg st mb P xK xG xF xD xR xW yK) {q : Nat} (hq : q < 3)
    (ko : kn q = ow q) (R : rg_rep m ins org num tg st mb P kn L tk g) (XR : rg_xr q kn L tk g xK xG xF xD xR xW) (YR : rg_yr m org num q kn yK)
    {c : Nat} (hc : c < m) (hn : num c = kn (org c) + 1) (hcl : ∀ j, tg c = j + 1 → num j ≤ kn (org j)) (o1 : ∀ p, p < 3 → p ≠ q → ow' p = ow p) (o2 : org c = q → ow' q = num c) (o3 : org c ≠ q → ow' q = ow q) :
    ∃ xK' xG' xF' xD' xR' xW' : Nat → Int32, rg_Q ow' m ins org num tg st mb P xK' xG' xF' xD' xR' xW' (upd yK (48 * q + c) 1) ∧
      ∀ post : SX → Prop, post (xm, xI, xO, xN, xL, xA, xS, xT, xB, xC, xK', xG', xF', xD', xR', xW') → wpX_learn post (xm, xI, xO, xN, xL, xA, xS, xT, xB, xC, xK, xG, xF, xD, xR, xW) (nI q) (nI c) := by
  have hm := G.1
  have oc := G.2.1 c hc
  obtain ⟨L', tk', g', xG', xF', xD', xR', xW', R', XR', f1, f2, wk⟩ := xw_learn (xL := xL) G X R hq XR hc hn hcl
  refine ⟨upd xK (3 * q + org c) (nI (num c)), xG', xF', xD', xR', xW', ?_, wk⟩
  intro p hp
  by_cases e : p = q
  · subst e
    refine ⟨rg_u kn (org c) (num c), L', tk', g', ?_, R', XR', rg_learnY G hc hn rg_us (fun o ho => rg_un ho) YR⟩
    by_cases z : org c = p
    · rw [o2 z, ← z, rg_us]
    · rw [o3 z, rg_un (fun y => z y.symm)]
      exact ko
  · obtain ⟨kn1, L1, tk1, g1, k1, R1, XR1, YR1⟩ := Q p hp
    refine ⟨kn1, L1, tk1, g1, k1.trans (o1 p hp e).symm, R1, ?_, rg_learnYo (by omega) e 1 YR1⟩
    exact rg_xr_fr hp e (fun x hx => by have := ((R1.2.2.2.1 x).mp hx).1; omega) (fun o ho => pk_un (by omega)) f1 f2 XR1
theorem rg_make (G : rg_log m ins org num tg st mb P) (X : rg_xl m ins org num tg st mb xm xI xO xN xA xS xT xB xC) (Y : rg_yl m ins org tg st ym yO yI yT yS) (hl : ∀ c, c < m → ins c = true → xL c = yL c)
    (Q : rg_Q mb m ins org num tg st mb P xK xG xF xD xR xW yK) (hm : m < 48) {q : Nat} (hq : q < 3)
    (ko : kn q = mb q) (R : rg_rep m ins org num tg st mb P kn L tk g) (XR : rg_xr q kn L tk g xK xG xF xD xR xW) (YR : rg_yr m org num q kn yK)
    {b : Bool} {t : Nat} (ht : ∀ j, t = j + 1 → j ∈ L) (hb : b = false → 1 ≤ t) {xL' xA' xS' xT' yL' yS' : Nat → Int32}
    (hag : ∀ c, c < m → xL' c = xL c ∧ xA' c = xA c ∧ xS' c = xS c ∧ xT' c = xT c ∧ yL' c = yL c ∧ yS' c = yS c)
    (hI : b = true → xA' m = rg_t t ∧ xS' m = nI (g + 1) ∧ yS' m = nI (g + 1) ∧ xL' m = yL' m) (hD : b = false → xT' m = rg_t t) :
    ∃ xK' xG' xF' xD' xR' xW' : Nat → Int32, rg_S (nI (m + 1)) (upd xI m (rg_b b)) (upd xO m (nI q)) (upd xN m (nI (mb q + 1))) xL' xA' xS' xT' (upd xB q (nI (mb q + 1))) (upd xC (49 * q + (mb q + 1)) (nI m)) xK' xG' xF' xD' xR' xW'
        (nI (m + 1)) (upd yO m (nI q)) (upd yI m (rg_b b)) yL' (upd yT m (rg_t t)) yS' (upd yK (48 * q + m) 1) ∧
      ∀ post : SX → Prop, post (nI (m + 1), upd xI m (rg_b b), upd xO m (nI q), upd xN m (nI (mb q + 1)), xL', xA', xS', xT', upd xB q (nI (mb q + 1)), upd xC (49 * q + (mb q + 1)) (nI m), xK', xG', xF', xD', xR', xW') →
        wpX_learn post (nI (m + 1), upd xI m (rg_b b), upd xO m (nI q), upd xN m (nI (mb q + 1)), xL', xA', xS', xT', upd xB q (nI (mb q + 1)), upd xC (49 * q + (mb q + 1)) (nI m), xK, xG, xF, xD, xR, xW) (nI q) (nI m) := by
  obtain ⟨g1, g2, g3, g4, g5, g6, g7, g8, g9⟩ := id G
  obtain ⟨r1, r2, r3, r4, r5, r6, r7⟩ := id R
  obtain ⟨x1, x2, x3, x4, x5⟩ := X
  obtain ⟨y1, y2, y3⟩ := Y
  have hgm := rg_g_le G R
  have hmq := g5 q hq
  have htL : ∀ j, t = j + 1 → j < m ∧ ins j = true ∧ num j ≤ kn (org j) := fun j ej => (r4 j).mp (ht j ej)
  have htm : t ≤ m := by
    by_cases z : t = 0
    · omega
    · have := (htL (t - 1) (by omega)).1
      omega
  have hcs : ∀ c, c < m + 1 → c < m ∨ c = m := fun c h => by omega
  have ag : ∀ c, c < m → rg_u ins m b c = ins c ∧ rg_u org m q c = org c ∧ rg_u num m (mb q + 1) c = num c ∧ rg_u tg m t c = tg c ∧ rg_u st m (g + 1) c = st c ∧ rg_u P m (rg_pa P t ++ [3 * (g + 1) + q]) c = P c := by
    intro c hc
    have z : c ≠ m := by omega
    exact ⟨rg_un z, rg_un z, rg_un z, rg_un z, rg_un z, rg_un z⟩
  have G' : rg_log (m + 1) (rg_u ins m b) (rg_u org m q) (rg_u num m (mb q + 1)) (rg_u tg m t) (rg_u st m (g + 1)) (rg_u mb q (mb q + 1)) (rg_u P m (rg_pa P t ++ [3 * (g + 1) + q])) := by
    refine rg_growL G hm hq ag rg_us rg_us ?_ rg_us (fun o ho => rg_un ho) ?_ ?_ ?_ ?_
    · rw [rg_us]; exact htm
    · intro j ej
      rw [rg_us] at ej
      exact (htL j ej).2.1
    · rw [rg_us, rg_us]; exact hb
    · intro _
      rw [rg_us, rg_us, rg_us]
      refine ⟨by omega, rfl, ?_⟩
      intro j ej
      have := r6 j (ht j ej)
      omega
    · intro _ c hc hi ho
      rw [rg_us]
      have h1 := (g2 c hc).2.2.1
      rw [ho, ← ko, ← ho] at h1
      have := r6 c ((r4 c).mpr ⟨hc, hi, h1⟩)
      omega
  have hmb : ∀ o, mb o ≤ rg_u mb q (mb q + 1) o := by
    intro o
    by_cases z : o = q
    · rw [z, rg_us]; omega
    · rw [rg_un z]; exact Nat.le_refl _
  have X' : rg_xl (m + 1) (rg_u ins m b) (rg_u org m q) (rg_u num m (mb q + 1)) (rg_u tg m t) (rg_u st m (g + 1)) (rg_u mb q (mb q + 1)) (nI (m + 1)) (upd xI m (rg_b b)) (upd xO m (nI q)) (upd xN m (nI (mb q + 1))) xA' xS' xT' (upd xB q (nI (mb q + 1))) (upd xC (49 * q + (mb q + 1)) (nI m)) := by
    refine ⟨rfl, ?_, ?_, ?_, ?_⟩
    · intro c h
      rcases hcs c h with z | z
      · have a := ag c z
        have d := x2 c z
        have e := g2 c z
        have f := g5 (org c) e.1
        have zm : c ≠ m := by omega
        rw [a.1, a.2.1, a.2.2.1, pk_un zm, pk_un zm, pk_un zm]
        refine ⟨d.1, d.2.1, d.2.2.1, ?_⟩
        rw [pk_un]
        · exact d.2.2.2
        · intro z2
          have e2 : org c = q := by omega
          have h1 := e.2.2.1
          rw [e2] at h1 z2
          omega
      · rw [z, rg_us, rg_us, rg_us, pk_us, pk_us, pk_us, pk_us]
        exact ⟨rfl, rfl, rfl, rfl⟩
    · intro c h hi
      rcases hcs c h with z | z
      · have a := ag c z
        have d := hag c z
        rw [a.1] at hi
        rw [a.2.2.2.1, a.2.2.2.2.1, d.2.1, d.2.2.1]
        exact x3 c z hi
      · rw [z, rg_us] at hi
        rw [z, rg_us, rg_us]
        exact ⟨(hI hi).1, (hI hi).2.1⟩
    · intro c h hi
      rcases hcs c h with z | z
      · have a := ag c z
        have d := hag c z
        rw [a.1] at hi
        rw [a.2.2.2.1, d.2.2.2.1]
        exact x4 c z hi
      · rw [z, rg_us] at hi
        rw [z, rg_us]
        exact hD hi
    · intro o ho
      by_cases z : o = q
      · rw [z, rg_us, pk_us]
      · rw [rg_un z, pk_un z]
        exact x5 o ho
  have Y' : rg_yl (m + 1) (rg_u ins m b) (rg_u org m q) (rg_u tg m t) (rg_u st m (g + 1)) (nI (m + 1)) (upd yO m (nI q)) (upd yI m (rg_b b)) (upd yT m (rg_t t)) yS' := by
    refine ⟨rfl, ?_, ?_⟩
    · intro c h
      rcases hcs c h with z | z
      · have a := ag c z
        have zm : c ≠ m := by omega
        rw [a.1, a.2.1, a.2.2.2.1, pk_un zm, pk_un zm, pk_un zm]
        exact y2 c z
      · rw [z, rg_us, rg_us, rg_us, pk_us, pk_us, pk_us]
        exact ⟨rfl, rfl, rfl⟩
    · intro c h hi
      rcases hcs c h with z | z
      · have a := ag c z
        have d := hag c z
        rw [a.1] at hi
        rw [a.2.2.2.2.1, d.2.2.2.2.2]
        exact y3 c z hi
      · rw [z, rg_us] at hi
        rw [z, rg_us]
        exact (hI hi).2.2.1
  have hl' : ∀ c, c < m + 1 → rg_u ins m b c = true → xL' c = yL' c := by
    intro c h hi
    rcases hcs c h with z | z
    · have a := ag c z
      have d := hag c z
      rw [a.1] at hi
      rw [d.1, d.2.2.2.2.1]
      exact hl c z hi
    · rw [z, rg_us] at hi
      rw [z]
      exact (hI hi).2.2.2
  have R' := rg_growR G R hq ag rg_us rg_us hmb
  have YR' := rg_growY R hq ag rg_us rg_us YR
  have Q' : rg_Q mb (m + 1) (rg_u ins m b) (rg_u org m q) (rg_u num m (mb q + 1)) (rg_u tg m t) (rg_u st m (g + 1)) (rg_u mb q (mb q + 1)) (rg_u P m (rg_pa P t ++ [3 * (g + 1) + q])) xK xG xF xD xR xW yK := by
    intro p hp
    obtain ⟨kn1, L1, tk1, g1, k1, R1, XR1, YR1⟩ := Q p hp
    exact ⟨kn1, L1, tk1, g1, k1, rg_growR G R1 hq ag rg_us rg_us hmb, XR1, rg_growY R1 hq ag rg_us rg_us YR1⟩
  obtain ⟨xK', xG', xF', xD', xR', xW', Q2, wk⟩ := rg_learnQ (ow' := rg_u mb q (mb q + 1)) (xL := xL') (c := m) G' X' Q' hq ko R' XR YR' (by omega) (by rw [rg_us, rg_us, ko]) (by
      intro j ej
      rw [rg_us] at ej
      have := htL j ej
      have zm : j ≠ m := by omega
      rw [rg_un zm, rg_un zm]
      exact this.2.2) (fun p _ hp => rg_un hp) (fun _ => by rw [rg_us, rg_us]) (fun z => absurd rg_us z)
  exact ⟨xK', xG', xF', xD', xR', xW', ⟨m + 1, _, _, _, _, _, _, _, G', X', Y', hl', Q2⟩, wk⟩
end
end
section
/-! what is owed: the relation, the start, the calls that change nothing -/
def i_Rel (k : Nat) (u : SX) (v : SY) : Prop := match u, v with
  | (xm, xI, xO, xN, xL, xA, xS, xT, xB, xC, xK, xG, xF, xD, xR, xW), (ym, ys, yO, yI, yL, yT, yS, yK, yX) => rg_S xm xI xO xN xL xA xS xT xB xC xK xG xF xD xR xW ym yO yI yL yT yS yK
theorem i_up {k : Nat} {u : SX} {v : SY} (h : i_Rel k u v) : i_Rel (k + 4) u v := h
theorem rg_S0 {f : Nat → Int32} (h0 : f 0 = -1) (h1 : f 49 = -1) (h2 : f 98 = -1) :
    rg_S 0 (fun _ => 0) (fun _ => 0) (fun _ => 0) (fun _ => 0) (fun _ => 0) (fun _ => 0) (fun _ => 0) (fun _ => 0) (fun _ => 0) (fun _ => 0) (fun _ => 0) f (fun _ => 0) (fun _ => 0) (fun _ => 0)
      0 (fun _ => 0) (fun _ => 0) (fun _ => 0) (fun _ => 0) (fun _ => 0) (fun _ => 0) := by
  have no : ∀ c : Nat, ¬ c < 0 := fun c => Nat.not_lt_zero c
  refine ⟨0, fun _ => true, fun _ => 0, fun _ => 0, fun _ => 0, fun _ => 0, fun _ => 0, fun _ => [], ⟨by omega, ?_, ?_, ?_, ?_, ?_, ?_, ?_, ?_⟩, ⟨rfl, ?_, ?_, ?_, ?_⟩, ⟨rfl, ?_, ?_⟩, ?_, ?_⟩
  · exact fun c h => absurd h (no c)
  · exact fun c d _ h => absurd h (no d)
  · intro o n _ a b
    have b : n ≤ 0 := b
    omega
  · exact fun o _ => Nat.le_refl _
  · exact fun c j h => absurd h (no c)
  · exact fun c h => absurd h (no c)
  · exact fun c h => absurd h (no c)
  · exact fun c d h => absurd h (no c)
  · exact fun c h => absurd h (no c)
  · exact fun c h => absurd h (no c)
  · exact fun c h => absurd h (no c)
  · exact fun o _ => rfl
  · exact fun c h => absurd h (no c)
  · exact fun c h => absurd h (no c)
  · exact fun c h => absurd h (no c)
  · intro q hq
    refine ⟨fun _ => 0, [], fun _ => false, 0, rfl, ⟨fun o _ => Nat.le_refl _, fun c j h => absurd h (no c), List.Pairwise.nil, ?_, ?_, ?_, Or.inl rfl⟩, ⟨fun o _ => rfl, rfl, ?_, ?_, rfl, rfl⟩, ?_⟩
    · intro c
      constructor
      · intro h; simp at h
      · intro h; exact absurd h.1 (no c)
    · intro c h; simp at h
    · intro c h; simp at h
    · show f (49 * q + 0) = -1
      have : q = 0 ∨ q = 1 ∨ q = 2 := by omega
      rcases this with e | e | e <;> rw [e]
      · exact h0
      · exact h1
      · exact h2
    · intro c h; simp at h
    · intro c _
      rw [decide_eq_false (fun z => no c z.1)]
      rfl
theorem i_vc0 : wpX_init (fun u => wpY_init (fun v => i_Rel 0 u v)) := by
  refine ⟨4, br_f (by decide) ⟨vp_in_iff.mpr (by decide), nm_e (nm_r (e' := 1) (by decide) (br_f (by decide) ⟨vp_in_iff.mpr (by decide), nm_e (nm_r (e' := 2) (by decide) (br_f (by decide) ⟨vp_in_iff.mpr (by decide), nm_e (nm_r (e' := 3) (by decide) (br_t (by decide) ?_))⟩))⟩))⟩⟩
  exact rg_S0 (by decide) (by decide) (by decide)
section
variable {m : Nat} {ins : Nat → Bool} {org num tg st mb : Nat → Nat} {P : Nat → List Nat} {kn : Nat → Nat} {L : List Nat} {tk : Nat → Bool} {g : Nat} {ym ys : Int32} {yO yI yL yT yS yK yX : Nat → Int32} {q : Nat}
theorem yw_letter_out (G : rg_log m ins org num tg st mb P) (Y : rg_yl m ins org tg st ym yO yI yT yS) (R : rg_rep m ins org num tg st mb P kn L tk g) (hq : q < 3) (YR : rg_yr m org num q kn yK)
    {v : Int32} (hv : v < 0 ∨ nI (L.filter (fun c => !tk c)).length ≤ v) {post : Int32 → SY → Prop} (h : ∀ ys' yX', post 0 (ym, ys', yO, yI, yL, yT, yS, yK, yX')) : wpY_letter post (ym, ys, yO, yI, yL, yT, yS, yK, yX) (nI q) v := by
  unfold wpY_letter
  dsimp only
  exact yw_ok hq (br_t rfl (yw_lay G Y R hq YR (fun yX' _ => br_c (fun _ => h _ _) (fun z => br_f (Int32.not_lt.mpr (hv.resolve_left z)) (h _ _)))))
end
theorem i_vc_length {k : Nat} {u : SX} {v : SY} (I : i_Rel k u v) (hk : k + 4 ≤ 2048) (v1 : Int32) : wpX_length (fun r => wpY_length (fun r' v' => r' = r ∧ i_Rel (k + 4) u v') v v1) u v1 := by
  obtain ⟨xm, xI, xO, xN, xL, xA, xS, xT, xB, xC, xK, xG, xF, xD, xR, xW⟩ := u
  obtain ⟨ym, ys, yO, yI, yL, yT, yS, yK, yX⟩ := v
  have I' : rg_S xm xI xO xN xL xA xS xT xB xC xK xG xF xD xR xW ym yO yI yL yT yS yK := I
  unfold wpX_length
  dsimp only
  rcases rg_rc v1 with ⟨q, hq, rfl⟩ | hv
  · obtain ⟨m, ins, org, num, tg, st, mb, P, G, X, Y, hl, Q⟩ := id I'
    obtain ⟨kn, L, tk, g, ko, R, XR, YR⟩ := Q q hq
    refine xw_rep hq (br_f (by decide) ⟨vp_in_nI hq (by decide), ?_⟩)
    rw [nI_clamp (show q < 2 ^ 31 by omega), XR.2.2.2.2.2]
    exact yw_length G Y R hq YR (fun _ _ => ⟨rfl, I'⟩)
  · refine xw_nrep hv (br_t rfl ?_)
    unfold wpY_length
    dsimp only
    exact yw_bad hv (br_f (by decide) ⟨rfl, I'⟩)
theorem i_vc_row {k : Nat} {u : SX} {v : SY} (I : i_Rel k u v) (hk : k + 4 ≤ 2048) (v1 : Int32) : wpX_row (fun r => wpY_row (fun r' => r' = r ∧ i_Rel (k + 4) u v) v v1) u v1 := by
  obtain ⟨xm, xI, xO, xN, xL, xA, xS, xT, xB, xC, xK, xG, xF, xD, xR, xW⟩ := u
  obtain ⟨ym, ys, yO, yI, yL, yT, yS, yK, yX⟩ := v
  have I' : rg_S xm xI xO xN xL xA xS xT xB xC xK xG xF xD xR xW ym yO yI yL yT yS yK := I
  unfold wpX_row
  dsimp only
  rcases rg_rc v1 with ⟨q, hq, rfl⟩ | hv
  · obtain ⟨m, ins, org, num, tg, st, mb, P, G, X, Y, hl, Q⟩ := id I'
    obtain ⟨kn, L, tk, g, ko, R, XR, YR⟩ := Q q hq
    refine xw_rep hq (br_f (by decide) ⟨vp_in_nI hq (by decide), ?_⟩)
    rw [nI_clamp (show q < 2 ^ 31 by omega), XR.2.2.2.2.1]
    exact yw_row G Y R hq YR ⟨rfl, I'⟩
  · refine xw_nrep hv (br_t rfl ?_)
    unfold wpY_row
    dsimp only
    exact yw_bad hv (br_f (by decide) ⟨rfl, I'⟩)
theorem i_vc_known {k : Nat} {u : SX} {v : SY} (I : i_Rel k u v) (hk : k + 4 ≤ 2048) (v1 : Int32) (v2 : Int32) : wpX_known (fun r => wpY_known (fun r' => r' = r ∧ i_Rel (k + 4) u v) v v1 v2) u v1 v2 := by
  obtain ⟨xm, xI, xO, xN, xL, xA, xS, xT, xB, xC, xK, xG, xF, xD, xR, xW⟩ := u
  obtain ⟨ym, ys, yO, yI, yL, yT, yS, yK, yX⟩ := v
  have I' : rg_S xm xI xO xN xL xA xS xT xB xC xK xG xF xD xR xW ym yO yI yL yT yS yK := I
  unfold wpX_known
  dsimp only
  rcases rg_rc v1 with ⟨q, hq, rfl⟩ | hv
  · refine xw_rep hq (br_f (by decide) ?_)
    rcases rg_rc v2 with ⟨o, ho, rfl⟩ | hv
    · obtain ⟨m, ins, org, num, tg, st, mb, P, G, X, Y, hl, Q⟩ := id I'
      obtain ⟨kn, L, tk, g, ko, R, XR, YR⟩ := Q q hq
      refine xw_rep ho (br_f (by decide) ?_)
      rw [rg_m3, nI_clamp (show 3 * q + o < 2 ^ 31 by omega), XR.1 o ho]
      exact ⟨vp_in_nI (by omega) (by decide), yw_known G Y R hq YR ho ⟨rfl, I'⟩⟩
    · refine xw_nrep hv (br_t rfl ?_)
      unfold wpY_known
      dsimp only
      exact yw_ok hq (br_t rfl (yw_bad hv (br_f (by decide) ⟨rfl, I'⟩)))
  · refine xw_nrep hv (br_t rfl ?_)
    unfold wpY_known
    dsimp only
    exact yw_bad hv (br_f (by decide) ⟨rfl, I'⟩)
theorem i_vc_letter {k : Nat} {u : SX} {v : SY} (I : i_Rel k u v) (hk : k + 4 ≤ 2048) (v1 : Int32) (v2 : Int32) : wpX_letter (fun r => wpY_letter (fun r' v' => r' = r ∧ i_Rel (k + 4) u v') v v1 v2) u v1 v2 := by
  obtain ⟨xm, xI, xO, xN, xL, xA, xS, xT, xB, xC, xK, xG, xF, xD, xR, xW⟩ := u
  obtain ⟨ym, ys, yO, yI, yL, yT, yS, yK, yX⟩ := v
  have I' : rg_S xm xI xO xN xL xA xS xT xB xC xK xG xF xD xR xW ym yO yI yL yT yS yK := I
  unfold wpX_letter
  dsimp only
  rcases rg_rc v1 with ⟨q, hq, rfl⟩ | hv
  · obtain ⟨m, ins, org, num, tg, st, mb, P, G, X, Y, hl, Q⟩ := id I'
    obtain ⟨kn, L, tk, g, ko, R, XR, YR⟩ := Q q hq
    have hm := G.1
    have hlen := rg_lenL G R
    have hfl : (L.filter (fun c => !tk c)).length ≤ L.length := List.length_filter_le _ _
    refine xw_rep hq (br_f (by decide) ?_)
    rw [nI_clamp (show q < 2 ^ 31 by omega), XR.2.2.2.2.2]
    have out : (v2 < 0 ∨ nI (L.filter (fun c => !tk c)).length ≤ v2) → wpY_letter (fun r' v' => r' = 0 ∧ i_Rel (k + 4) (xm, xI, xO, xN, xL, xA, xS, xT, xB, xC, xK, xG, xF, xD, xR, xW) v') (ym, ys, yO, yI, yL, yT, yS, yK, yX) (nI q) v2 := fun hv => yw_letter_out G Y R hq YR hv (fun _ _ => ⟨rfl, I'⟩)
    refine br_c (fun z => out (Or.inl z)) (fun z => ⟨vp_in_nI hq (by decide), ?_⟩)
    refine br_c (fun z2 => ?_) (fun z2 => out (Or.inr (Int32.not_lt.mp z2)))
    obtain ⟨j, hj, rfl⟩ := nI_of z
    have hjl : j < (L.filter (fun c => !tk c)).length := (nI_ltI hj (by omega)).mp z2
    have hx : (L.filter (fun c => !tk c))[j]? = some ((L.filter (fun c => !tk c))[j]) := List.getElem?_eq_getElem _
    have haL : (L.filter (fun c => !tk c))[j] ∈ L := (List.mem_filter.mp (List.mem_of_getElem? hx)).1
    have ham := (R.2.2.2.1 _).mp haL
    refine xw_at hq XR (fun c hc => by have := ((R.2.2.2.1 c).mp hc).1; omega) (by omega) hx (by omega) ⟨vp_in_nI (by omega) (by decide), ?_⟩
    rw [nI_clamp (by omega), hl _ ham.1 ham.2.1]
    exact yw_letter G Y R hq YR hx (fun _ _ => ⟨rfl, I'⟩)
  · refine xw_nrep hv (br_t rfl ?_)
    unfold wpY_letter
    dsimp only
    exact yw_bad hv (br_f (by decide) ⟨rfl, I'⟩)
theorem i_vc_alike {k : Nat} {u : SX} {v : SY} (I : i_Rel k u v) (hk : k + 4 ≤ 2048) (v1 : Int32) (v2 : Int32) : wpX_alike (fun r => wpY_alike (fun r' v' => r' = r ∧ i_Rel (k + 4) u v') v v1 v2) u v1 v2 := by
  obtain ⟨xm, xI, xO, xN, xL, xA, xS, xT, xB, xC, xK, xG, xF, xD, xR, xW⟩ := u
  obtain ⟨ym, ys, yO, yI, yL, yT, yS, yK, yX⟩ := v
  have I' : rg_S xm xI xO xN xL xA xS xT xB xC xK xG xF xD xR xW ym yO yI yL yT yS yK := I
  unfold wpX_alike
  dsimp only
  rcases rg_rc v1 with ⟨a, ha, rfl⟩ | hv
  · refine xw_rep ha (br_f (by decide) ?_)
    rcases rg_rc v2 with ⟨b, hb, rfl⟩ | hv
    · obtain ⟨m, ins, org, num, tg, st, mb, P, G, X, Y, hl, Q⟩ := id I'
      obtain ⟨kn, L, tk, g, ko, R, XR, YR⟩ := Q a ha
      obtain ⟨kn2, L2, tk2, g2, ko2, R2, XR2, YR2⟩ := Q b hb
      have hm := G.1
      have hlen := rg_lenL G R
      have hfl : (L.filter (fun c => !tk c)).length ≤ L.length := List.length_filter_le _ _
      have hlen2 := rg_lenL G R2
      have hfl2 : (L2.filter (fun c => !tk2 c)).length ≤ L2.length := List.length_filter_le _ _
      have hL : ∀ c, c ∈ L → c < 48 ∧ xD (49 * a + (c + 1)) = rg_b (tk c) := fun c hc => ⟨by have := ((R.2.2.2.1 c).mp hc).1; omega, XR.2.2.2.1 c hc⟩
      have hL2 : ∀ c, c ∈ L2 → c < 48 ∧ xD (49 * b + (c + 1)) = rg_b (tk2 c) := fun c hc => ⟨by have := ((R2.2.2.2.1 c).mp hc).1; omega, XR2.2.2.2.1 c hc⟩
      have e1 : (L.filter (fun c => !tk c)).map xL = (L.filter (fun c => !tk c)).map yL := by
        apply List.map_congr_left
        intro c hc
        have := (R.2.2.2.1 c).mp (List.mem_filter.mp hc).1
        exact hl c this.1 this.2.1
      have e2 : (L2.filter (fun c => !tk2 c)).map xL = (L2.filter (fun c => !tk2 c)).map yL := by
        apply List.map_congr_left
        intro c hc
        have := (R2.2.2.2.1 c).mp (List.mem_filter.mp hc).1
        exact hl c this.1 this.2.1
      have YL : ∀ (post : Int32 → SY → Prop), ((L.filter (fun c => !tk c)).length = (L2.filter (fun c => !tk2 c)).length → (L.filter (fun c => !tk c)).map yL = (L2.filter (fun c => !tk2 c)).map yL → ∀ ys' yX', post 1 (ym, ys', yO, yI, yL, yT, yS, yK, yX')) →
          (¬ ((L.filter (fun c => !tk c)).length = (L2.filter (fun c => !tk2 c)).length ∧ (L.filter (fun c => !tk c)).map yL = (L2.filter (fun c => !tk2 c)).map yL) → ∀ ys' yX', post 0 (ym, ys', yO, yI, yL, yT, yS, yK, yX')) → wpY_alike post (ym, ys, yO, yI, yL, yT, yS, yK, yX) (nI a) (nI b) := by
        intro post h1 h0
        unfold wpY_alike
        dsimp only
        refine yw_ok ha (br_t rfl (yw_ok hb (br_t rfl (yw_length G Y R ha YR (fun ys1 yX1 => yw_length G Y R2 hb YR2 (fun ys2 yX2 => pk_eq (L2.filter (fun c => !tk2 c)).length (L.filter (fun c => !tk c)).length (fun e => ⟨(L.filter (fun c => !tk c)).length + 1, ?_⟩) (fun e => h0 (fun z => e z.1.symm) _ _)))))))
        exact yw_alike_loop G Y R ha YR R2 hb YR2 e.symm (fun z => h1 e.symm z) (fun z => h0 (fun y => z y.2)) (L.filter (fun c => !tk c)).length 0 _ _ _ (by omega) (by omega) (fun j hj => absurd hj (by omega))
      refine xw_rep hb (br_f (by decide) ⟨vp_in_nI ha (by decide), vp_in_nI hb (by decide), ?_⟩)
      rw [nI_clamp (show a < 2 ^ 31 by omega), nI_clamp (show b < 2 ^ 31 by omega), XR.2.2.2.2.2, XR2.2.2.2.2.2, rg_m49, rg_m49, nI_clamp (show 49 * a < 2 ^ 31 by omega), nI_clamp (show 49 * b < 2 ^ 31 by omega)]
      refine pk_eq (L.filter (fun c => !tk c)).length (L2.filter (fun c => !tk2 c)).length (fun e => ⟨vp_in_nI (by omega) (by decide), ?_⟩) (fun e => YL _ (fun z => absurd z e) (fun _ _ _ => ⟨rfl, I'⟩))
      refine xw_shown (i := 0) (R := L) ha XR.2.2.1 hL (by omega) ⟨vp_in_nI (by omega) (by decide), xw_shown (i := 0) (R := L2) hb XR2.2.2.1 hL2 (by omega) ⟨(L.filter (fun c => !tk c)).length + 1, ?_⟩⟩
      refine xw_alike_loop ha hb _ L L2 0 0 0 XR.2.2.1 XR2.2.2.1 hL hL2 (by omega) (by omega) e (by omega) (by omega) (fun z => ?_) (fun z => ?_)
      · rw [e1, e2] at z
        exact YL _ (fun _ _ _ _ => ⟨rfl, I'⟩) (fun y => absurd ⟨e, z⟩ y)
      · rw [e1, e2] at z
        exact YL _ (fun _ y => absurd y z) (fun _ _ _ => ⟨rfl, I'⟩)
    · refine xw_nrep hv (br_t rfl ?_)
      unfold wpY_alike
      dsimp only
      exact yw_ok ha (br_t rfl (yw_bad hv (br_f (by decide) ⟨rfl, I'⟩)))
  · refine xw_nrep hv (br_t rfl ?_)
    unfold wpY_alike
    dsimp only
    exact yw_bad hv (br_f (by decide) ⟨rfl, I'⟩)
end
section
/-! what is owed: insert and delete -/
section
variable {m : Nat} {ins : Nat → Bool} {org num tg st mb : Nat → Nat} {P : Nat → List Nat} {kn : Nat → Nat} {L : List Nat} {tk : Nat → Bool} {g : Nat} {xm : Int32} {xI xO xN xL xA xS xT xB xC xK xG xF xD xR xW : Nat → Int32} {ym ys : Int32} {yO yI yL yT yS yK yX : Nat → Int32} {q : Nat}
theorem yw_lengthS (S : rg_S xm xI xO xN xL xA xS xT xB xC xK xG xF xD xR xW ym yO yI yL yT yS yK) (hq : q < 3) {post : Int32 → SY → Prop} (h : ∀ ys' yX', post (xW q) (ym, ys', yO, yI, yL, yT, yS, yK, yX')) : wpY_length post (ym, ys, yO, yI, yL, yT, yS, yK, yX) (nI q) := by
  obtain ⟨m, ins, org, num, tg, st, mb, P, G, X, Y, hl, Q⟩ := S
  obtain ⟨kn, L, tk, g, ko, R, XR, YR⟩ := Q q hq
  rw [XR.2.2.2.2.2] at h
  exact yw_length G Y R hq YR h
theorem yw_make (G : rg_log m ins org num tg st mb P) (Y : rg_yl m ins org tg st ym yO yI yT yS) (R : rg_rep m ins org num tg st mb P kn L tk g) (hq : q < 3) (YR : rg_yr m org num q kn yK) (hm : m < 48)
    {b : Bool} {p z0 x3 : Int32} (ep : vp_nar .boolean p = rg_b b) (S : rg_S xm xI xO xN xL xA xS xT xB xC xK xG xF xD xR xW (nI (m + 1)) (upd yO m (nI q)) (upd yI m (rg_b b)) (upd yL m x3) (upd yT m z0) (upd yS m (nI (g + 1))) (upd yK (48 * q + m) 1))
    {post : Int32 → SY → Prop} (h : ∀ ys' yX', post (xW q) (nI (m + 1), ys', upd yO m (nI q), upd yI m (rg_b b), upd yL m x3, upd yT m z0, upd yS m (nI (g + 1)), upd yK (48 * q + m) 1, yX')) :
    wpY_make post (ym, ys, yO, yI, yL, yT, yS, yK, yX) (nI q) p z0 x3 := by
  obtain ⟨y1, y2, y3⟩ := Y
  subst y1
  have vm : vp_in (nI m) 48 := vp_in_nI hm (by decide)
  have Yu : rg_yl m ins org tg st (nI m) (upd yO m (nI q)) (upd yI m (rg_b b)) (upd yT m z0) yS := by
    refine ⟨rfl, ?_, y3⟩
    intro c hc
    have z : c ≠ m := by omega
    rw [pk_un z, pk_un z, pk_un z]
    exact y2 c hc
  unfold wpY_make
  dsimp only
  rw [nI_clamp (show m < 2 ^ 31 by omega), rg_m48, nI_clamp (show 48 * q + m < 2 ^ 31 by omega), ep]
  refine ⟨vm, nm_e ⟨vm, nm_e ⟨vm, nm_e ⟨vm, nm_e (yw_greatest G Yu R hq YR ⟨vm, nm_r (congrArg (upd yS m) (nI_1 g)) ⟨vp_in_nI (by omega) (by decide), nm_e (nm_r (nI_1 m) ?_)⟩⟩)⟩⟩⟩⟩
  exact yw_lengthS S hq h
theorem xw_ins (X : rg_xl m ins org num tg st mb xm xI xO xN xA xS xT xB xC) (hm : m < 48) (hmb : mb q ≤ m) (hq : q < 3) (eG : xG q = nI g) {z0 x3 : Int32} {xK' xG' xF' xD' xR' xW' : Nat → Int32}
    (wk : ∀ post : SX → Prop, post (nI (m + 1), upd xI m (rg_b true), upd xO m (nI q), upd xN m (nI (mb q + 1)), upd xL m x3, upd xA m z0, upd xS m (nI (g + 1)), xT, upd xB q (nI (mb q + 1)), upd xC (49 * q + (mb q + 1)) (nI m), xK', xG', xF', xD', xR', xW') →
        wpX_learn post (nI (m + 1), upd xI m (rg_b true), upd xO m (nI q), upd xN m (nI (mb q + 1)), upd xL m x3, upd xA m z0, upd xS m (nI (g + 1)), xT, upd xB q (nI (mb q + 1)), upd xC (49 * q + (mb q + 1)) (nI m), xK, xG, xF, xD, xR, xW) (nI q) (nI m))
    {post : Int32 → SX → Prop} (h : post (xW' q) (nI (m + 1), upd xI m (rg_b true), upd xO m (nI q), upd xN m (nI (mb q + 1)), upd xL m x3, upd xA m z0, upd xS m (nI (g + 1)), xT, upd xB q (nI (mb q + 1)), upd xC (49 * q + (mb q + 1)) (nI m), xK', xG', xF', xD', xR', xW')) :
    wX_insert_48 post (nI q) x3 z0 xm xI xO xN xL xA xS xT xB xC xK xG xF xD xR xW := by
  have vm : vp_in (nI m) 48 := vp_in_nI hm (by decide)
  have vq : vp_in (nI q) 3 := vp_in_nI hq (by decide)
  unfold wX_insert_48
  refine xw_new (v := rg_b true) hq hm X.1 (X.2.2.2.2 q hq) hmb rfl ?_
  dsimp only
  rw [nI_clamp (show m < 2 ^ 31 by omega), nI_clamp (show q < 2 ^ 31 by omega), eG, nI_1 g]
  exact ⟨vm, nm_e ⟨vm, nm_e ⟨vq, vm, nm_e (wk _ ⟨vq, h⟩)⟩⟩⟩
theorem xw_del (X : rg_xl m ins org num tg st mb xm xI xO xN xA xS xT xB xC) (hm : m < 48) (hmb : mb q ≤ m) (hq : q < 3) {z0 : Int32} {xK' xG' xF' xD' xR' xW' : Nat → Int32}
    (wk : ∀ post : SX → Prop, post (nI (m + 1), upd xI m (rg_b false), upd xO m (nI q), upd xN m (nI (mb q + 1)), xL, xA, xS, upd xT m z0, upd xB q (nI (mb q + 1)), upd xC (49 * q + (mb q + 1)) (nI m), xK', xG', xF', xD', xR', xW') →
        wpX_learn post (nI (m + 1), upd xI m (rg_b false), upd xO m (nI q), upd xN m (nI (mb q + 1)), xL, xA, xS, upd xT m z0, upd xB q (nI (mb q + 1)), upd xC (49 * q + (mb q + 1)) (nI m), xK, xG, xF, xD, xR, xW) (nI q) (nI m))
    {post : Int32 → SX → Prop} (hr : ∀ c, c ∈ L → c < 48) (hlen : L.length ≤ 48) (XR : rg_xr q kn L tk g xK xG xF xD xR xW) {j a : Nat} (hj : (L.filter (fun c => !tk c))[j]? = some a) (ea : z0 = nI a)
    (h : post (xW' q) (nI (m + 1), upd xI m (rg_b false), upd xO m (nI q), upd xN m (nI (mb q + 1)), xL, xA, xS, upd xT m z0, upd xB q (nI (mb q + 1)), upd xC (49 * q + (mb q + 1)) (nI m), xK', xG', xF', xD', xR', xW')) :
    wpX_delete post (xm, xI, xO, xN, xL, xA, xS, xT, xB, xC, xK, xG, xF, xD, xR, xW) (nI q) (nI j) := by
  have vm : vp_in (nI m) 48 := vp_in_nI hm (by decide)
  have vq : vp_in (nI q) 3 := vp_in_nI hq (by decide)
  have hfl : (L.filter (fun c => !tk c)).length ≤ L.length := List.length_filter_le _ _
  have hjl : j < (L.filter (fun c => !tk c)).length := (List.getElem?_eq_some_iff.mp hj).1
  unfold wpX_delete
  dsimp only
  rw [nI_clamp (show q < 2 ^ 31 by omega), XR.2.2.2.2.2]
  refine xw_rep hq (br_f (by decide) (br_f (nI_pos (by omega)) ⟨vq, br_f (nI_ge hjl (by omega)) (br_t ?_ ?_)⟩))
  · rw [X.1]
    exact nI_lt (b := 48) hm (by decide)
  · refine xw_at hq XR hr hlen hj (by omega) (xw_new (v := rg_b false) hq hm X.1 (X.2.2.2.2 q hq) hmb rfl ?_)
    dsimp only
    rw [nI_clamp (show m < 2 ^ 31 by omega), ← ea]
    exact ⟨vm, nm_e (wk _ ⟨vq, h⟩)⟩
theorem yw_ins_no (G : rg_log m ins org num tg st mb P) (Y : rg_yl m ins org tg st ym yO yI yT yS) (R : rg_rep m ins org num tg st mb P kn L tk g) (hq : q < 3) (YR : rg_yr m org num q kn yK)
    {v v3 : Int32} (hv : v < 0 ∨ nI (L.filter (fun c => !tk c)).length < v ∨ ym = 48) {post : Int32 → SY → Prop} (h : ∀ ys' yX', post (-1) (ym, ys', yO, yI, yL, yT, yS, yK, yX')) : wpY_insert post (ym, ys, yO, yI, yL, yT, yS, yK, yX) (nI q) v v3 := by
  unfold wpY_insert
  dsimp only
  exact yw_ok hq (br_t rfl (yw_lay G Y R hq YR (fun yX' _ => br_c (fun _ => h _ _) (fun z => br_c (fun _ => h _ _) (fun z2 => br_t ((hv.resolve_left z).resolve_left z2) (h _ _))))))
theorem yw_del_no (G : rg_log m ins org num tg st mb P) (Y : rg_yl m ins org tg st ym yO yI yT yS) (R : rg_rep m ins org num tg st mb P kn L tk g) (hq : q < 3) (YR : rg_yr m org num q kn yK)
    {v : Int32} (hv : v < 0 ∨ nI (L.filter (fun c => !tk c)).length ≤ v ∨ ym = 48) {post : Int32 → SY → Prop} (h : ∀ ys' yX', post (-1) (ym, ys', yO, yI, yL, yT, yS, yK, yX')) : wpY_delete post (ym, ys, yO, yI, yL, yT, yS, yK, yX) (nI q) v := by
  unfold wpY_delete
  dsimp only
  exact yw_ok hq (br_t rfl (yw_lay G Y R hq YR (fun yX' _ => br_c (fun _ => h _ _) (fun z => br_c (fun _ => h _ _) (fun z2 => br_t ((hv.resolve_left z).resolve_left z2) (h _ _))))))
end
theorem i_vc_insert {k : Nat} {u : SX} {v : SY} (I : i_Rel k u v) (hk : k + 4 ≤ 2048) (v1 : Int32) (v2 : Int32) (v3 : Int32) : wpX_insert (fun r u' => wpY_insert (fun r' v' => r' = r ∧ i_Rel (k + 4) u' v') v v1 v2 v3) u v1 v2 v3 := by
  obtain ⟨xm, xI, xO, xN, xL, xA, xS, xT, xB, xC, xK, xG, xF, xD, xR, xW⟩ := u
  obtain ⟨ym, ys, yO, yI, yL, yT, yS, yK, yX⟩ := v
  have I' : rg_S xm xI xO xN xL xA xS xT xB xC xK xG xF xD xR xW ym yO yI yL yT yS yK := I
  rcases rg_rc v1 with ⟨q, hq, rfl⟩ | hv
  · obtain ⟨m, ins, org, num, tg, st, mb, P, G, X, Y, hl, Q⟩ := id I'
    obtain ⟨kn, L, tk, g, ko, R, XR, YR⟩ := Q q hq
    have hm := G.1
    have hmb := G.2.2.2.2.1 q hq
    have hlen := rg_lenL G R
    have hfl : (L.filter (fun c => !tk c)).length ≤ L.length := List.length_filter_le _ _
    have hr : ∀ c, c ∈ L → c < 48 := fun c hc => by have := ((R.2.2.2.1 c).mp hc).1; omega
    have no : (v2 < 0 ∨ nI (L.filter (fun c => !tk c)).length < v2 ∨ ym = 48) → wpY_insert (fun r' v' => r' = (-1) ∧ i_Rel (k + 4) (xm, xI, xO, xN, xL, xA, xS, xT, xB, xC, xK, xG, xF, xD, xR, xW) v') (ym, ys, yO, yI, yL, yT, yS, yK, yX) (nI q) v2 v3 := fun hv => yw_ins_no G Y R hq YR hv (fun _ _ => ⟨rfl, I'⟩)
    unfold wpX_insert
    dsimp only
    rw [nI_clamp (show q < 2 ^ 31 by omega), XR.2.2.2.2.2]
    refine xw_rep hq (br_f (by decide) (br_c (fun z => no (Or.inl z)) (fun z => ⟨vp_in_nI hq (by decide), br_c (fun z2 => no (Or.inr (Or.inl z2))) (fun z2 => br_c (fun z3 => ?_) (fun z3 => no (Or.inr (Or.inr ?_))))⟩)))
    · rw [X.1] at z3
      have hm48 : m < 48 := (nI_ltI (a := m) (b := 48) (by omega) (by decide)).mp z3
      obtain ⟨j, hj, rfl⟩ := nI_of z
      have hjl : j ≤ (L.filter (fun c => !tk c)).length := by
        rw [nI_ltI (by omega) hj] at z2
        omega
      have core : ∀ (t : Nat), (∀ i, t = i + 1 → i ∈ L) → (∀ post : Int32 → SY → Prop, (∀ ys' yX', wY_insert_53 post (nI q) v3 (rg_t t) ym ys' yO yI yL yT yS yK yX') → wpY_insert post (ym, ys, yO, yI, yL, yT, yS, yK, yX) (nI q) (nI j) v3) →
          wX_insert_48 (fun r u' => wpY_insert (fun r' v' => r' = r ∧ i_Rel (k + 4) u' v') (ym, ys, yO, yI, yL, yT, yS, yK, yX) (nI q) (nI j) v3) (nI q) v3 (rg_t t) xm xI xO xN xL xA xS xT xB xC xK xG xF xD xR xW := by
        intro t ht toY
        obtain ⟨xK', xG', xF', xD', xR', xW', S, wk⟩ := rg_make (b := true) (t := t) (xL' := upd xL m v3) (xA' := upd xA m (rg_t t)) (xS' := upd xS m (nI (g + 1))) (xT' := xT) (yL' := upd yL m v3) (yS' := upd yS m (nI (g + 1))) G X Y hl Q hm48 hq ko R XR YR ht (fun z => by cases z)
          (fun c hc => by have z : c ≠ m := by omega
                          exact ⟨pk_un z, pk_un z, pk_un z, rfl, pk_un z, pk_un z⟩) (fun _ => ⟨pk_us, pk_us, pk_us, by rw [pk_us, pk_us]⟩) (fun z => by cases z)
        refine xw_ins X hm48 hmb hq XR.2.1 wk (toY _ (fun ys' yX' => ?_))
        unfold wY_insert_53
        exact yw_make G Y R hq YR hm48 (b := true) rfl S (fun _ _ => ⟨rfl, S⟩)
      refine pk_eq j 0 (fun e => ?_) (fun e => ?_)
      · subst e
        refine core 0 (fun i ei => by omega) (fun post hY => ?_)
        unfold wpY_insert
        dsimp only
        refine yw_ok hq (br_t rfl (yw_lay G Y R hq YR (fun yX' _ => br_f (nI_pos (by omega)) (br_f (nI_nlt (by omega) (by omega)) (br_f ?_ (br_t rfl (hY _ _)))))))
        rw [Y.1]
        intro y
        have := (nI_eq (a := m) (b := 48) (by omega) (by decide)).mp y
        omega
      · obtain ⟨i, rfl⟩ : ∃ i, j = i + 1 := ⟨j - 1, by omega⟩
        have hx : (L.filter (fun c => !tk c))[i]? = some ((L.filter (fun c => !tk c))[i]'(by omega)) := List.getElem?_eq_getElem _
        have haL : (L.filter (fun c => !tk c))[i]'(by omega) ∈ L := (List.mem_filter.mp (List.mem_of_getElem? hx)).1
        generalize (L.filter (fun c => !tk c))[i]'(by omega) = a at hx haL
        rw [nI_pred]
        refine xw_at hq XR hr (by omega) hx (by omega) (core (a + 1) (fun b eb => by have z : b = a := by omega
                                                                                     rw [z]; exact haL) (fun post hY => ?_))
        unfold wpY_insert
        dsimp only
        rw [nI_pred]
        refine yw_ok hq (br_t rfl (yw_lay G Y R hq YR (fun yX' hX => br_f (nI_pos (by omega)) (br_f (nI_nlt (by omega) (by omega)) (br_f ?_ (br_f (nI_ne0 (by omega) (by omega)) ⟨vp_in_nI (by omega) (by decide), ?_⟩))))))
        · rw [Y.1]
          intro y
          have := (nI_eq (a := m) (b := 48) (by omega) (by decide)).mp y
          omega
        · dsimp only
          rw [nI_clamp (show i < 2 ^ 31 by omega), hX i a hx]
          exact hY _ _
    · rw [X.1] at z3
      have : ¬ m < 48 := fun y => z3 (nI_lt (b := 48) y (by decide))
      rw [Y.1, show m = 48 by omega]
      rfl
  · unfold wpX_insert
    dsimp only
    refine xw_nrep hv (br_t rfl ?_)
    unfold wpY_insert
    dsimp only
    exact yw_bad hv (br_f (by decide) ⟨rfl, I'⟩)
theorem i_vc_delete {k : Nat} {u : SX} {v : SY} (I : i_Rel k u v) (hk : k + 4 ≤ 2048) (v1 : Int32) (v2 : Int32) : wpX_delete (fun r u' => wpY_delete (fun r' v' => r' = r ∧ i_Rel (k + 4) u' v') v v1 v2) u v1 v2 := by
  obtain ⟨xm, xI, xO, xN, xL, xA, xS, xT, xB, xC, xK, xG, xF, xD, xR, xW⟩ := u
  obtain ⟨ym, ys, yO, yI, yL, yT, yS, yK, yX⟩ := v
  have I' : rg_S xm xI xO xN xL xA xS xT xB xC xK xG xF xD xR xW ym yO yI yL yT yS yK := I
  rcases rg_rc v1 with ⟨q, hq, rfl⟩ | hv
  · obtain ⟨m, ins, org, num, tg, st, mb, P, G, X, Y, hl, Q⟩ := id I'
    obtain ⟨kn, L, tk, g, ko, R, XR, YR⟩ := Q q hq
    have hm := G.1
    have hmb := G.2.2.2.2.1 q hq
    have hlen := rg_lenL G R
    have hfl : (L.filter (fun c => !tk c)).length ≤ L.length := List.length_filter_le _ _
    have hr : ∀ c, c ∈ L → c < 48 := fun c hc => by have := ((R.2.2.2.1 c).mp hc).1; omega
    have no : (v2 < 0 ∨ nI (L.filter (fun c => !tk c)).length ≤ v2 ∨ ym = 48) → wpY_delete (fun r' v' => r' = (-1) ∧ i_Rel (k + 4) (xm, xI, xO, xN, xL, xA, xS, xT, xB, xC, xK, xG, xF, xD, xR, xW) v') (ym, ys, yO, yI, yL, yT, yS, yK, yX) (nI q) v2 := fun hv => yw_del_no G Y R hq YR hv (fun _ _ => ⟨rfl, I'⟩)
    by_cases hv : v2 < 0 ∨ nI (L.filter (fun c => !tk c)).length ≤ v2 ∨ ym = 48
    · unfold wpX_delete
      dsimp only
      rw [nI_clamp (show q < 2 ^ 31 by omega), XR.2.2.2.2.2]
      refine xw_rep hq (br_f (by decide) (br_c (fun z => no hv) (fun z => ⟨vp_in_nI hq (by decide), br_c (fun z2 => no hv) (fun z2 => br_f ?_ (no hv))⟩)))
      have e := (hv.resolve_left z).resolve_left z2
      rw [X.1, ← Y.1, e]
      decide
    · have h1 : ¬ v2 < 0 := fun z => hv (Or.inl z)
      have h2 : ¬ nI (L.filter (fun c => !tk c)).length ≤ v2 := fun z => hv (Or.inr (Or.inl z))
      have h3 : ¬ ym = 48 := fun z => hv (Or.inr (Or.inr z))
      have hm48 : m < 48 := by
        have : m ≠ 48 := fun z => h3 (by rw [Y.1, z]; rfl)
        omega
      obtain ⟨j, hj, rfl⟩ := nI_of h1
      have hjl : j < (L.filter (fun c => !tk c)).length := by
        rw [nI_leI (by omega) hj] at h2
        omega
      have hx : (L.filter (fun c => !tk c))[j]? = some ((L.filter (fun c => !tk c))[j]'(by omega)) := List.getElem?_eq_getElem _
      have haL : (L.filter (fun c => !tk c))[j]'(by omega) ∈ L := (List.mem_filter.mp (List.mem_of_getElem? hx)).1
      generalize (L.filter (fun c => !tk c))[j]'(by omega) = a at hx haL
      have ht : ∀ i, a + 1 = i + 1 → i ∈ L := rg_sj (p := fun i => i ∈ L) haL
      obtain ⟨xK', xG', xF', xD', xR', xW', S, wk⟩ := rg_make (b := false) (t := a + 1) (xL' := xL) (xA' := xA) (xS' := xS) (xT' := upd xT m (rg_t (a + 1))) (yL' := upd yL m 0) (yS' := upd yS m (nI (g + 1))) G X Y hl Q hm48 hq ko R XR YR ht (fun z => by omega)
          (fun c hc => by have z : c ≠ m := by omega
                          exact ⟨rfl, rfl, rfl, pk_un z, pk_un z, pk_un z⟩) (fun z => by cases z) (fun _ => pk_us)
      refine xw_del X hm48 hmb hq wk hr (by omega) XR hx rfl ?_
      unfold wpY_delete
      dsimp only
      refine yw_ok hq (br_t rfl (yw_lay G Y R hq YR (fun yX' hX => br_f (nI_pos (by omega)) (br_f h2 (br_f h3 ⟨vp_in_nI (by omega) (by decide), ?_⟩)))))
      dsimp only
      rw [nI_clamp (show j < 2 ^ 31 by omega), hX j a hx]
      exact yw_make G Y R hq YR hm48 (b := false) rfl S (fun _ _ => ⟨rfl, S⟩)
  · unfold wpX_delete
    dsimp only
    refine xw_nrep hv (br_t rfl ?_)
    unfold wpY_delete
    dsimp only
    exact yw_bad hv (br_f (by decide) ⟨rfl, I'⟩)
end
section
/-! what is owed: deliver and sync -/
section
variable {m : Nat} {ins : Nat → Bool} {org num tg st mb : Nat → Nat} {P : Nat → List Nat} {kn : Nat → Nat} {L : List Nat} {tk : Nat → Bool} {g : Nat} {xm : Int32} {xI xO xN xL xA xS xT xB xC xK xG xF xD xR xW : Nat → Int32} {ym ys : Int32} {yO yI yL yT yS yK yX : Nat → Int32} {q : Nat}
theorem rg_yk (hm : m ≤ 48) (YR : rg_yr m org num q kn yK) {c : Nat} (hc : c < m) : yK (48 * q + c) ≠ 0 ↔ num c ≤ kn (org c) := by
  rw [YR c (by omega)]
  by_cases h : num c ≤ kn (org c)
  · rw [decide_eq_true ⟨hc, h⟩]
    exact ⟨fun _ => h, fun _ => by decide⟩
  · rw [decide_eq_false (fun z => h z.2)]
    exact ⟨fun z => absurd rfl z, fun z => absurd z h⟩
theorem yw_deliver_at (G : rg_log m ins org num tg st mb P) (Y : rg_yl m ins org tg st ym yO yI yT yS) (hq : q < 3) (YR : rg_yr m org num q kn yK)
    {p c n : Nat} (hc : c < m) (oc : org c = p) (hn : ¬ num c ≤ kn (org c)) {post : Int32 → SY → Prop} (h1 : (∀ j, tg c = j + 1 → num j ≤ kn (org j)) → post 0 (ym, ys, yO, yI, yL, yT, yS, upd yK (48 * q + c) 1, yX))
    (h0 : ∀ j, tg c = j + 1 → ¬ num j ≤ kn (org j) → post (-2) (ym, ys, yO, yI, yL, yT, yS, yK, yX)) : wY_deliver_18 post (nI p) (nI q) ym ys yO yI yL yT yS yK yX (n + 1) (nI c) := by
  have hm := G.1
  have gc := G.2.1 c hc
  have vc : vp_in (nI c) 48 := vp_in_nI (by omega) (by decide)
  have vk : vp_in (nI (48 * q + c)) 144 := vp_in_nI (by omega) (by decide)
  have fin : (∀ j, tg c = j + 1 → num j ≤ kn (org j)) → wY_deliver_81 post (nI q) (nI c) ym ys yO yI yL yT yS yK yX := by
    intro h
    unfold wY_deliver_81
    rw [rg_m48, nI_clamp (show 48 * q + c < 2 ^ 31 by omega)]
    exact ⟨vk, nm_e (h1 h)⟩
  rw [wY_deliver_18]
  dsimp only
  rw [nI_clamp (show c < 2 ^ 31 by omega), (Y.2.1 c hc).2.1, (Y.2.1 c hc).2.2, rg_m48, nI_clamp (show 48 * q + c < 2 ^ 31 by omega), YR c (by omega), decide_eq_false (fun z => hn z.2), oc]
  refine br_f (by rw [Y.1]; exact nI_ge hc (by omega)) ⟨vc, br_t rfl ⟨vk, br_t rfl ⟨vc, ?_⟩⟩⟩
  cases ht : tg c with
  | zero => exact br_t (by decide) (fin (fun j ej => by omega))
  | succ j =>
    have hj : j < m := by omega
    show (nI j < 0 → _) ∧ (¬ nI j < 0 → _)
    refine br_f (nI_pos (by omega)) ⟨vc, ?_⟩
    show vp_in (48 * nI q + nI j) 144 ∧ ((yK (48 * nI q + nI j).toNatClampNeg = 0 → _) ∧ (¬ yK (48 * nI q + nI j).toNatClampNeg = 0 → _))
    rw [rg_m48, nI_clamp (show 48 * q + j < 2 ^ 31 by omega)]
    refine ⟨vp_in_nI (by omega) (by decide), ?_⟩
    by_cases hk : num j ≤ kn (org j)
    · refine br_f ((rg_yk hm YR hj).mpr hk) (fin (fun i ei => ?_))
      have : i = j := by omega
      rw [this]
      exact hk
    · refine br_t ?_ (h0 j ht hk)
      rw [YR j (by omega), decide_eq_false (fun z => hk z.2)]
      rfl
theorem yw_deliver (G : rg_log m ins org num tg st mb P) (Y : rg_yl m ins org tg st ym yO yI yT yS) (R : rg_rep m ins org num tg st mb P kn L tk g) (hq : q < 3) (YR : rg_yr m org num q kn yK)
    {p c : Nat} (hp : p < 3) (hc : c < m) (oc : org c = p) (hn : num c = kn p + 1) {post : Int32 → SY → Prop} (h1 : (∀ j, tg c = j + 1 → num j ≤ kn (org j)) → post 0 (ym, ys, yO, yI, yL, yT, yS, upd yK (48 * q + c) 1, yX))
    (h0 : ∀ j, tg c = j + 1 → ¬ num j ≤ kn (org j) → post (-2) (ym, ys, yO, yI, yL, yT, yS, yK, yX)) : wpY_deliver post (ym, ys, yO, yI, yL, yT, yS, yK, yX) (nI p) (nI q) := by
  unfold wpY_deliver
  dsimp only
  have hs : ∀ d, d < c → org d = p → num d ≤ kn p := by
    intro d hd od
    have := G.2.2.1 d c hd hc (by omega)
    omega
  refine yw_ok hp (br_t rfl (yw_ok hq (br_t rfl ⟨0 + 1 + c, ?_⟩)))
  exact yw_deliver_skip G Y R hq YR hp (by omega) hs (yw_deliver_at G Y hq YR hc oc (by rw [oc]; omega) h1 h0) c 0 (by omega)
theorem yw_deliver_no (G : rg_log m ins org num tg st mb P) (Y : rg_yl m ins org tg st ym yO yI yT yS) (R : rg_rep m ins org num tg st mb P kn L tk g) (hq : q < 3) (YR : rg_yr m org num q kn yK)
    {p : Nat} (hp : p < 3) (hn : mb p ≤ kn p) {post : Int32 → SY → Prop} (h : post (-1) (ym, ys, yO, yI, yL, yT, yS, yK, yX)) : wpY_deliver post (ym, ys, yO, yI, yL, yT, yS, yK, yX) (nI p) (nI q) := by
  have hm := G.1
  unfold wpY_deliver
  dsimp only
  have hs : ∀ d, d < m → org d = p → num d ≤ kn p := by
    intro d hd od
    have := (G.2.1 d hd).2.2.1
    rw [od] at this
    omega
  refine yw_ok hp (br_t rfl (yw_ok hq (br_t rfl ⟨0 + 1 + m, ?_⟩)))
  refine yw_deliver_skip G Y R hq YR hp (Nat.le_refl m) hs ?_ m 0 (by omega)
  rw [wY_deliver_18]
  refine br_t ?_ h
  rw [Y.1]
  exact nI_le (Nat.le_refl m) (by omega)
theorem xw_d81 (G : rg_log m ins org num tg st mb P) (X : rg_xl m ins org num tg st mb xm xI xO xN xA xS xT xB xC) (R : rg_rep m ins org num tg st mb P kn L tk g) (hq : q < 3) (XR : rg_xr q kn L tk g xK xG xF xD xR xW)
    {c : Nat} (hc : c < m) {post : Int32 → SX → Prop} (h1 : (∀ j, tg c = j + 1 → num j ≤ kn (org j)) → wX_deliver_101 post (nI q) (nI c) xm xI xO xN xL xA xS xT xB xC xK xG xF xD xR xW) (h0 : ∀ j, tg c = j + 1 → ¬ num j ≤ kn (org j) → post (-2) (xm, xI, xO, xN, xL, xA, xS, xT, xB, xC, xK, xG, xF, xD, xR, xW)) :
    wX_deliver_81 post (nI q) (nI c) (rg_t (tg c)) xm xI xO xN xL xA xS xT xB xC xK xG xF xD xR xW := by
  have hm := G.1
  have gc := G.2.1 c hc
  unfold wX_deliver_81
  cases ht : tg c with
  | zero => exact br_t (by decide) (h1 (fun j ej => by omega))
  | succ j =>
    have hj : j < m := by omega
    refine br_f (nI_pos (by omega)) (xw_kn G X R hq XR hj (fun hk => br_f (by decide) (h1 ?_)) (fun hk => br_t rfl (h0 j ht hk)))
    intro i ei
    have : i = j := by omega
    rw [this]
    exact hk
theorem xw_deliver (G : rg_log m ins org num tg st mb P) (X : rg_xl m ins org num tg st mb xm xI xO xN xA xS xT xB xC) (R : rg_rep m ins org num tg st mb P kn L tk g) (hq : q < 3) (XR : rg_xr q kn L tk g xK xG xF xD xR xW)
    {p : Nat} (hp : p < 3) {post : Int32 → SX → Prop} (h1 : ∀ c, c < m → org c = p → num c = kn p + 1 → wX_deliver_81 post (nI q) (nI c) (rg_t (tg c)) xm xI xO xN xL xA xS xT xB xC xK xG xF xD xR xW) (h0 : mb p ≤ kn p → post (-1) (xm, xI, xO, xN, xL, xA, xS, xT, xB, xC, xK, xG, xF, xD, xR, xW)) : wpX_deliver post (xm, xI, xO, xN, xL, xA, xS, xT, xB, xC, xK, xG, xF, xD, xR, xW) (nI p) (nI q) := by
  obtain ⟨x1, x2, x3, x4, x5⟩ := X
  have hm := G.1
  have hk := R.1 p hp
  have hb := G.2.2.2.2.1 p hp
  unfold wpX_deliver
  dsimp only
  rw [rg_m3, nI_clamp (show 3 * q + p < 2 ^ 31 by omega), nI_clamp (show p < 2 ^ 31 by omega), XR.1 p hp, x5 p hp]
  refine xw_rep hp (br_f (by decide) (xw_rep hq (br_f (by decide) ⟨vp_in_nI (by omega) (by decide), nm_r (nI_1 (kn p)) ⟨vp_in_nI hp (by decide), pk_le (kn p + 1) (mb p) (fun l => ?_) (fun l => h0 (by omega))⟩⟩)))
  obtain ⟨c, c1, c2, c3⟩ := G.2.2.2.1 p (kn p + 1) hp (by omega) l
  have xc := x2 c c1
  have vc : vp_in (nI c) 48 := vp_in_nI (by omega) (by decide)
  have eC : xC (49 * p + (kn p + 1)) = nI c := by
    have := xc.2.2.2
    rwa [c2, c3] at this
  rw [rg_m49, nI_add, nI_clamp (show 49 * p + (kn p + 1) < 2 ^ 31 by omega)]
  refine ⟨vp_in_nI (by omega) (by decide), nm_r eC ⟨vc, ?_⟩⟩
  rw [nI_clamp (show c < 2 ^ 31 by omega), xc.1]
  have h := h1 c c1 c2 c3
  cases hi : ins c with
  | true =>
    rw [(x3 c c1 hi).1]
    exact br_f (by decide) ⟨vc, h⟩
  | false =>
    rw [x4 c c1 hi]
    exact br_t rfl ⟨vc, h⟩
end
theorem i_vc_deliver {k : Nat} {u : SX} {v : SY} (I : i_Rel k u v) (hk : k + 4 ≤ 2048) (v1 : Int32) (v2 : Int32) : wpX_deliver (fun r u' => wpY_deliver (fun r' v' => r' = r ∧ i_Rel (k + 4) u' v') v v1 v2) u v1 v2 := by
  obtain ⟨xm, xI, xO, xN, xL, xA, xS, xT, xB, xC, xK, xG, xF, xD, xR, xW⟩ := u
  obtain ⟨ym, ys, yO, yI, yL, yT, yS, yK, yX⟩ := v
  have I' : rg_S xm xI xO xN xL xA xS xT xB xC xK xG xF xD xR xW ym yO yI yL yT yS yK := I
  rcases rg_rc v1 with ⟨p, hp, rfl⟩ | hv
  · rcases rg_rc v2 with ⟨q, hq, rfl⟩ | hv
    · obtain ⟨m, ins, org, num, tg, st, mb, P, G, X, Y, hl, Q⟩ := id I'
      obtain ⟨kn, L, tk, g, ko, R, XR, YR⟩ := Q q hq
      refine xw_deliver G X R hq XR hp (fun c hc oc hn => ?_) (fun hle => yw_deliver_no G Y R hq YR hp hle ⟨rfl, I'⟩)
      refine xw_d81 G X R hq XR hc (fun hcl => ?_) (fun j ej hj => yw_deliver G Y R hq YR hp hc oc hn (fun z => absurd (z j ej) hj) (fun _ _ _ => ⟨rfl, I'⟩))
      have gc := G.2.1 c hc
      obtain ⟨xK', xG', xF', xD', xR', xW', Q2, wk⟩ := rg_learnQ (ow' := mb) (xL := xL) G X Q hq ko R XR YR hc (by rw [oc]; exact hn) hcl (fun _ _ _ => rfl) (fun z => by
        have h1 := gc.2.2.1
        rw [z] at h1
        have e : p = q := oc.symm.trans z
        rw [e, ko] at hn
        omega) (fun _ => rfl)
      have S : rg_S xm xI xO xN xL xA xS xT xB xC xK' xG' xF' xD' xR' xW' ym yO yI yL yT yS (upd yK (48 * q + c) 1) := ⟨m, ins, org, num, tg, st, mb, P, G, X, Y, hl, Q2⟩
      unfold wX_deliver_101
      exact wk _ (yw_deliver G Y R hq YR hp hc oc hn (fun _ => ⟨rfl, S⟩) (fun j ej hj => absurd (hcl j ej) hj))
    · unfold wpX_deliver
      dsimp only
      refine xw_rep hp (br_f (by decide) (xw_nrep hv (br_t rfl ?_)))
      unfold wpY_deliver
      dsimp only
      exact yw_ok hp (br_t rfl (yw_bad hv (br_f (by decide) ⟨rfl, I'⟩)))
  · unfold wpX_deliver
    dsimp only
    refine xw_nrep hv (br_t rfl ?_)
    unfold wpY_deliver
    dsimp only
    exact yw_bad hv (br_f (by decide) ⟨rfl, I'⟩)
section
variable {m : Nat} {ins : Nat → Bool} {org num tg st mb : Nat → Nat} {P : Nat → List Nat} {xm : Int32} {xI xO xN xL xA xS xT xB xC : Nat → Int32} {ym ys : Int32} {yO yI yL yT yS yX : Nat → Int32}
theorem rg_sync (G : rg_log m ins org num tg st mb P) (X : rg_xl m ins org num tg st mb xm xI xO xN xA xS xT xB xC) (Y : rg_yl m ins org tg st ym yO yI yT yS) {p q : Nat} (hp : p < 3) (hq : q < 3) :
    ∀ (k i : Nat) (xK xG xF xD xR xW yK : Nat → Int32), i + k = m → rg_Q mb m ins org num tg st mb P xK xG xF xD xR xW yK → (∀ d, d < i → yK (48 * p + d) ≠ 0 → yK (48 * q + d) ≠ 0) →
      ∃ xK' xG' xF' xD' xR' xW' yK' : Nat → Int32, rg_Q mb m ins org num tg st mb P xK' xG' xF' xD' xR' xW' yK' ∧
        (∀ post : Int32 → SX → Prop, post 0 (xm, xI, xO, xN, xL, xA, xS, xT, xB, xC, xK', xG', xF', xD', xR', xW') → wX_sync_18 post (nI p) (nI q) (k + 1) (nI i) xm xI xO xN xL xA xS xT xB xC xK xG xF xD xR xW) ∧
        (∀ post : Int32 → SY → Prop, post 0 (ym, ys, yO, yI, yL, yT, yS, yK', yX) → wY_sync_18 post (nI p) (nI q) ym ys (k + 1) (nI i) yO yI yL yT yS yK yX) := by
  obtain ⟨g1, g2, g3, g4, g5, g6, g7, g8, g9⟩ := id G
  intro k
  induction k with
  | zero =>
    intro i xK xG xF xD xR xW yK hi Q _
    have e : i = m := by omega
    subst e
    refine ⟨xK, xG, xF, xD, xR, xW, yK, Q, fun post h => ?_, fun post h => ?_⟩
    · rw [wX_sync_18]
      refine br_t ?_ h
      rw [X.1]
      exact nI_le (Nat.le_refl i) (by omega)
    · rw [wY_sync_18]
      refine br_t ?_ h
      rw [Y.1]
      exact nI_le (Nat.le_refl i) (by omega)
  | succ k ih =>
    intro i xK xG xF xD xR xW yK hi Q inv
    have him : i < m := by omega
    have gi := g2 i him
    obtain ⟨kp, Lp, tp, gp, kop, Rp, XRp, YRp⟩ := Q p hp
    obtain ⟨kq, Lq, tq, gq, koq, Rq, XRq, YRq⟩ := Q q hq
    have nx : ¬ xm ≤ nI i := by rw [X.1]; exact nI_ge him (by omega)
    have ny : ¬ ym ≤ nI i := by rw [Y.1]; exact nI_ge him (by omega)
    have vp : vp_in (nI (48 * p + i)) 144 := vp_in_nI (by omega) (by decide)
    have vq : vp_in (nI (48 * q + i)) 144 := vp_in_nI (by omega) (by decide)
    by_cases hkp : num i ≤ kp (org i)
    · have ypi : yK (48 * p + i) ≠ 0 := (rg_yk g1 YRp him).mpr hkp
      by_cases hkq : num i ≤ kq (org i)
      · have yqi : upd yK (48 * q + i) 1 = yK := by
          funext d
          by_cases e : d = 48 * q + i
          · rw [e, pk_us, YRq i (by omega), decide_eq_true ⟨him, hkq⟩]
            rfl
          · rw [pk_un e]
        obtain ⟨xK', xG', xF', xD', xR', xW', yK', Q', wX, wY⟩ := ih (i + 1) xK xG xF xD xR xW yK (by omega) Q (fun d hd hy => by
          by_cases e : d = i
          · rw [e]; exact (rg_yk g1 YRq him).mpr hkq
          · exact inv d (by omega) hy)
        refine ⟨xK', xG', xF', xD', xR', xW', yK', Q', fun post h => ?_, fun post h => ?_⟩
        · rw [wX_sync_18]
          exact br_f nx (xw_kn G X Rp hp XRp him (fun _ => br_f (by decide) (xw_kn G X Rq hq XRq him (fun _ => br_f (by decide) (nm_r (nI_1 i) (wX post h))) (fun z => absurd hkq z))) (fun z => absurd hkp z))
        · rw [wY_sync_18]
          dsimp only
          rw [rg_m48, nI_clamp (show 48 * p + i < 2 ^ 31 by omega), rg_m48, nI_clamp (show 48 * q + i < 2 ^ 31 by omega)]
          exact br_f ny ⟨vp, br_f ypi ⟨vq, nm_r yqi (nm_r (nI_1 i) (wY post h))⟩⟩
      · have hqd : ∀ d, d < i → num d ≤ kp (org d) → num d ≤ kq (org d) := fun d hd hk => (rg_yk g1 YRq (by omega)).mp (inv d hd ((rg_yk g1 YRp (by omega)).mpr hk))
        have hnum : num i = kq (org i) + 1 := by
          by_cases h1 : num i = 1
          · omega
          · have := Rp.1 (org i) gi.1
            obtain ⟨d, d1, d2, d3⟩ := g4 (org i) (num i - 1) gi.1 (by omega) (by omega)
            have hdi : d < i := by
              rcases Nat.lt_trichotomy d i with z | z | z
              · exact z
              · rw [z] at d3; omega
              · have := g3 i d z d1 d2.symm
                omega
            have := hqd d hdi (by rw [d2]; omega)
            rw [d2] at this
            omega
        have hcl : ∀ j, tg i = j + 1 → num j ≤ kq (org j) := fun j ej => hqd j (by omega) (Rp.2.1 i j him hkp ej)
        obtain ⟨xK1, xG1, xF1, xD1, xR1, xW1, Q1, wk⟩ := rg_learnQ (ow' := mb) (xL := xL) G X Q hq koq Rq XRq YRq him hnum hcl (fun _ _ _ => rfl) (fun z => by
          have h1 := gi.2.2.1
          rw [z] at h1 hnum
          rw [koq] at hnum
          omega) (fun _ => rfl)
        obtain ⟨xK', xG', xF', xD', xR', xW', yK', Q', wX, wY⟩ := ih (i + 1) xK1 xG1 xF1 xD1 xR1 xW1 (upd yK (48 * q + i) 1) (by omega) Q1 (fun d hd hy => by
          by_cases e : d = i
          · rw [e, pk_us]; decide
          · rw [pk_un (by omega)] at hy ⊢
            exact inv d (by omega) hy)
        refine ⟨xK', xG', xF', xD', xR', xW', yK', Q', fun post h => ?_, fun post h => ?_⟩
        · rw [wX_sync_18]
          exact br_f nx (xw_kn G X Rp hp XRp him (fun _ => br_f (by decide) (xw_kn G X Rq hq XRq him (fun z => absurd z hkq) (fun _ => br_t rfl (wk _ (nm_r (nI_1 i) (wX post h)))))) (fun z => absurd hkp z))
        · rw [wY_sync_18]
          dsimp only
          rw [rg_m48, nI_clamp (show 48 * p + i < 2 ^ 31 by omega), rg_m48, nI_clamp (show 48 * q + i < 2 ^ 31 by omega)]
          exact br_f ny ⟨vp, br_f ypi ⟨vq, nm_e (nm_r (nI_1 i) (wY post h))⟩⟩
    · have ypi : yK (48 * p + i) = 0 := by
        rw [YRp i (by omega), decide_eq_false (fun z => hkp z.2)]
        rfl
      obtain ⟨xK', xG', xF', xD', xR', xW', yK', Q', wX, wY⟩ := ih (i + 1) xK xG xF xD xR xW yK (by omega) Q (fun d hd hy => by
        by_cases e : d = i
        · rw [e] at hy; exact absurd ypi hy
        · exact inv d (by omega) hy)
      refine ⟨xK', xG', xF', xD', xR', xW', yK', Q', fun post h => ?_, fun post h => ?_⟩
      · rw [wX_sync_18]
        exact br_f nx (xw_kn G X Rp hp XRp him (fun z => absurd z hkp) (fun _ => br_t rfl (nm_r (nI_1 i) (wX post h))))
      · rw [wY_sync_18]
        dsimp only
        rw [rg_m48, nI_clamp (show 48 * p + i < 2 ^ 31 by omega)]
        exact br_f ny ⟨vp, br_t ypi (nm_r (nI_1 i) (wY post h))⟩
end
theorem i_vc_sync {k : Nat} {u : SX} {v : SY} (I : i_Rel k u v) (hk : k + 4 ≤ 2048) (v1 : Int32) (v2 : Int32) : wpX_sync (fun r u' => wpY_sync (fun r' v' => r' = r ∧ i_Rel (k + 4) u' v') v v1 v2) u v1 v2 := by
  obtain ⟨xm, xI, xO, xN, xL, xA, xS, xT, xB, xC, xK, xG, xF, xD, xR, xW⟩ := u
  obtain ⟨ym, ys, yO, yI, yL, yT, yS, yK, yX⟩ := v
  have I' : rg_S xm xI xO xN xL xA xS xT xB xC xK xG xF xD xR xW ym yO yI yL yT yS yK := I
  unfold wpX_sync
  dsimp only
  rcases rg_rc v1 with ⟨p, hp, rfl⟩ | hv
  · rcases rg_rc v2 with ⟨q, hq, rfl⟩ | hv
    · obtain ⟨m, ins, org, num, tg, st, mb, P, G, X, Y, hl, Q⟩ := id I'
      obtain ⟨xK', xG', xF', xD', xR', xW', yK', Q', wX, wY⟩ := rg_sync (xL := xL) (ys := ys) (yL := yL) (yX := yX) G X Y hp hq m 0 xK xG xF xD xR xW yK (by omega) Q (fun d hd => absurd hd (by omega))
      have S : rg_S xm xI xO xN xL xA xS xT xB xC xK' xG' xF' xD' xR' xW' ym yO yI yL yT yS yK' := ⟨m, ins, org, num, tg, st, mb, P, G, X, Y, hl, Q'⟩
      refine xw_rep hp (br_f (by decide) (xw_rep hq (br_f (by decide) ⟨m + 1, wX _ ?_⟩)))
      unfold wpY_sync
      dsimp only
      exact yw_ok hp (br_t rfl (yw_ok hq (br_t rfl ⟨m + 1, wY _ ⟨rfl, S⟩⟩)))
    · refine xw_rep hp (br_f (by decide) (xw_nrep hv (br_t rfl ?_)))
      unfold wpY_sync
      dsimp only
      exact yw_ok hp (br_t rfl (yw_bad hv (br_f (by decide) ⟨rfl, I'⟩)))
  · refine xw_nrep hv (br_t rfl ?_)
    unfold wpY_sync
    dsimp only
    exact yw_bad hv (br_f (by decide) ⟨rfl, I'⟩)
end
