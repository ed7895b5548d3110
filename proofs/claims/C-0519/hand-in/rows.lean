section
/-! rows pasted from the kit's PURE-ROWS (a starting text): pk_*, sb_m1 -/
theorem pk_us {f : Nat → Int32} {k : Nat} {x : Int32} : upd f k x k = x := if_pos rfl
theorem pk_un {f : Nat → Int32} {k j : Nat} {x : Int32} (h : j ≠ k) : upd f k x j = f j := if_neg h
theorem pk_sub {a b : Nat} (h : b ≤ a) : nI a - nI b = nI (a - b) := by
  obtain ⟨c, rfl⟩ : ∃ c, a = c + b := ⟨a - b, by omega⟩
  rw [← nI_add, Int32.add_sub_cancel, Nat.add_sub_cancel]
theorem pk_m1 (n : Nat) : nI (n + 1) + (-1) = nI n := by
  rw [← nI_1, Int32.add_assoc, show (1 : Int32) + (-1) = 0 from rfl, Int32.add_zero]
theorem pk_mul (a b : Nat) : nI a * nI b = nI (a * b) := (Int32.ofNat_mul a b).symm
theorem pk_div {a d : Nat} (ha : a < 2 ^ 31) (h0 : 0 < d) (hd : d < 2 ^ 31) : nI a / nI d = nI (a / d) := by
  apply Int32.toInt_inj.mp
  rw [lg_idiv_nonneg (by rw [nI_toInt ha]; omega) (by rw [nI_toInt hd]; omega), nI_toInt ha, nI_toInt hd, nI_toInt (Nat.lt_of_le_of_lt (Nat.div_le_self a d) ha)]
  first | rfl | exact (Int.natCast_ediv _ _).symm
theorem pk_le {x y : Int32} {A B : Prop} (a b : Nat) (f : a ≤ b → A) (g : b < a → B) (hx : x = nI a := by rfl) (hy : y = nI b := by rfl) (ha : a < 2 ^ 31 := by omega) (hb : b < 2 ^ 31 := by omega) : (x ≤ y → A) ∧ (¬ x ≤ y → B) := by
  subst hx hy
  rw [nI_leI ha hb]
  exact ⟨f, fun z => g (by omega)⟩
theorem pk_lt {x y : Int32} {A B : Prop} (a b : Nat) (f : a < b → A) (g : b ≤ a → B) (hx : x = nI a := by rfl) (hy : y = nI b := by rfl) (ha : a < 2 ^ 31 := by omega) (hb : b < 2 ^ 31 := by omega) : (x < y → A) ∧ (¬ x < y → B) := by
  subst hx hy
  rw [nI_ltI ha hb]
  exact ⟨f, fun z => g (by omega)⟩
theorem pk_eq {x y : Int32} {A B : Prop} (a b : Nat) (f : a = b → A) (g : a ≠ b → B) (hx : x = nI a := by rfl) (hy : y = nI b := by rfl) (ha : a < 2 ^ 31 := by omega) (hb : b < 2 ^ 31 := by omega) : (x = y → A) ∧ (¬ x = y → B) := by
  subst hx hy
  rw [nI_eq ha hb]
  exact ⟨f, g⟩
theorem pk_in {x : Int32} (n N : Nat) (h : n < N) (hx : x = nI n := by rfl) (hN : N < 2 ^ 31 := by omega) : vp_in x N := by
  subst hx
  exact vp_in_nI h hN
theorem pk_cl {x : Int32} (n : Nat) (hx : x = nI n := by rfl) (h : n < 2 ^ 31 := by omega) : x.toNatClampNeg = n := by
  subst hx
  exact nI_clamp h
theorem sb_m1 {p : Nat} (h : 0 < p) : nI p + (-1) = nI (p - 1) := by
  obtain ⟨q, rfl⟩ : ∃ q, p = q + 1 := ⟨p - 1, by omega⟩
  rw [pk_m1]; rfl
/-! own rows: numbers -/
theorem tx_a2 (a : Nat) : nI a + 2 = nI (a + 2) := nI_add a 2
theorem tx_2a (a : Nat) : 2 + nI a = nI (2 + a) := nI_add 2 a
theorem tx_m6 (a : Nat) : 6 * nI a = nI (6 * a) := pk_mul 6 a
theorem tx_m48 (a : Nat) : 48 * nI a = nI (48 * a) := pk_mul 48 a
theorem tx_s1 {a : Nat} (h : 1 ≤ a) : nI a - 1 = nI (a - 1) := pk_sub h
theorem tx_n {a b : Nat} (h : a = b) : nI a = nI b := congrArg nI h
/-! own rows: lists by index -/
theorem tx_gl {α : Type} {d : α} (B : List α) : ∀ (A : List α) (i : Nat), i < A.length → (A ++ B).getD i d = A.getD i d
  | [], i, h => absurd h (Nat.not_lt_zero i)
  | _ :: _, 0, _ => rfl
  | _ :: A, i + 1, h => tx_gl B A i (Nat.lt_of_succ_lt_succ h)
theorem tx_gr {α : Type} {d : α} (B : List α) : ∀ (A : List α) (i : Nat), (A ++ B).getD (A.length + i) d = B.getD i d
  | [], i => by rw [List.length_nil, Nat.zero_add]; rfl
  | a :: A, i => by
    rw [List.length_cons, show A.length + 1 + i = (A.length + i) + 1 from by omega]
    exact tx_gr B A i
theorem tx_gm {α : Type} {d x : α} (A B : List α) : (A ++ x :: B).getD A.length d = x := tx_gr (x :: B) A 0
theorem tx_gmem {α : Type} {d : α} : ∀ (A : List α) (i : Nat), i < A.length → A.getD i d ∈ A
  | [], i, h => absurd h (Nat.not_lt_zero i)
  | _ :: _, 0, _ => List.mem_cons_self
  | _ :: A, i + 1, h => List.mem_cons_of_mem _ (tx_gmem A i (Nat.lt_of_succ_lt_succ h))
theorem tx_ext {α : Type} {d : α} : ∀ (A B : List α), A.length = B.length → (∀ i, i < A.length → A.getD i d = B.getD i d) → A = B
  | [], [], _, _ => rfl
  | [], _ :: _, h, _ => absurd h (by simp)
  | _ :: _, [], h, _ => absurd h (by simp)
  | a :: A, b :: B, h, k => by
    have h0 : a = b := k 0 (Nat.succ_pos _)
    have h1 : A = B := tx_ext A B (Nat.succ.inj h) (fun i hi => k (i + 1) (Nat.succ_lt_succ hi))
    rw [h0, h1]
theorem tx_split {α : Type} : ∀ (A : List α) (i : Nat), i < A.length → ∃ B x C, A = B ++ x :: C ∧ B.length = i
  | [], i, h => absurd h (Nat.not_lt_zero i)
  | a :: A, 0, _ => ⟨[], a, A, rfl, rfl⟩
  | a :: A, i + 1, h => by
    obtain ⟨B, x, C, e, l⟩ := tx_split A i (Nat.lt_of_succ_lt_succ h)
    exact ⟨a :: B, x, C, by rw [e]; rfl, by rw [← l]; rfl⟩
theorem tx_cut {α : Type} : ∀ (A : List α) (i : Nat), i ≤ A.length → ∃ B C, A = B ++ C ∧ B.length = i
  | A, 0, _ => ⟨[], A, rfl, rfl⟩
  | [], i + 1, h => absurd h (by simp)
  | a :: A, i + 1, h => by
    obtain ⟨B, C, e, l⟩ := tx_cut A i (Nat.le_of_succ_le_succ h)
    exact ⟨a :: B, C, by rw [e]; rfl, by rw [← l]; rfl⟩
/-! own rows: counts -/
noncomputable def tx_b (p : Prop) : Nat := @ite Nat p (Classical.propDecidable p) 1 0
theorem tx_b1 {p : Prop} (h : p) : tx_b p = 1 := @if_pos p (Classical.propDecidable p) h Nat 1 0
theorem tx_b0 {p : Prop} (h : ¬ p) : tx_b p = 0 := @if_neg p (Classical.propDecidable p) h Nat 1 0
noncomputable def tx_cn {α : Type} (p : α → Prop) : List α → Nat
  | [] => 0
  | a :: l => tx_b (p a) + tx_cn p l
theorem tx_cnA {α : Type} (p : α → Prop) (B : List α) : ∀ A : List α, tx_cn p (A ++ B) = tx_cn p A + tx_cn p B
  | [] => by rw [List.nil_append]; exact (Nat.zero_add _).symm
  | a :: A => by
    show tx_b (p a) + tx_cn p (A ++ B) = tx_b (p a) + tx_cn p A + tx_cn p B
    rw [tx_cnA p B A]; omega
theorem tx_cnP {α : Type} (p : α → Prop) {A B : List α} (h : A.Perm B) : tx_cn p A = tx_cn p B := by
  induction h with
  | nil => rfl
  | cons x _ ih => show tx_b (p x) + _ = tx_b (p x) + _; rw [ih]
  | swap x y l => show tx_b (p y) + (tx_b (p x) + tx_cn p l) = tx_b (p x) + (tx_b (p y) + tx_cn p l); omega
  | trans _ _ i1 i2 => exact i1.trans i2
theorem tx_cn1 {α : Type} {p : α → Prop} : ∀ A : List α, (∀ a, a ∈ A → p a) → tx_cn p A = A.length
  | [], _ => rfl
  | a :: A, h => by
    show tx_b (p a) + tx_cn p A = A.length + 1
    rw [tx_b1 (h a List.mem_cons_self), tx_cn1 A (fun b hb => h b (List.mem_cons_of_mem _ hb))]; omega
theorem tx_cn0 {α : Type} {p : α → Prop} : ∀ A : List α, (∀ a, a ∈ A → ¬ p a) → tx_cn p A = 0
  | [], _ => rfl
  | a :: A, h => by
    show tx_b (p a) + tx_cn p A = 0
    rw [tx_b0 (h a List.mem_cons_self), tx_cn0 A (fun b hb => h b (List.mem_cons_of_mem _ hb))]
theorem tx_cnC {α : Type} {p : α → Prop} {A B : List α} (h : ∀ a, a ∈ A → p a) (g : ∀ a, a ∈ B → ¬ p a) : tx_cn p (A ++ B) = A.length := by
  rw [tx_cnA, tx_cn1 A h, tx_cn0 B g]; rfl
theorem tx_cnL {α : Type} (p : α → Prop) : ∀ A : List α, tx_cn p A ≤ A.length
  | [] => Nat.le_refl 0
  | a :: A => by
    show tx_b (p a) + tx_cn p A ≤ A.length + 1
    have := tx_cnL p A
    rcases Classical.em (p a) with h | h
    · rw [tx_b1 h]; omega
    · rw [tx_b0 h]; omega
theorem tx_cnG {α : Type} {p q : α → Prop} : ∀ A : List α, (∀ a, a ∈ A → (p a ↔ q a)) → tx_cn p A = tx_cn q A
  | [], _ => rfl
  | a :: A, h => by
    show tx_b (p a) + tx_cn p A = tx_b (q a) + tx_cn q A
    rw [tx_cnG A (fun b hb => h b (List.mem_cons_of_mem _ hb)), propext (h a List.mem_cons_self)]
theorem tx_cnO {α : Type} {p q r : α → Prop} : ∀ A : List α, (∀ a, a ∈ A → ((r a ↔ p a ∨ q a) ∧ ¬ (p a ∧ q a))) → tx_cn r A = tx_cn p A + tx_cn q A
  | [], _ => rfl
  | a :: A, h => by
    show tx_b (r a) + tx_cn r A = (tx_b (p a) + tx_cn p A) + (tx_b (q a) + tx_cn q A)
    rw [tx_cnO A (fun b hb => h b (List.mem_cons_of_mem _ hb))]
    obtain ⟨h1, h2⟩ := h a List.mem_cons_self
    rcases Classical.em (p a) with hp | hp
    · have hq : ¬ q a := fun hq => h2 ⟨hp, hq⟩
      rw [tx_b1 hp, tx_b0 hq, tx_b1 (h1.mpr (Or.inl hp))]; omega
    · rcases Classical.em (q a) with hq | hq
      · rw [tx_b0 hp, tx_b1 hq, tx_b1 (h1.mpr (Or.inr hq))]; omega
      · rw [tx_b0 hp, tx_b0 hq, tx_b0 (fun hr => (h1.mp hr).elim hp hq)]; omega
end
section
/-! terms are lists of letters; letters in common from the beginning; the order -/
def tx_sh : List Int32 → List Int32 → Nat
  | a :: s, b :: t => if a = b then tx_sh s t + 1 else 0
  | _, _ => 0
theorem tx_shP : ∀ a b : List Int32, tx_sh a b ≤ a.length ∧ tx_sh a b ≤ b.length ∧ (∀ i, i < tx_sh a b → a.getD i 0 = b.getD i 0) ∧ (tx_sh a b < a.length → tx_sh a b < b.length → a.getD (tx_sh a b) 0 ≠ b.getD (tx_sh a b) 0)
  | [], b => by
    have e : tx_sh [] b = 0 := by cases b <;> rfl
    rw [e]
    exact ⟨Nat.zero_le _, Nat.zero_le _, fun i h => absurd h (Nat.not_lt_zero i), fun h => absurd h (Nat.lt_irrefl 0)⟩
  | x :: s, [] => by
    have e : tx_sh (x :: s) [] = 0 := rfl
    rw [e]
    exact ⟨Nat.zero_le _, Nat.zero_le _, fun i h => absurd h (Nat.not_lt_zero i), fun _ h => absurd h (Nat.lt_irrefl 0)⟩
  | x :: s, y :: t => by
    obtain ⟨h1, h2, h3, h4⟩ := tx_shP s t
    by_cases e : x = y
    · have q : tx_sh (x :: s) (y :: t) = tx_sh s t + 1 := if_pos e
      rw [q]
      refine ⟨Nat.succ_le_succ h1, Nat.succ_le_succ h2, ?_, fun a b => h4 (Nat.lt_of_succ_lt_succ a) (Nat.lt_of_succ_lt_succ b)⟩
      intro i hi
      cases i with
      | zero => exact e
      | succ i => exact h3 i (Nat.lt_of_succ_lt_succ hi)
    · have q : tx_sh (x :: s) (y :: t) = 0 := if_neg e
      rw [q]
      exact ⟨Nat.zero_le _, Nat.zero_le _, fun i h => absurd h (Nat.not_lt_zero i), fun _ _ => e⟩
theorem tx_shU {a b : List Int32} {r : Nat} (h1 : r ≤ a.length) (h2 : r ≤ b.length) (h3 : ∀ i, i < r → a.getD i 0 = b.getD i 0) (h4 : r < a.length → r < b.length → a.getD r 0 ≠ b.getD r 0) : tx_sh a b = r := by
  obtain ⟨g1, g2, g3, g4⟩ := tx_shP a b
  rcases Nat.lt_trichotomy (tx_sh a b) r with h | h | h
  · exact absurd (h3 _ h) (g4 (by omega) (by omega))
  · exact h
  · exact absurd (g3 _ h) (h4 (by omega) (by omega))
theorem tx_shG {a b : List Int32} {r : Nat} (h1 : r ≤ a.length) (h2 : r ≤ b.length) (h3 : ∀ i, i < r → a.getD i 0 = b.getD i 0) : r ≤ tx_sh a b := by
  obtain ⟨g1, g2, g3, g4⟩ := tx_shP a b
  rcases Nat.lt_or_ge (tx_sh a b) r with h | h
  · exact absurd (h3 _ h) (g4 (by omega) (by omega))
  · exact h
theorem tx_shC (a b : List Int32) : tx_sh a b = tx_sh b a := by
  obtain ⟨g1, g2, g3, g4⟩ := tx_shP b a
  exact tx_shU g2 g1 (fun i h => (g3 i h).symm) (fun p q e => g4 q p e.symm)
theorem tx_shS (a : List Int32) : tx_sh a a = a.length := tx_shU (Nat.le_refl _) (Nat.le_refl _) (fun _ _ => rfl) (fun h => absurd h (Nat.lt_irrefl _))
theorem tx_shN (a : List Int32) : tx_sh [] a = 0 := by cases a <;> rfl
theorem tx_shE {a b : List Int32} (h : tx_sh a b = b.length) (e : a.length = b.length) : a = b := by
  refine tx_ext (d := 0) a b e (fun i hi => (tx_shP a b).2.2.1 i (by omega))
def tx_v (t : List Int32) (i : Nat) : Int := (t.getD i 0).toInt
theorem tx_vI {a b : List Int32} {i : Nat} : tx_v a i = tx_v b i ↔ a.getD i 0 = b.getD i 0 := Int32.toInt_inj
theorem tx_shV (a b : List Int32) : tx_sh a b ≤ a.length ∧ tx_sh a b ≤ b.length ∧ (∀ i, i < tx_sh a b → tx_v a i = tx_v b i) ∧ (tx_sh a b < a.length → tx_sh a b < b.length → tx_v a (tx_sh a b) ≠ tx_v b (tx_sh a b)) := by
  obtain ⟨g1, g2, g3, g4⟩ := tx_shP a b
  exact ⟨g1, g2, fun i h => tx_vI.mpr (g3 i h), fun p q e => g4 p q (tx_vI.mp e)⟩
theorem tx_shW {a b : List Int32} {r : Nat} (h1 : r ≤ a.length) (h2 : r ≤ b.length) (h3 : ∀ i, i < r → tx_v a i = tx_v b i) (h4 : r < a.length → r < b.length → tx_v a r ≠ tx_v b r) : tx_sh a b = r :=
  tx_shU h1 h2 (fun i h => tx_vI.mp (h3 i h)) (fun p q e => h4 p q (tx_vI.mpr e))
theorem tx_ult (a b c : List Int32) : (tx_sh a b < tx_sh b c → tx_sh a c = tx_sh a b) ∧ (tx_sh b c < tx_sh a b → tx_sh a c = tx_sh b c) ∧ (tx_sh a b = tx_sh b c → tx_sh a b ≤ tx_sh a c) := by
  obtain ⟨a1, a2, a3, a4⟩ := tx_shP a b
  obtain ⟨b1, b2, b3, b4⟩ := tx_shP b c
  refine ⟨fun h => ?_, fun h => ?_, fun h => ?_⟩
  · refine tx_shU a1 (by omega) (fun i hi => (a3 i hi).trans (b3 i (by omega))) (fun p _ e => a4 p (by omega) (e.trans (b3 _ h).symm))
  · refine tx_shU (by omega) b2 (fun i hi => (a3 i (by omega)).trans (b3 i hi)) (fun _ q e => b4 (by omega) q ((a3 _ h).symm.trans e))
  · exact tx_shG a1 (by omega) (fun i hi => (a3 i hi).trans (b3 i (by omega)))
/-- term t counts as less than the key K; with past, terms that begin with the key count too -/
def tx_P (past : Bool) (K t : List Int32) : Prop := (tx_sh t K = K.length ∧ past = true) ∨ (tx_sh t K < K.length ∧ (tx_sh t K = t.length ∨ tx_v t (tx_sh t K) < tx_v K (tx_sh t K)))
def tx_lt (s t : List Int32) : Prop := tx_sh s t < t.length ∧ (tx_sh s t = s.length ∨ tx_v s (tx_sh s t) < tx_v t (tx_sh s t))
theorem tx_ltP {s t : List Int32} : tx_lt s t ↔ tx_P false t s := by
  constructor
  · intro h; exact Or.inr h
  · intro h
    rcases h with h | h
    · exact absurd h.2 (by decide)
    · exact h
theorem tx_down {past : Bool} {K s t : List Int32} (h : tx_lt s t) (p : tx_P past K t) : tx_P past K s := by
  obtain ⟨a1, a2, a3, a4⟩ := tx_shV s t
  obtain ⟨b1, b2, b3, b4⟩ := tx_shV t K
  obtain ⟨c1, c2, c3, c4⟩ := tx_shV s K
  obtain ⟨l1, l2⟩ := h
  obtain ⟨u1, u2, u3⟩ := tx_ult s t K
  rcases Nat.lt_trichotomy (tx_sh s t) (tx_sh t K) with q | q | q
  · have e := u1 q
    refine Or.inr ⟨by omega, ?_⟩
    rw [e]
    rcases l2 with l2 | l2
    · exact Or.inl l2
    · exact Or.inr (by have := b3 _ q; omega)
  · have e3 := u3 q
    rcases p with p | p
    · exact Or.inl ⟨by omega, p.2⟩
    · obtain ⟨p1, p2⟩ := p
      rcases p2 with p2 | p2
      · omega
      · rcases l2 with l2 | l2
        · exact Or.inr ⟨by omega, Or.inl (by omega)⟩
        · rw [q] at l2
          have e : tx_sh s K = tx_sh t K := tx_shW (by omega) (by omega) (fun i hi => (a3 i (by omega)).trans (b3 i hi)) (fun _ _ => by omega)
          exact Or.inr ⟨by omega, Or.inr (by rw [e]; omega)⟩
  · have e := u2 q
    rcases p with p | p
    · exact Or.inl ⟨e.trans p.1, p.2⟩
    · obtain ⟨p1, p2⟩ := p
      rcases p2 with p2 | p2
      · omega
      · exact Or.inr ⟨by omega, Or.inr (by rw [e]; have := a3 _ q; omega)⟩
theorem tx_trans {a b c : List Int32} (h : tx_lt a b) (g : tx_lt b c) : tx_lt a c := tx_ltP.mpr (tx_down h (tx_ltP.mp g))
theorem tx_irr (a : List Int32) : ¬ tx_lt a a := by
  intro h
  have := h.1
  rw [tx_shS] at this
  omega
theorem tx_asym {a b : List Int32} (h : tx_lt a b) : ¬ tx_lt b a := fun g => tx_irr a (tx_trans h g)
theorem tx_tri {a b : List Int32} (h : ¬ tx_lt a b) (g : a ≠ b) : tx_lt b a := by
  obtain ⟨a1, a2, a3, a4⟩ := tx_shV a b
  have e : tx_sh b a = tx_sh a b := tx_shC b a
  unfold tx_lt at h ⊢
  rw [e]
  by_cases hb : tx_sh a b < b.length
  · have h1 : tx_sh a b ≠ a.length := fun z => h ⟨hb, Or.inl z⟩
    have h2 : ¬ tx_v a (tx_sh a b) < tx_v b (tx_sh a b) := fun z => h ⟨hb, Or.inr z⟩
    have h3 := a4 (by omega) hb
    exact ⟨by omega, Or.inr (by omega)⟩
  · have h1 : tx_sh a b ≠ a.length := fun z => g (tx_shE (by omega) (by omega))
    exact ⟨by omega, Or.inl (by omega)⟩
theorem tx_sc1 {past : Bool} {K q t : List Int32} (h : tx_lt q t) (hs : tx_sh q t < tx_sh q K) : ¬ tx_P past K t := by
  obtain ⟨a1, a2, a3, a4⟩ := tx_shV q t
  obtain ⟨b1, b2, b3, b4⟩ := tx_shV q K
  obtain ⟨u1, u2, u3⟩ := tx_ult t q K
  have e : tx_sh t q = tx_sh q t := tx_shC t q
  rw [e] at u1
  have e2 := u1 hs
  have e3 := b3 _ hs
  obtain ⟨l1, l2⟩ := h
  intro p
  unfold tx_P at p
  rw [e2] at p
  rcases p with p | p
  · omega
  · rcases l2 with l2 | l2
    · omega
    · rcases p.2 with p2 | p2 <;> omega
theorem tx_sc2 {past : Bool} {K q t : List Int32} (p : tx_P past K q) (hs : tx_sh q K < tx_sh q t) : tx_P past K t ∧ tx_sh t K = tx_sh q K := by
  obtain ⟨a1, a2, a3, a4⟩ := tx_shV q t
  obtain ⟨b1, b2, b3, b4⟩ := tx_shV q K
  obtain ⟨u1, u2, u3⟩ := tx_ult t q K
  have e : tx_sh t q = tx_sh q t := tx_shC t q
  rw [e] at u2
  have e2 := u2 hs
  have e3 := a3 _ hs
  refine ⟨?_, e2⟩
  unfold tx_P at p ⊢
  rw [e2]
  rcases p with p | p
  · exact Or.inl p
  · rcases p.2 with p2 | p2
    · omega
    · exact Or.inr ⟨p.1, Or.inr (by omega)⟩
theorem tx_sc3 {K q t : List Int32} (hs : tx_sh q t = tx_sh q K) : tx_sh q K ≤ tx_sh t K := by
  have u := (tx_ult t q K).2.2
  rw [tx_shC t q] at u
  rw [← hs]
  exact u hs
theorem tx_cm1 {K q t : List Int32} (h : tx_lt t q) (p : tx_P false K q) : tx_sh t K ≤ tx_sh q K := by
  obtain ⟨a1, a2, a3, a4⟩ := tx_shV t q
  obtain ⟨b1, b2, b3, b4⟩ := tx_shV q K
  obtain ⟨c1, c2, c3, c4⟩ := tx_shV t K
  obtain ⟨u1, u2, u3⟩ := tx_ult t q K
  obtain ⟨l1, l2⟩ := h
  rcases Nat.lt_trichotomy (tx_sh t q) (tx_sh q K) with w | w | w
  · have := u1 w; omega
  · rcases l2 with l2 | l2
    · omega
    · rcases p with p | p
      · exact absurd p.2 (by decide)
      · rcases p.2 with p2 | p2
        · omega
        · rw [w] at l2
          have e : tx_sh t K = tx_sh q K := tx_shW (by omega) (by omega) (fun i hi => (a3 i (by omega)).trans (b3 i hi)) (fun _ _ => by omega)
          omega
  · have := u2 w; omega
theorem tx_cm2 {K q t : List Int32} (h : tx_lt q t) (p : ¬ tx_P false K q) : tx_sh t K ≤ tx_sh q K := by
  obtain ⟨a1, a2, a3, a4⟩ := tx_shV q t
  obtain ⟨b1, b2, b3, b4⟩ := tx_shV q K
  obtain ⟨c1, c2, c3, c4⟩ := tx_shV t K
  obtain ⟨u1, u2, u3⟩ := tx_ult t q K
  have e0 : tx_sh t q = tx_sh q t := tx_shC t q
  rw [e0] at u1 u2 u3
  obtain ⟨l1, l2⟩ := h
  rcases Nat.lt_trichotomy (tx_sh q t) (tx_sh q K) with w | w | w
  · have := u1 w; omega
  · by_cases hK : tx_sh q K < K.length
    · have h1 : tx_sh q K ≠ q.length := fun z => p (Or.inr ⟨hK, Or.inl z⟩)
      have h2 : ¬ tx_v q (tx_sh q K) < tx_v K (tx_sh q K) := fun z => p (Or.inr ⟨hK, Or.inr z⟩)
      rcases l2 with l2 | l2
      · omega
      · rw [w] at l2
        have e : tx_sh t K = tx_sh q K := tx_shW (by omega) (by omega) (fun i hi => (a3 i (by omega)).symm.trans (b3 i hi)) (fun _ _ => by omega)
        omega
    · omega
  · have := u2 w; omega
/-- the key itself does not come before the key, and a term equal to it shares all -/
theorem tx_Pt {K t : List Int32} : tx_P true K t ↔ tx_P false K t ∨ tx_sh t K = K.length := by
  unfold tx_P
  constructor
  · intro h
    rcases h with h | h
    · exact Or.inr h.1
    · exact Or.inl (Or.inr h)
  · intro h
    rcases h with h | h
    · rcases h with h | h
      · exact absurd h.2 (by decide)
      · exact Or.inr h
    · exact Or.inl ⟨h, rfl⟩
theorem tx_Pd {K t : List Int32} : ¬ (tx_P false K t ∧ tx_sh t K = K.length) := by
  unfold tx_P
  intro h
  rcases h.1 with g | g
  · exact absurd g.2 (by decide)
  · have := h.2; omega
/-! sorted rows of terms -/
theorem tx_np {past : Bool} {K t : List Int32} {R : List (List Int32)} (h : (t :: R).Pairwise tx_lt) (p : ¬ tx_P past K t) : ∀ u, u ∈ t :: R → ¬ tx_P past K u := by
  intro u hu
  rcases List.mem_cons.mp hu with rfl | hu
  · exact p
  · exact fun g => p (tx_down ((List.pairwise_cons.mp h).1 u hu) g)
theorem tx_mid {A B : List (List Int32)} {t : List Int32} (h : (A ++ t :: B).Pairwise tx_lt) : (∀ a, a ∈ A → tx_lt a t) ∧ (∀ b, b ∈ B → tx_lt t b) ∧ (A ++ B).Pairwise tx_lt ∧ (∀ a, a ∈ A → ∀ b, b ∈ B → tx_lt a b) := by
  obtain ⟨h1, h2, h3⟩ := List.pairwise_append.mp h
  obtain ⟨h4, h5⟩ := List.pairwise_cons.mp h2
  exact ⟨fun a ha => h3 a ha t List.mem_cons_self, h4, List.pairwise_append.mpr ⟨h1, h5, fun a ha b hb => h3 a ha b (List.mem_cons_of_mem _ hb)⟩, fun a ha b hb => h3 a ha b (List.mem_cons_of_mem _ hb)⟩
/-- the rank of a term of a sorted row is its place -/
theorem tx_rank {A B : List (List Int32)} {t : List Int32} (h : (A ++ t :: B).Pairwise tx_lt) : tx_cn (fun s => tx_lt s t) (A ++ t :: B) = A.length := by
  obtain ⟨h1, h2, _, _⟩ := tx_mid h
  refine tx_cnC h1 (fun b hb => ?_)
  rcases List.mem_cons.mp hb with rfl | hb
  · exact tx_irr _
  · exact tx_asym (h2 b hb)
theorem tx_ins {A B : List (List Int32)} {t : List Int32} (h : (A ++ B).Pairwise tx_lt) (h1 : ∀ a, a ∈ A → tx_lt a t) (h2 : ∀ b, b ∈ B → tx_lt t b) : (A ++ t :: B).Pairwise tx_lt := by
  obtain ⟨g1, g2, g3⟩ := List.pairwise_append.mp h
  refine List.pairwise_append.mpr ⟨g1, List.pairwise_cons.mpr ⟨h2, g2⟩, fun a ha b hb => ?_⟩
  rcases List.mem_cons.mp hb with rfl | hb
  · exact h1 a ha
  · exact g3 a ha b hb
end
section
/-! how terms, entries, blocks and lists lie in the arrays -/
def tx_KE (key : Nat → Int32) (K : List Int32) : Prop := K.length ≤ 6 ∧ ∀ i, i < K.length → key i = K.getD i 0
def tx_ok (T : List (List Int32)) : Prop := ∀ t, t ∈ T → 1 ≤ t.length ∧ t.length ≤ 6
/-- the entry at p holds the term t, of which s letters are those of the term before -/
def tx_En (da : Nat → Int32) (p s : Nat) (t : List Int32) : Prop := s ≤ t.length ∧ da p = nI s ∧ da (p + 1) = nI (t.length - s) ∧ ∀ i, s ≤ i → i < t.length → da (p + 2 + i - s) = t.getD i 0
/-- from p on the entries of these terms, behind the term q -/
def tx_Bl (da : Nat → Int32) : List (List Int32) → Nat → List Int32 → Prop
  | [], _, _ => True
  | t :: ts, p, q => tx_En da p (tx_sh q t) t ∧ tx_Bl da ts (p + 2 + (t.length - tx_sh q t)) t
theorem tx_EnC {da da' : Nat → Int32} {p s : Nat} {t : List Int32} (h : tx_En da p s t) (c : ∀ j, p ≤ j → j < p + 2 + (t.length - s) → da' j = da j) : tx_En da' p s t := by
  obtain ⟨e1, e2, e3, e4⟩ := h
  refine ⟨e1, by rw [c p (by omega) (by omega)]; exact e2, by rw [c (p + 1) (by omega) (by omega)]; exact e3, fun i hi ht => ?_⟩
  rw [c _ (by omega) (by omega)]
  exact e4 i hi ht
theorem tx_BlC {da da' : Nat → Int32} : ∀ (ts : List (List Int32)) (p : Nat) (q : List Int32), (∀ t, t ∈ ts → t.length ≤ 6) → (∀ j, p ≤ j → j < p + 8 * ts.length → da' j = da j) → tx_Bl da ts p q → tx_Bl da' ts p q
  | [], _, _, _, _, _ => True.intro
  | t :: ts, p, q, h, c, b => by
    have h6 := h t List.mem_cons_self
    have s6 := (tx_shP q t).2.1
    rw [List.length_cons] at c
    refine And.intro (tx_EnC b.1 (fun j h1 h2 => c j h1 (by omega))) ?_
    exact tx_BlC ts _ _ (fun u hu => h u (List.mem_cons_of_mem _ hu)) (fun j h1 h2 => c j (by omega) (by omega)) b.2
def tx_TE (f g : Nat → Int32) (k : Nat) (t : List Int32) : Prop := g k = nI t.length ∧ ∀ i, i < t.length → f (6 * k + i) = t.getD i 0
def tx_LE (f g : Nat → Int32) (T : List (List Int32)) : Prop := ∀ k, k < T.length → tx_TE f g k (T.getD k [])
theorem tx_LE0 (f g : Nat → Int32) : tx_LE f g [] := fun k h => absurd h (Nat.not_lt_zero k)
theorem tx_LEm {f g : Nat → Int32} {A B : List (List Int32)} {t : List Int32} (h : tx_LE f g (A ++ t :: B)) : tx_TE f g A.length t := by
  have := h A.length (by simp)
  rw [tx_gm] at this
  exact this
theorem tx_LEs {f g f' g' : Nat → Int32} {T : List (List Int32)} {t : List Int32} (h : tx_LE f g T) (ok : ∀ t, t ∈ T → t.length ≤ 6) (hf : ∀ j, j < 6 * T.length → f' j = f j) (hg : ∀ j, j < T.length → g' j = g j) (ht : tx_TE f' g' T.length t) : tx_LE f' g' (T ++ [t]) := by
  intro k hk
  rw [List.length_append, List.length_singleton] at hk
  by_cases e : k < T.length
  · rw [tx_gl _ _ _ e]
    obtain ⟨h1, h2⟩ := h k e
    have h6 := ok _ (tx_gmem (d := []) T k e)
    exact ⟨by rw [hg k e]; exact h1, fun i hi => by rw [hf _ (by omega)]; exact h2 i hi⟩
  · have e' : k = T.length := by omega
    subst e'
    rw [tx_gm]
    exact ht
/-- a row of terms is given by its length and its places -/
theorem tx_LEi {f g : Nat → Int32} {A B : List (List Int32)} {t : List Int32} (h1 : ∀ k, k < A.length → tx_TE f g k (A.getD k [])) (h2 : tx_TE f g A.length t) (h3 : ∀ k, k < B.length → tx_TE f g (A.length + 1 + k) (B.getD k [])) : tx_LE f g (A ++ t :: B) := by
  intro k hk
  rw [List.length_append, List.length_cons] at hk
  rcases Nat.lt_trichotomy k A.length with e | e | e
  · rw [tx_gl _ _ _ e]; exact h1 k e
  · subst e; rw [tx_gm]; exact h2
  · obtain ⟨j, rfl⟩ : ∃ j, k = A.length + (j + 1) := ⟨k - A.length - 1, by omega⟩
    rw [tx_gr]
    have := h3 j (by omega)
    rw [show A.length + 1 + j = A.length + (j + 1) from by omega] at this
    exact this
theorem tx_LEj {f g : Nat → Int32} {A B : List (List Int32)} (h1 : ∀ k, k < A.length → tx_TE f g k (A.getD k [])) (h3 : ∀ k, k < B.length → tx_TE f g (A.length + k) (B.getD k [])) : tx_LE f g (A ++ B) := by
  intro k hk
  rw [List.length_append] at hk
  rcases Nat.lt_or_ge k A.length with e | e
  · rw [tx_gl _ _ _ e]; exact h1 k e
  · obtain ⟨j, rfl⟩ : ∃ j, k = A.length + j := ⟨k - A.length, by omega⟩
    rw [tx_gr]
    exact h3 j (by omega)
theorem tx_LEl {f g : Nat → Int32} {A B : List (List Int32)} (h : tx_LE f g (A ++ B)) : tx_LE f g A := by
  intro k hk
  have := h k (by rw [List.length_append]; omega)
  rw [tx_gl _ _ _ hk] at this
  exact this
theorem tx_LEr {f g : Nat → Int32} {A B : List (List Int32)} (h : tx_LE f g (A ++ B)) : ∀ k, k < B.length → tx_TE f g (A.length + k) (B.getD k []) := by
  intro k hk
  have := h (A.length + k) (by rw [List.length_append]; omega)
  rw [tx_gr] at this
  exact this
/-! blocks: a slot and its terms -/
def tx_fl : List (Nat × List (List Int32)) → List (List Int32)
  | [] => []
  | d :: D => d.2 ++ tx_fl D
theorem tx_flA (B : List (Nat × List (List Int32))) : ∀ A : List (Nat × List (List Int32)), tx_fl (A ++ B) = tx_fl A ++ tx_fl B
  | [] => rfl
  | d :: A => by
    show d.2 ++ tx_fl (A ++ B) = d.2 ++ tx_fl A ++ tx_fl B
    rw [tx_flA B A, List.append_assoc]
theorem tx_flM (A B : List (Nat × List (List Int32))) (d : Nat × List (List Int32)) : tx_fl (A ++ d :: B) = tx_fl A ++ (d.2 ++ tx_fl B) := tx_flA (d :: B) A
def tx_DI (so tk sz da : Nat → Int32) (D : List (Nat × List (List Int32))) : Prop :=
  (∀ i, i < D.length → so i = nI (D.getD i (0, [])).1) ∧
  (∀ d, d ∈ D → d.1 < 16 ∧ sz d.1 = nI d.2.length ∧ tx_Bl da d.2 (48 * d.1) [] ∧ d.2.length ≤ 6 ∧ tx_ok d.2) ∧
  D.Pairwise (fun a b => a.1 ≠ b.1) ∧
  (∀ s, s < 16 → (tk s ≠ 0 ↔ ∃ d, d ∈ D ∧ d.1 = s))
theorem tx_DIat {so tk sz da : Nat → Int32} {D1 D2 : List (Nat × List (List Int32))} {d : Nat × List (List Int32)} (h : tx_DI so tk sz da (D1 ++ d :: D2)) : so D1.length = nI d.1 ∧ d.1 < 16 ∧ sz d.1 = nI d.2.length ∧ tx_Bl da d.2 (48 * d.1) [] ∧ d.2.length ≤ 6 ∧ tx_ok d.2 := by
  obtain ⟨h1, h2, _, _⟩ := h
  refine ⟨?_, h2 d (by simp)⟩
  have := h1 D1.length (by simp)
  rw [tx_gm] at this
  exact this
theorem tx_pmid {α : Type} {R : α → α → Prop} {A B : List α} {x : α} : (A ++ x :: B).Pairwise R ↔ (∀ a, a ∈ A → R a x) ∧ (∀ b, b ∈ B → R x b) ∧ (A ++ B).Pairwise R := by
  rw [List.pairwise_append, List.pairwise_cons, List.pairwise_append]
  constructor
  · intro h
    obtain ⟨h1, ⟨h2, h3⟩, h4⟩ := h
    exact ⟨fun a ha => h4 a ha x List.mem_cons_self, h2, h1, h3, fun a ha b hb => h4 a ha b (List.mem_cons_of_mem _ hb)⟩
  · intro h
    obtain ⟨h1, h2, h3, h4, h5⟩ := h
    refine ⟨h3, ⟨h2, h4⟩, fun a ha b hb => ?_⟩
    rcases List.mem_cons.mp hb with rfl | hb
    · exact h1 a ha
    · exact h5 a ha b hb
theorem tx_sub : ∀ (l S : List Nat), l.Nodup → (∀ x, x ∈ l → x ∈ S) → l.length ≤ S.length
  | [], _, _, _ => Nat.zero_le _
  | a :: l, S, hn, hs => by
    obtain ⟨n1, n2⟩ := List.nodup_cons.mp hn
    obtain ⟨S1, S2, rfl⟩ := List.append_of_mem (hs a List.mem_cons_self)
    have := tx_sub l (S1 ++ S2) n2 (fun x hx => by
      have hx' := hs x (List.mem_cons_of_mem _ hx)
      rcases List.mem_append.mp hx' with g | g
      · exact List.mem_append.mpr (Or.inl g)
      · rcases List.mem_cons.mp g with g | g
        · exact absurd (g ▸ hx) n1
        · exact List.mem_append.mpr (Or.inr g))
    rw [List.length_append] at this
    rw [List.length_append, List.length_cons, List.length_cons]
    omega
theorem tx_free {so tk sz da : Nat → Int32} {D : List (Nat × List (List Int32))} (h : tx_DI so tk sz da D) (hl : D.length ≤ 15) : ¬ ∀ s, s < 16 → tk s ≠ 0 := by
  intro a
  obtain ⟨_, _, _, h4⟩ := h
  have := tx_sub (List.range 16) (D.map (fun d => d.1)) List.nodup_range (fun x hx => by
    obtain ⟨d, hd, e⟩ := (h4 x (List.mem_range.mp hx)).mp (a x (List.mem_range.mp hx))
    exact List.mem_map.mpr ⟨d, hd, e⟩)
  rw [List.length_range, List.length_map] at this
  omega
theorem tx_DIopen {so tk sz da so' : Nat → Int32} {D1 D2 : List (Nat × List (List Int32))} {c : Nat} {x : Int32} (h : tx_DI so tk sz da (D1 ++ D2)) (hc : c < 16) (ht : tk c = 0) (hx : x ≠ 0)
    (s1 : ∀ i, i < D1.length → so' i = so i) (s2 : so' D1.length = nI c) (s3 : ∀ i, D1.length ≤ i → i < D1.length + D2.length → so' (i + 1) = so i) : tx_DI so' (upd tk c x) (upd sz c 0) da (D1 ++ (c, []) :: D2) := by
  obtain ⟨h1, h2, h3, h4⟩ := h
  have hne : ∀ d, d ∈ D1 ++ D2 → d.1 ≠ c := fun d hd e => by
    have := (h4 d.1 (h2 d hd).1).mpr ⟨d, hd, rfl⟩
    rw [e] at this
    exact this ht
  refine ⟨fun i hi => ?_, fun d hd => ?_, ?_, fun s hs => ?_⟩
  · rw [List.length_append, List.length_cons] at hi
    rcases Nat.lt_trichotomy i D1.length with e | e | e
    · rw [tx_gl _ _ _ e, s1 i e, h1 i (by rw [List.length_append]; omega), tx_gl _ _ _ e]
    · subst e; rw [tx_gm]; exact s2
    · obtain ⟨j, rfl⟩ : ∃ j, i = D1.length + (j + 1) := ⟨i - D1.length - 1, by omega⟩
      rw [tx_gr]
      have e1 := s3 (D1.length + j) (by omega) (by omega)
      have e2 := h1 (D1.length + j) (by rw [List.length_append]; omega)
      rw [tx_gr] at e2
      rw [show D1.length + (j + 1) = D1.length + j + 1 from by omega, e1, e2]
      rfl
  · rcases List.mem_append.mp hd with g | g
    · have hd' := List.mem_append.mpr (Or.inl g : d ∈ D1 ∨ d ∈ D2)
      obtain ⟨g1, g2, g3⟩ := h2 d hd'
      exact ⟨g1, by rw [pk_un (hne d hd')]; exact g2, g3⟩
    · rcases List.mem_cons.mp g with g | g
      · subst g
        exact ⟨hc, pk_us, True.intro, Nat.zero_le _, fun t ht => absurd ht List.not_mem_nil⟩
      · have hd' := List.mem_append.mpr (Or.inr g : d ∈ D1 ∨ d ∈ D2)
        obtain ⟨g1, g2, g3⟩ := h2 d hd'
        exact ⟨g1, by rw [pk_un (hne d hd')]; exact g2, g3⟩
  · exact tx_pmid.mpr ⟨fun a ha => hne a (List.mem_append.mpr (Or.inl ha)), fun b hb e => hne b (List.mem_append.mpr (Or.inr hb)) e.symm, h3⟩
  · by_cases e : s = c
    · subst e
      rw [pk_us]
      exact ⟨fun _ => ⟨(s, []), by simp, rfl⟩, fun _ => hx⟩
    · rw [pk_un e, h4 s hs]
      constructor
      · intro g
        obtain ⟨d, hd, ed⟩ := g
        refine ⟨d, ?_, ed⟩
        rcases List.mem_append.mp hd with g | g
        · exact List.mem_append.mpr (Or.inl g)
        · exact List.mem_append.mpr (Or.inr (List.mem_cons_of_mem _ g))
      · intro g
        obtain ⟨d, hd, ed⟩ := g
        refine ⟨d, ?_, ed⟩
        rcases List.mem_append.mp hd with g | g
        · exact List.mem_append.mpr (Or.inl g)
        · rcases List.mem_cons.mp g with g | g
          · subst g; exact absurd ed.symm e
          · exact List.mem_append.mpr (Or.inr g)
theorem tx_DIclose {so tk sz da so' : Nat → Int32} {D1 D2 : List (Nat × List (List Int32))} {d : Nat × List (List Int32)} (h : tx_DI so tk sz da (D1 ++ d :: D2))
    (s1 : ∀ i, i < D1.length → so' i = so i) (s3 : ∀ i, D1.length ≤ i → i < D1.length + D2.length → so' i = so (i + 1)) : tx_DI so' (upd tk d.1 0) sz da (D1 ++ D2) := by
  obtain ⟨h1, h2, h3, h4⟩ := h
  obtain ⟨p1, p2, p3⟩ := tx_pmid.mp h3
  have sub : ∀ e, e ∈ D1 ++ D2 → e ∈ D1 ++ d :: D2 ∧ e.1 ≠ d.1 := fun e he => by
    rcases List.mem_append.mp he with g | g
    · exact ⟨List.mem_append.mpr (Or.inl g), p1 e g⟩
    · exact ⟨List.mem_append.mpr (Or.inr (List.mem_cons_of_mem _ g)), fun z => p2 e g z.symm⟩
  refine ⟨fun i hi => ?_, fun e he => h2 e (sub e he).1, p3, fun s hs => ?_⟩
  · rw [List.length_append] at hi
    rcases Nat.lt_or_ge i D1.length with e | e
    · rw [tx_gl _ _ _ e, s1 i e, h1 i (by rw [List.length_append]; omega), tx_gl _ _ _ e]
    · obtain ⟨j, rfl⟩ : ∃ j, i = D1.length + j := ⟨i - D1.length, by omega⟩
      rw [tx_gr, s3 _ (by omega) hi, h1 (D1.length + j + 1) (by rw [List.length_append, List.length_cons]; omega), show D1.length + j + 1 = D1.length + (j + 1) from by omega, tx_gr]
      rfl
  · by_cases e : s = d.1
    · subst e
      rw [pk_us]
      refine ⟨fun z => absurd rfl z, fun z => ?_⟩
      obtain ⟨f, hf, ef⟩ := z
      exact absurd ef (sub f hf).2
    · rw [pk_un e, h4 s hs]
      constructor
      · intro g
        obtain ⟨f, hf, ef⟩ := g
        refine ⟨f, ?_, ef⟩
        rcases List.mem_append.mp hf with g | g
        · exact List.mem_append.mpr (Or.inl g)
        · rcases List.mem_cons.mp g with g | g
          · subst g; exact absurd ef.symm e
          · exact List.mem_append.mpr (Or.inr g)
      · intro g
        obtain ⟨f, hf, ef⟩ := g
        exact ⟨f, (sub f hf).1, ef⟩
theorem tx_DIpack {so tk sz da da' : Nat → Int32} {D1 D2 : List (Nat × List (List Int32))} {c : Nat} {old B : List (List Int32)} (h : tx_DI so tk sz da (D1 ++ (c, old) :: D2))
    (hf : ∀ j, (j < 48 * c ∨ 48 * c + 48 ≤ j) → da' j = da j) (hb : tx_Bl da' B (48 * c) []) (h6 : B.length ≤ 6) (ok : tx_ok B) : tx_DI so tk (upd sz c (nI B.length)) da' (D1 ++ (c, B) :: D2) := by
  obtain ⟨h1, h2, h3, h4⟩ := h
  obtain ⟨p1, p2, p3⟩ := tx_pmid.mp h3
  have old' : ∀ e, e ∈ D1 ++ (c, old) :: D2 → e.1 ≠ c → e.1 < 16 ∧ upd sz c (nI B.length) e.1 = nI e.2.length ∧ tx_Bl da' e.2 (48 * e.1) [] ∧ e.2.length ≤ 6 ∧ tx_ok e.2 := fun e he ne => by
    obtain ⟨g1, g2, g3, g4, g5⟩ := h2 e he
    refine ⟨g1, by rw [pk_un ne]; exact g2, tx_BlC e.2 _ _ (fun t ht => (g5 t ht).2) (fun j j1 j2 => hf j ?_) g3, g4, g5⟩
    omega
  refine ⟨fun i hi => ?_, fun d hd => ?_, ?_, fun s hs => ?_⟩
  · rw [List.length_append, List.length_cons] at hi
    have e0 := h1 i (by rw [List.length_append, List.length_cons]; omega)
    rw [e0]
    rcases Nat.lt_trichotomy i D1.length with e | e | e
    · rw [tx_gl _ _ _ e, tx_gl _ _ _ e]
    · subst e; rw [tx_gm, tx_gm]
    · obtain ⟨j, rfl⟩ : ∃ j, i = D1.length + (j + 1) := ⟨i - D1.length - 1, by omega⟩
      rw [tx_gr, tx_gr]
      rfl
  · rcases List.mem_append.mp hd with g | g
    · exact old' d (List.mem_append.mpr (Or.inl g)) (p1 d g)
    · rcases List.mem_cons.mp g with g | g
      · subst g
        exact ⟨(h2 (c, old) (by simp)).1, pk_us, hb, h6, ok⟩
      · exact old' d (List.mem_append.mpr (Or.inr (List.mem_cons_of_mem _ g))) (fun z => p2 d g z.symm)
  · exact tx_pmid.mpr ⟨p1, p2, p3⟩
  · rw [h4 s hs]
    constructor
    · intro g
      obtain ⟨d, hd, ed⟩ := g
      rcases List.mem_append.mp hd with g | g
      · exact ⟨d, List.mem_append.mpr (Or.inl g), ed⟩
      · rcases List.mem_cons.mp g with g | g
        · subst g; exact ⟨(c, B), by simp, ed⟩
        · exact ⟨d, List.mem_append.mpr (Or.inr (List.mem_cons_of_mem _ g)), ed⟩
    · intro g
      obtain ⟨d, hd, ed⟩ := g
      rcases List.mem_append.mp hd with g | g
      · exact ⟨d, List.mem_append.mpr (Or.inl g), ed⟩
      · rcases List.mem_cons.mp g with g | g
        · subst g; exact ⟨(c, old), by simp, ed⟩
        · exact ⟨d, List.mem_append.mpr (Or.inr (List.mem_cons_of_mem _ g)), ed⟩
end
section
/-! walks of the component that only read -/
section
variable {kl bl tot fb fi ls : Int32} {key so tk sz da ll ln : Nat → Int32}
def tx_bi (b : Bool) : Int32 := if b = true then 1 else 0
theorem tx_biN (b : Bool) : narrow .boolean (.int (tx_bi b)) = .int (tx_bi b) := by
  cases b <;> rfl
theorem tx_l1 {P : Nat → Prop} {m : Nat} (h : ∀ i, i < m → P i) (g : P m) : ∀ i, i < m + 1 → P i := by
  intro i hi
  rcases Nat.lt_or_ge i m with q | q
  · exact h i q
  · have : i = m := by omega
    rw [this]; exact g
theorem xm_loop {post : Int32 → Prop} {K t : List Int32} {p s : Nat} (hK : tx_KE key K) (hE : tx_En da p s t) (ht : t.length ≤ 6) (hp : p + 8 ≤ 768) (hpost : post (nI (tx_sh t K))) :
    ∀ n m, K.length < n + m → s ≤ m → m ≤ K.length → m ≤ t.length → (∀ i, i < m → t.getD i 0 = K.getD i 0) → wX_matched_19 post (nI p) (nI t.length) (nI K.length) bl tot fb fi ls key so tk sz da ll ln n (nI m) := by
  obtain ⟨k6, kk⟩ := hK
  obtain ⟨e1, e2, e3, e4⟩ := hE
  intro n
  induction n with
  | zero => intro m h1 h2 h3; omega
  | succ n ih =>
    intro m h1 h2 h3 h4 h5
    refine pk_le K.length m (fun h => ?_) (fun h => pk_le t.length m (fun h' => ?_) (fun h' => ?_))
    · have e : tx_sh t K = m := tx_shU h4 h3 h5 (fun _ g => absurd g (by omega))
      rw [← e]; exact hpost
    · have e : tx_sh t K = m := tx_shU h4 h3 h5 (fun g => absurd g (by omega))
      rw [← e]; exact hpost
    · have e : nI p + 2 + nI m - da (nI p).toNatClampNeg = nI (p + 2 + m - s) := by
        rw [nI_clamp (by omega), e2, tx_a2, nI_add, pk_sub (by omega)]
      rw [e]
      refine ⟨pk_in p 768 (by omega), pk_in (p + 2 + m - s) 768 (by omega), pk_in m 6 (by omega), ?_⟩
      rw [nI_clamp (n := p + 2 + m - s) (by omega), nI_clamp (n := m) (by omega), e4 m h2 h', kk m h]
      refine br_c (fun g => nm_r (nI_1 m) (ih (m + 1) (by omega) (by omega) (by omega) (by omega) (tx_l1 h5 g))) (fun g => ?_)
      have e : tx_sh t K = m := tx_shU h4 h3 h5 (fun _ _ => g)
      rw [← e]; exact hpost
theorem xm_matched {post : Int32 → Prop} {K t : List Int32} {p s m : Nat} (hK : tx_KE key K) (hE : tx_En da p s t) (ht : t.length ≤ 6) (hp : p + 8 ≤ 768) (h2 : s ≤ m) (hm : m ≤ tx_sh t K) (hpost : post (nI (tx_sh t K))) :
    wpX_matched post (nI K.length, bl, tot, fb, fi, ls, key, so, tk, sz, da, ll, ln) (nI p) (nI m) := by
  obtain ⟨g1, g2, g3, g4⟩ := tx_shP t K
  have k6 := hK.1
  obtain ⟨e1, e2, e3, e4⟩ := hE
  refine And.intro (pk_in p 768 (by omega)) (And.intro (pk_in (p + 1) 768 (by omega) (nI_1 p)) (nm_r (e' := nI t.length) ?_ ⟨7, xm_loop hK ⟨e1, e2, e3, e4⟩ ht hp hpost 7 m (by omega) h2 (by omega) (by omega) (fun i hi => g3 i (by omega))⟩))
  rw [nI_1, nI_clamp (by omega), nI_clamp (by omega), e2, e3, nI_add]
  exact tx_n (by omega)
theorem xi_isLess {post : Int32 → Prop} {past : Bool} {K t : List Int32} {p s : Nat} (hK : tx_KE key K) (hE : tx_En da p s t) (ht : t.length ≤ 6) (hp : p + 8 ≤ 768) (h2 : s ≤ tx_sh t K) (h1 : tx_P past K t → post 1) (h0 : ¬ tx_P past K t → post 0) :
    wpX_isLess post (nI K.length, bl, tot, fb, fi, ls, key, so, tk, sz, da, ll, ln) (nI p) (nI (tx_sh t K)) (tx_bi past) := by
  obtain ⟨g1, g2, g3, g4⟩ := tx_shP t K
  obtain ⟨k6, kk⟩ := hK
  obtain ⟨e1, e2, e3, e4⟩ := hE
  refine pk_eq (tx_sh t K) K.length (fun h => And.intro (tx_biN past) ?_) (fun h => And.intro (pk_in p 768 (by omega)) (And.intro (pk_in (p + 1) 768 (by omega) (nI_1 p)) ?_))
  · cases past with
    | false =>
      refine h0 (fun z => ?_)
      rcases z with z | z
      · exact absurd z.2 (by decide)
      · omega
    | true => exact h1 (Or.inl ⟨h, rfl⟩)
  · have e : da (nI p).toNatClampNeg + da (nI p + 1).toNatClampNeg = nI t.length := by
      rw [nI_1, nI_clamp (by omega), nI_clamp (by omega), e2, e3, nI_add]
      exact tx_n (by omega)
    have e' : nI p + 2 + nI (tx_sh t K) - da (nI p).toNatClampNeg = nI (p + 2 + tx_sh t K - s) := by
      rw [nI_clamp (by omega), e2, tx_a2, nI_add, pk_sub (by omega)]
    rw [e, e']
    refine pk_eq (tx_sh t K) t.length (fun g => h1 (Or.inr ⟨by omega, Or.inl g⟩)) (fun g => ?_)
    refine ⟨pk_in p 768 (by omega), pk_in (p + 2 + tx_sh t K - s) 768 (by omega), pk_in (tx_sh t K) 6 (by omega), ?_⟩
    rw [nI_clamp (n := p + 2 + tx_sh t K - s) (by omega), nI_clamp (n := tx_sh t K) (by omega), e4 _ h2 (by omega), kk _ (by omega)]
    refine br_c (fun q => h0 (fun z => ?_)) (fun q => h1 (Or.inr ⟨by omega, Or.inr ?_⟩))
    · rw [Int32.le_iff_toInt_le] at q
      rcases z with z | z
      · omega
      · rcases z.2 with z | z
        · omega
        · unfold tx_v at z; omega
    · rw [Int32.le_iff_toInt_le] at q
      unfold tx_v; omega
theorem xh_head {post : Int32 → Prop} {past : Bool} {K t : List Int32} {b c : Nat} (hK : tx_KE key K) (hb : b < 16) (hso : so b = nI c) (hc : c < 16) (hE : tx_En da (48 * c) 0 t) (ht : t.length ≤ 6) (h1 : tx_P past K t → post 1) (h0 : ¬ tx_P past K t → post 0) :
    wpX_headIsLess post (nI K.length, bl, tot, fb, fi, ls, key, so, tk, sz, da, ll, ln) (nI b) (tx_bi past) := by
  refine And.intro (pk_in b 16 hb) (nm_r (e' := nI (48 * c)) ?_ ?_)
  · rw [nI_clamp (by omega), hso, tx_m48]
  · refine xm_matched (m := 0) hK hE ht (by omega) (Nat.zero_le _) (Nat.zero_le _) ?_
    exact xi_isLess hK hE ht (by omega) (Nat.zero_le _) (fun z => ⟨by rfl, h1 z⟩) (fun z => ⟨by rfl, h0 z⟩)
theorem xs_loop {post : Int32 → Prop} {past : Bool} {K : List Int32} {c : Nat} (hK : tx_KE key K) (hc : c < 16) :
    ∀ (rest : List (List Int32)) (n p s j : Nat) (q : List Int32), rest.length < n → tx_En da p s q → tx_Bl da rest (p + 2 + (q.length - s)) q → p + 8 + 8 * rest.length ≤ 768 → q.length ≤ 6 → (∀ t, t ∈ rest → t.length ≤ 6) → (q :: rest).Pairwise tx_lt → tx_P past K q → sz c = nI (j + rest.length) → j + rest.length ≤ 6 →
    (∀ A B, rest = A ++ B → (∀ t, t ∈ A → tx_P past K t) → (∀ t, t ∈ B → ¬ tx_P past K t) → post (nI (j + A.length))) →
    wX_scanBlock_19 post (nI c) (tx_bi past) (nI K.length) bl tot fb fi ls key so tk sz da ll ln n (nI p) (nI (tx_sh q K)) (nI j) (nI j) := by
  intro rest
  induction rest with
  | nil =>
    intro n p s j q hn hE hB hp hq hr hs hP hz hj hpost
    obtain ⟨n, rfl⟩ : ∃ m, n = m + 1 := ⟨n - 1, by omega⟩
    refine And.intro (pk_in c 16 hc) ?_
    rw [nI_clamp (n := c) (by omega), hz]
    exact br_t (nI_le (Nat.le_refl _) (by omega)) (hpost [] [] rfl (fun t ht => absurd ht List.not_mem_nil) (fun t ht => absurd ht List.not_mem_nil))
  | cons t rest ih =>
    intro n p s j q hn hE hB hp hq hr hs hP hz hj hpost
    obtain ⟨n, rfl⟩ : ∃ m, n = m + 1 := ⟨n - 1, by omega⟩
    obtain ⟨hEt, hBt⟩ := hB
    have e1 := hE.1
    rw [List.length_cons] at hn hp hz hj
    have ht := hr t List.mem_cons_self
    obtain ⟨hs1, hs2⟩ := List.pairwise_cons.mp hs
    have hlt := hs1 t List.mem_cons_self
    have sq := tx_shP q t
    have sk := tx_shP q K
    have stk := tx_shP t K
    have hk6 := hK.1
    generalize hp' : p + 2 + (q.length - s) = p' at hEt hBt
    have hp1 : p' + 8 + 8 * rest.length ≤ 768 := by omega
    have stop : ¬ tx_P past K t → post (nI j) := fun z => hpost [] (t :: rest) rfl (fun t ht => absurd ht List.not_mem_nil) (tx_np hs2 z)
    have go : tx_P past K t → wX_scanBlock_19 post (nI c) (tx_bi past) (nI K.length) bl tot fb fi ls key so tk sz da ll ln n (nI p') (nI (tx_sh t K)) (nI (j + 1)) (nI (j + 1)) := fun z => by
      refine ih n p' (tx_sh q t) (j + 1) t (by omega) hEt hBt hp1 ht (fun u hu => hr u (List.mem_cons_of_mem _ hu)) hs2 z (by rw [hz]; exact tx_n (by omega)) (by omega) (fun A B e hA hB' => ?_)
      have := hpost (t :: A) B (by rw [e]; rfl) (fun u hu => by
        rcases List.mem_cons.mp hu with rfl | hu
        · exact z
        · exact hA u hu) hB'
      rw [List.length_cons, show j + (A.length + 1) = j + 1 + A.length from by omega] at this
      exact this
    refine And.intro (pk_in c 16 hc) ?_
    rw [nI_clamp (n := c) (by omega), hz]
    refine br_f (nI_ge (by omega) (by omega)) ⟨pk_in (p + 1) 768 (by omega) (nI_1 p), nm_r (e' := nI p') ?_ ⟨pk_in p' 768 (by omega), ?_⟩⟩
    · rw [nI_1, nI_clamp (by omega), hE.2.2.1, tx_2a, nI_add]
      exact tx_n (by omega)
    · rw [nI_clamp (n := p') (by omega), hEt.2.1]
      refine pk_le (tx_sh q K) (tx_sh q t) (fun g => ⟨pk_in p' 768 (by omega), pk_eq (tx_sh q t) (tx_sh q K) (fun g' => ?_) (fun g' => ?_)⟩) (fun g => stop (tx_sc1 hlt g))
      · refine xm_matched hK hEt ht (by omega) (by omega) (tx_sc3 g') ?_
        have h3 := tx_sc3 g'
        exact xi_isLess hK hEt ht (by omega) (by omega) (fun z => br_f (by decide) (nm_r (nI_1 j) (nm_r (nI_1 j) (go z)))) (fun z => br_t rfl (stop z))
      · obtain ⟨z1, z2⟩ := tx_sc2 hP (show tx_sh q K < tx_sh q t by omega)
        refine nm_r (nI_1 j) (nm_r (nI_1 j) ?_)
        rw [← z2]
        exact go z1
theorem xs_scan {post : Int32 → Prop} {past : Bool} {K t : List Int32} {rest : List (List Int32)} {c : Nat} (hK : tx_KE key K) (hc : c < 16) (hB : tx_Bl da (t :: rest) (48 * c) []) (h6 : (t :: rest).length ≤ 6) (ok : tx_ok (t :: rest)) (hs : (t :: rest).Pairwise tx_lt) (hP : tx_P past K t) (hz : sz c = nI (t :: rest).length)
    (hpost : ∀ A B, t :: rest = A ++ B → (∀ t, t ∈ A → tx_P past K t) → (∀ t, t ∈ B → ¬ tx_P past K t) → post (nI A.length)) :
    wpX_scanBlock post (nI K.length, bl, tot, fb, fi, ls, key, so, tk, sz, da, ll, ln) (nI c) (tx_bi past) := by
  obtain ⟨hE, hB⟩ := hB
  rw [tx_shN] at hE hB
  rw [List.length_cons] at h6 hz
  have ht := ok t List.mem_cons_self
  refine nm_r (tx_m48 c) ?_
  refine xm_matched (m := 0) hK hE ht.2 (by omega) (Nat.le_refl _) (Nat.zero_le _) ⟨7, ?_⟩
  refine xs_loop hK hc rest 7 (48 * c) 0 1 t (by omega) hE hB (by omega) ht.2 (fun u hu => (ok u (List.mem_cons_of_mem _ hu)).2) hs hP (by rw [hz]; exact tx_n (by omega)) (by omega) (fun A B e hA hB' => ?_)
  have := hpost (t :: A) B (by rw [e]; rfl) (fun u hu => by
    rcases List.mem_cons.mp hu with rfl | hu
    · exact hP
    · exact hA u hu) hB'
  rw [List.length_cons, show A.length + 1 = 1 + A.length from by omega] at this
  exact this
theorem xt_loop {post : Int32 → Prop} {D D2 : List (Nat × List (List Int32))} {b : Nat} (hI : tx_DI so tk sz da D) (hD : D.length ≤ 16) :
    ∀ (E D0 : List (Nat × List (List Int32))) (n : Nat), E.length < n → D = D0 ++ (E ++ D2) → b = D0.length + E.length → post (nI (tx_fl (D0 ++ E)).length) → wX_termsBefore_4 post (nI b) kl bl tot fb fi ls key so tk sz da ll ln n (nI (tx_fl D0).length) (nI D0.length) := by
  intro E
  induction E with
  | nil =>
    intro D0 n hn e hb hpost
    obtain ⟨n, rfl⟩ : ∃ m, n = m + 1 := ⟨n - 1, by omega⟩
    rw [List.append_nil] at hpost
    rw [List.length_nil] at hb
    subst e
    rw [List.length_append] at hD
    exact br_t (nI_le (by omega) (by omega)) hpost
  | cons d E ih =>
    intro D0 n hn e hb hpost
    obtain ⟨n, rfl⟩ : ∃ m, n = m + 1 := ⟨n - 1, by omega⟩
    rw [List.length_cons] at hn hb
    have hI' := hI
    rw [e, List.cons_append] at hI'
    obtain ⟨g1, g2, g3, g4, g5, g6⟩ := tx_DIat hI'
    have hl : D0.length + (E.length + 1) ≤ 16 := by
      rw [e, List.length_append, List.length_append, List.length_cons] at hD; omega
    have e1 : (nI D0.length).toNatClampNeg = D0.length := nI_clamp (by omega)
    refine br_f (nI_ge (by omega) (by omega)) ⟨pk_in D0.length 16 (by omega), ?_⟩
    rw [e1, g1]
    refine ⟨pk_in d.1 16 g2, nm_r (e' := nI (tx_fl (D0 ++ [d])).length) ?_ (nm_r (e' := nI (D0 ++ [d]).length) ?_ (ih (D0 ++ [d]) n (by omega) ?_ ?_ ?_))⟩
    · rw [nI_clamp (by omega), g3, nI_add, tx_flM, List.length_append, List.length_append]
      exact tx_n (by show _ = _ + (_ + 0); omega)
    · rw [nI_1, List.length_append]; rfl
    · rw [e]; simp
    · rw [List.length_append, List.length_singleton]; omega
    · rw [List.append_assoc]; exact hpost
theorem xt_before {post : Int32 → Prop} {D1 D2 : List (Nat × List (List Int32))} (hI : tx_DI so tk sz da (D1 ++ D2)) (hD : (D1 ++ D2).length ≤ 16) (hpost : post (nI (tx_fl D1).length)) : wpX_termsBefore post (kl, bl, tot, fb, fi, ls, key, so, tk, sz, da, ll, ln) (nI D1.length) :=
  ⟨17, xt_loop hI hD D1 [] 17 (by rw [List.length_append] at hD; omega) rfl (by simp) hpost⟩
theorem xb_loop {post : Int32 → Prop} {D D2 : List (Nat × List (List Int32))} {d : Nat × List (List Int32)} {r : Nat} (hI : tx_DI so tk sz da D) (hD : D.length ≤ 16) (hr : r < 1000) :
    ∀ (E D0 : List (Nat × List (List Int32))) (n : Nat), E.length < n → D = D0 ++ (E ++ d :: D2) → (tx_fl (D0 ++ E)).length ≤ r → r < (tx_fl (D0 ++ E)).length + d.2.length → post (nI (D0 ++ E).length) → wX_blockOfRank_4 post (nI r) kl (nI D.length) tot fb fi ls key so tk sz da ll ln n (nI (tx_fl D0).length) (nI D0.length) := by
  intro E
  induction E with
  | nil =>
    intro D0 n hn e h1 h2 hpost
    obtain ⟨n, rfl⟩ : ∃ m, n = m + 1 := ⟨n - 1, by omega⟩
    rw [List.append_nil] at hpost h1 h2
    have hI' := hI
    rw [e, List.nil_append] at hI'
    obtain ⟨g1, g2, g3, g4, g5, g6⟩ := tx_DIat hI'
    have hl : D0.length + 1 ≤ D.length := by
      rw [e, List.length_append, List.length_append, List.length_cons]; omega
    have e1 : (nI D0.length).toNatClampNeg = D0.length := nI_clamp (by omega)
    refine br_f (nI_ge (by omega) (by omega)) ⟨pk_in D0.length 16 (by omega), ?_⟩
    rw [e1, g1]
    refine ⟨pk_in d.1 16 g2, nm_r (e' := nI ((tx_fl D0).length + d.2.length)) ?_ (br_f (nI_ge h2 (by omega)) hpost)⟩
    rw [nI_clamp (by omega), g3, nI_add]
  | cons d' E ih =>
    intro D0 n hn e h1 h2 hpost
    obtain ⟨n, rfl⟩ : ∃ m, n = m + 1 := ⟨n - 1, by omega⟩
    rw [List.length_cons] at hn
    have hI' := hI
    rw [e, List.cons_append] at hI'
    obtain ⟨g1, g2, g3, g4, g5, g6⟩ := tx_DIat hI'
    have hl : D0.length + (E.length + 1) + 1 ≤ D.length := by
      rw [e, List.length_append, List.length_append, List.length_cons, List.length_cons]; omega
    have e1 : (nI D0.length).toNatClampNeg = D0.length := nI_clamp (by omega)
    have ea : D0 ++ d' :: E = (D0 ++ [d']) ++ E := by simp
    rw [ea] at h1 h2 hpost
    have el : (tx_fl (D0 ++ [d'])).length ≤ r := by
      rw [tx_flA, List.length_append] at h1; omega
    refine br_f (nI_ge (by omega) (by omega)) ⟨pk_in D0.length 16 (by omega), ?_⟩
    rw [e1, g1]
    refine ⟨pk_in d'.1 16 g2, nm_r (e' := nI (tx_fl (D0 ++ [d'])).length) ?_ (br_t (nI_le el (by omega)) (nm_r (e' := nI (D0 ++ [d']).length) ?_ (ih (D0 ++ [d']) n (by omega) ?_ h1 h2 hpost)))⟩
    · rw [nI_clamp (by omega), g3, nI_add, tx_flM, List.length_append, List.length_append]
      exact tx_n (by show _ = _ + (_ + 0); omega)
    · rw [nI_1, List.length_append]; rfl
    · rw [e]; simp
theorem xb_block {post : Int32 → Prop} {D1 D2 : List (Nat × List (List Int32))} {d : Nat × List (List Int32)} {r : Nat} (hI : tx_DI so tk sz da (D1 ++ d :: D2)) (hD : (D1 ++ d :: D2).length ≤ 16) (hr : r < 1000) (h1 : (tx_fl D1).length ≤ r) (h2 : r < (tx_fl D1).length + d.2.length) (hpost : post (nI D1.length)) :
    wpX_blockOfRank post (kl, nI (D1 ++ d :: D2).length, tot, fb, fi, ls, key, so, tk, sz, da, ll, ln) (nI r) :=
  ⟨17, xb_loop hI hD hr D1 [] 17 (by rw [List.length_append] at hD; omega) rfl h1 h2 hpost⟩
theorem xw_loop {post : Int32 → Prop} {K t : List Int32} {k : Nat} (hK : tx_KE key K) (hT : tx_TE ll ln k t) (ht : t.length ≤ 6) (hk : k < 16) (hpost : post (nI (tx_sh t K))) :
    ∀ n m, K.length < n + m → m ≤ K.length → m ≤ t.length → (∀ i, i < m → t.getD i 0 = K.getD i 0) → wX_sharedWithKey_2 post (nI k) (nI K.length) bl tot fb fi ls key so tk sz da ll ln n (nI m) := by
  obtain ⟨k6, kk⟩ := hK
  obtain ⟨t1, t2⟩ := hT
  intro n
  induction n with
  | zero => intro m h1 h3; omega
  | succ n ih =>
    intro m h1 h3 h4 h5
    refine pk_le K.length m (fun h => ?_) (fun h => And.intro (pk_in k 16 hk) ?_)
    · have e : tx_sh t K = m := tx_shU h4 h3 h5 (fun _ g => absurd g (by omega))
      rw [← e]; exact hpost
    · have e : 6 * nI k + nI m = nI (6 * k + m) := by rw [tx_m6, nI_add]
      rw [e, nI_clamp (n := k) (by omega), t1]
      refine pk_le t.length m (fun h' => ?_) (fun h' => ⟨pk_in (6 * k + m) 96 (by omega), pk_in m 6 (by omega), ?_⟩)
      · have e : tx_sh t K = m := tx_shU h4 h3 h5 (fun g => absurd g (by omega))
        rw [← e]; exact hpost
      · rw [nI_clamp (n := 6 * k + m) (by omega), nI_clamp (n := m) (by omega), t2 m h', kk m h]
        refine br_c (fun g => nm_r (nI_1 m) (ih (m + 1) (by omega) (by omega) (by omega) (tx_l1 h5 g))) (fun g => ?_)
        have e : tx_sh t K = m := tx_shU h4 h3 h5 (fun _ _ => g)
        rw [← e]; exact hpost
theorem xw_shared {post : Int32 → Prop} {K t : List Int32} {k : Nat} (hK : tx_KE key K) (hT : tx_TE ll ln k t) (ht : t.length ≤ 6) (hk : k < 16) (hpost : post (nI (tx_sh t K))) : wpX_sharedWithKey post (nI K.length, bl, tot, fb, fi, ls, key, so, tk, sz, da, ll, ln) (nI k) :=
  ⟨7, xw_loop hK hT ht hk hpost 7 0 (by have := hK.1; omega) (Nat.zero_le _) (Nat.zero_le _) (fun i hi => absurd hi (Nat.not_lt_zero i))⟩
theorem xl_loop {post : Int32 → Prop} {s t : List Int32} {a b : Nat} (hS : tx_TE ll ln a s) (hT : tx_TE ll ln b t) (hs : s.length ≤ 6) (ht : t.length ≤ 6) (ha : a < 16) (hb : b < 16) (hpost : post (nI (tx_sh s t))) :
    ∀ n m, s.length < n + m → m ≤ s.length → m ≤ t.length → (∀ i, i < m → s.getD i 0 = t.getD i 0) → wX_sharedInList_2 post (nI a) (nI b) kl bl tot fb fi ls key so tk sz da ll ln n (nI m) := by
  obtain ⟨s1, s2⟩ := hS
  obtain ⟨t1, t2⟩ := hT
  intro n
  induction n with
  | zero => intro m h1 h3; omega
  | succ n ih =>
    intro m h1 h3 h4 h5
    refine And.intro (pk_in a 16 ha) ?_
    have e : 6 * nI a + nI m = nI (6 * a + m) := by rw [tx_m6, nI_add]
    have e' : 6 * nI b + nI m = nI (6 * b + m) := by rw [tx_m6, nI_add]
    rw [e, e', nI_clamp (n := a) (by omega), nI_clamp (n := b) (by omega), s1, t1]
    refine pk_le s.length m (fun h => ?_) (fun h => ⟨pk_in b 16 hb, pk_le t.length m (fun h' => ?_) (fun h' => ⟨pk_in (6 * a + m) 96 (by omega), pk_in (6 * b + m) 96 (by omega), ?_⟩)⟩)
    · have e : tx_sh s t = m := tx_shU h3 h4 h5 (fun g => absurd g (by omega))
      rw [← e]; exact hpost
    · have e : tx_sh s t = m := tx_shU h3 h4 h5 (fun _ g => absurd g (by omega))
      rw [← e]; exact hpost
    · rw [nI_clamp (n := 6 * a + m) (by omega), nI_clamp (n := 6 * b + m) (by omega), s2 m h, t2 m h']
      refine br_c (fun g => nm_r (nI_1 m) (ih (m + 1) (by omega) (by omega) (by omega) (tx_l1 h5 g))) (fun g => ?_)
      have e : tx_sh s t = m := tx_shU h3 h4 h5 (fun _ _ => g)
      rw [← e]; exact hpost
theorem xl_shared {post : Int32 → Prop} {s t : List Int32} {a b : Nat} (hS : tx_TE ll ln a s) (hT : tx_TE ll ln b t) (hs : s.length ≤ 6) (ht : t.length ≤ 6) (ha : a < 16) (hb : b < 16) (hpost : post (nI (tx_sh s t))) : wpX_sharedInList post (kl, bl, tot, fb, fi, ls, key, so, tk, sz, da, ll, ln) (nI a) (nI b) :=
  ⟨7, xl_loop hS hT hs ht ha hb hpost 7 0 (by omega) (Nat.zero_le _) (Nat.zero_le _) (fun i hi => absurd hi (Nat.not_lt_zero i))⟩
end
end
section
/-! the search -/
section
variable {kl bl tot fb fi ls : Int32} {key so tk sz da ll ln : Nat → Int32}
def tx_hd (D : List (Nat × List (List Int32))) (i : Nat) : List Int32 := (D.getD i (0, [])).2.getD 0 []
theorem xc_92 {post : Int32 → SX → Prop} {D1 D2 : List (Nat × List (List Int32))} {a : Nat} (hI : tx_DI so tk sz da (D1 ++ D2)) (hD : (D1 ++ D2).length ≤ 16)
    (h : post (nI ((tx_fl D1).length + a)) (kl, bl, tot, nI D1.length, nI a, ls, key, so, tk, sz, da, ll, ln)) : wX_countLess_92 post (nI a) kl bl tot (nI D1.length) fi ls key so tk sz da ll ln := by
  unfold wX_countLess_92
  refine xt_before hI hD ?_
  show post (nI _ + nI a) _
  rw [nI_add]
  exact h
theorem xc_55 {post : Int32 → SX → Prop} {past : Bool} {K : List Int32} {D : List (Nat × List (List Int32))} (hK : tx_KE key K) (hI : tx_DI so tk sz da D) (hne : ∀ d, d ∈ D → 1 ≤ d.2.length) (hD : D.length ≤ 16) (hs : (tx_fl D).Pairwise tx_lt)
    (h0 : D = [] → post (nI 0) (nI K.length, nI D.length, tot, nI 0, nI 0, ls, key, so, tk, sz, da, ll, ln))
    (h1 : ∀ D1 d D2 A B, D = D1 ++ d :: D2 → d.2 = A ++ B → (∀ t, t ∈ tx_fl D1 ++ A → tx_P past K t) → (∀ t, t ∈ B ++ tx_fl D2 → ¬ tx_P past K t) → post (nI ((tx_fl D1).length + A.length)) (nI K.length, nI D.length, tot, nI D1.length, nI A.length, ls, key, so, tk, sz, da, ll, ln))
    {lo : Nat} (hlo : lo ≤ D.length) (c1 : lo = 0 ∨ tx_P past K (tx_hd D (lo - 1))) (c2 : lo = D.length ∨ ¬ tx_P past K (tx_hd D lo)) :
    wX_countLess_55 post (tx_bi past) (nI lo) (nI K.length) (nI D.length) tot fb fi ls key so tk sz da ll ln := by
  rcases Nat.eq_zero_or_pos lo with e | e
  · subst e
    refine pk_le 0 0 (fun _ => pk_le 0 0 (fun _ => ?_) (fun h => absurd h (by omega))) (fun h => absurd h (by omega))
    refine xc_92 (D1 := []) (D2 := D) (a := 0) hI hD ?_
    cases D with
    | nil => exact h0 rfl
    | cons d D2 =>
      rcases c2 with c2 | c2
      · exact absurd c2 (by simp)
      · have hn := hne d List.mem_cons_self
        obtain ⟨x, T⟩ := d
        cases T with
        | nil => exact absurd hn (by simp)
        | cons t rest =>
          exact h1 [] (x, t :: rest) D2 [] (t :: rest) rfl rfl (fun u hu => absurd hu List.not_mem_nil) (tx_np hs c2)
  · obtain ⟨D1, d, D2, eD, el⟩ := tx_split D (lo - 1) (by omega)
    have elo : lo = D1.length + 1 := by omega
    have hI' := hI
    rw [eD] at hI'
    obtain ⟨g1, g2, g3, g4, g5, g6⟩ := tx_DIat hI'
    rcases c1 with c1 | c1
    · omega
    · have c1' : tx_hd D (lo - 1) = d.2.getD 0 [] := by
        rw [← el, eD]; unfold tx_hd; rw [tx_gm]
      rw [c1'] at c1
      have hn := hne d (by rw [eD]; simp)
      have hs' := hs
      rw [eD, tx_flM] at hs'
      obtain ⟨q1, q2, q3⟩ := List.pairwise_append.mp hs'
      obtain ⟨q4, q5, q6⟩ := List.pairwise_append.mp q2
      refine pk_le lo 0 (fun h => absurd h (by omega)) (fun _ => pk_le lo 0 (fun h => absurd h (by omega)) (fun _ => ⟨pk_in (lo - 1) 16 (by omega) (tx_s1 (by omega)), ?_⟩))
      rw [tx_s1 (show 1 ≤ lo by omega), ← el, nI_clamp (n := D1.length) (by omega), g1]
      obtain ⟨x, T⟩ := d
      cases T with
      | nil => exact absurd hn (by simp)
      | cons t rest =>
        refine xs_scan hK g2 g4 g5 g6 q4 c1 g3 (fun A B eAB hA hB => ?_)
        refine xc_92 hI' (by rw [← eD]; exact hD) ?_
        refine h1 D1 (x, t :: rest) D2 A B eD eAB (fun u hu => ?_) (fun u hu => ?_)
        · rcases List.mem_append.mp hu with hu | hu
          · exact tx_down (q3 u hu t (by simp)) c1
          · exact hA u hu
        · rcases List.mem_append.mp hu with hu | hu
          · exact hB u hu
          · cases D2 with
            | nil => exact absurd hu List.not_mem_nil
            | cons d' D3 =>
              rcases c2 with c2 | c2
              · rw [eD, List.length_append, List.length_cons, List.length_cons] at c2; omega
              · have e2 : tx_hd D lo = d'.2.getD 0 [] := by
                  unfold tx_hd
                  rw [eD, elo, tx_gr]
                  rfl
                rw [e2] at c2
                have hn' := hne d' (by rw [eD]; simp)
                obtain ⟨x', T'⟩ := d'
                cases T' with
                | nil => exact absurd hn' (by simp)
                | cons t' rest' => exact tx_np q5 c2 u hu
theorem xc_loop {post : Int32 → SX → Prop} {past : Bool} {K : List Int32} {D : List (Nat × List (List Int32))} (hK : tx_KE key K) (hI : tx_DI so tk sz da D) (hne : ∀ d, d ∈ D → 1 ≤ d.2.length) (hD : D.length ≤ 16)
    (hp : ∀ lo, lo ≤ D.length → (lo = 0 ∨ tx_P past K (tx_hd D (lo - 1))) → (lo = D.length ∨ ¬ tx_P past K (tx_hd D lo)) → wX_countLess_55 post (tx_bi past) (nI lo) (nI K.length) (nI D.length) tot fb fi ls key so tk sz da ll ln) :
    ∀ r lo hi, r ≤ 5 → hi < lo + 2 ^ r → lo ≤ hi → hi ≤ D.length → (lo = 0 ∨ tx_P past K (tx_hd D (lo - 1))) → (hi = D.length ∨ ¬ tx_P past K (tx_hd D hi)) →
      wX_countLess_10 post (tx_bi past) (nI K.length) (nI D.length) tot fb fi ls key so tk sz da ll ln (r + 1) (nI lo) (nI hi) (nI (5 - r)) := by
  intro r
  induction r with
  | zero =>
    intro lo hi h5 h1 h2 h3 c1 c2
    have e : lo = hi := by omega
    subst e
    exact pk_le 5 5 (fun _ => hp lo h3 c1 c2) (fun h => absurd h (by omega))
  | succ r ih =>
    intro lo hi h5 h1 h2 h3 c1 c2
    have e2 : 2 ^ (r + 1) = 2 * 2 ^ r := by rw [Nat.pow_succ, Nat.mul_comm]
    rw [e2] at h1
    refine pk_le 5 (5 - (r + 1)) (fun h => absurd h (by omega)) (fun _ => pk_le hi lo (fun h => ?_) (fun h => ⟨by decide, nm_r (e' := nI ((lo + hi) / 2)) ?_ ?_⟩))
    · have e : lo = hi := by omega
      subst e
      exact hp lo h3 c1 c2
    · rw [nI_add]
      exact pk_div (a := lo + hi) (d := 2) (by omega) (by omega) (by omega)
    · generalize hm : (lo + hi) / 2 = m
      obtain ⟨D1, d, D2, eD, el⟩ := tx_split D m (by omega)
      have hI' := hI
      rw [eD] at hI'
      obtain ⟨g1, g2, g3, g4, g5, g6⟩ := tx_DIat hI'
      have hh : tx_hd D m = d.2.getD 0 [] := by
        rw [← el, eD]; unfold tx_hd; rw [tx_gm]
      have hn := hne d (by rw [eD]; simp)
      have ex : nI (5 - (r + 1)) + 1 = nI (5 - r) := by rw [nI_1]; exact tx_n (by omega)
      rw [el] at g1
      obtain ⟨x, T⟩ := d
      cases T with
      | nil => exact absurd hn (by simp)
      | cons t rest =>
        obtain ⟨g7, _⟩ := g4
        rw [tx_shN] at g7
        refine xh_head hK (show m < 16 by omega) g1 g2 g7 (g6 t List.mem_cons_self).2 (fun z => br_f (by decide) (nm_r (nI_1 m) (nm_r ex (ih (m + 1) hi (by omega) (by omega) (by omega) h3 (Or.inr ?_) c2)))) (fun z => br_t rfl (nm_r ex (ih lo m (by omega) (by omega) (by omega) (by omega) c1 (Or.inr ?_))))
        · rw [Nat.add_sub_cancel, hh]; exact z
        · rw [hh]; exact z
theorem xc_count {post : Int32 → SX → Prop} {past : Bool} {K : List Int32} {D : List (Nat × List (List Int32))} (hK : tx_KE key K) (hI : tx_DI so tk sz da D) (hne : ∀ d, d ∈ D → 1 ≤ d.2.length) (hD : D.length ≤ 16) (hs : (tx_fl D).Pairwise tx_lt)
    (h0 : D = [] → post (nI 0) (nI K.length, nI D.length, tot, nI 0, nI 0, ls, key, so, tk, sz, da, ll, ln))
    (h1 : ∀ D1 d D2 A B, D = D1 ++ d :: D2 → d.2 = A ++ B → (∀ t, t ∈ tx_fl D1 ++ A → tx_P past K t) → (∀ t, t ∈ B ++ tx_fl D2 → ¬ tx_P past K t) → post (nI ((tx_fl D1).length + A.length)) (nI K.length, nI D.length, tot, nI D1.length, nI A.length, ls, key, so, tk, sz, da, ll, ln)) :
    wpX_countLess post (nI K.length, nI D.length, tot, fb, fi, ls, key, so, tk, sz, da, ll, ln) (tx_bi past) :=
  ⟨6, xc_loop hK hI hne hD (fun _ hlo c1 c2 => xc_55 hK hI hne hD hs h0 h1 hlo c1 c2) 5 0 D.length (by omega) (by omega) (Nat.zero_le _) (Nat.le_refl _) (Or.inl rfl) (Or.inl rfl)⟩
theorem xc_rank {post : Int32 → SX → Prop} {past : Bool} {K : List Int32} {D : List (Nat × List (List Int32))} (hK : tx_KE key K) (hI : tx_DI so tk sz da D) (hne : ∀ d, d ∈ D → 1 ≤ d.2.length) (hD : D.length ≤ 16) (hs : (tx_fl D).Pairwise tx_lt)
    (h : ∀ fb fi, post (nI (tx_cn (tx_P past K) (tx_fl D))) (nI K.length, nI D.length, tot, fb, fi, ls, key, so, tk, sz, da, ll, ln)) :
    wpX_countLess post (nI K.length, nI D.length, tot, fb, fi, ls, key, so, tk, sz, da, ll, ln) (tx_bi past) := by
  refine xc_count hK hI hne hD hs (fun e => ?_) (fun D1 d D2 A B eD ed hA hB => ?_)
  · have e1 : tx_cn (tx_P past K) (tx_fl D) = 0 := by rw [e]; rfl
    have := h (nI 0) (nI 0)
    rw [e1] at this
    exact this
  · have e1 : tx_cn (tx_P past K) (tx_fl D) = (tx_fl D1).length + A.length := by
      rw [eD, tx_flM, ed, List.append_assoc, ← List.append_assoc, tx_cnC hA hB, List.length_append]
    have := h (nI D1.length) (nI A.length)
    rw [e1] at this
    exact this
end
end
section
/-! unpacking a block to the list, changing the list -/
section
variable {kl bl tot fb fi ls : Int32} {key so tk sz da ll ln : Nat → Int32}
theorem xu_78 {post : SX → Prop} {J : Int32 → Int32 → Int32 → Int32 → (Nat → Int32) → (Nat → Int32) → (Nat → Int32) → (Nat → Int32) → (Nat → Int32) → (Nat → Int32) → (Nat → Int32) → Prop} {x1 : Int32} {p l k s : Nat} {t : List Int32} {ll0 : Nat → Int32} (hE : tx_En da p s t) (ht : t.length ≤ 6) (hp : p + 8 ≤ 768) (hl : l < 16)
    (hJ : ∀ ll', (∀ j, j < 6 * l → ll' j = ll0 j) → (∀ j, j < t.length → ll' (6 * l + j) = t.getD j 0) → J (nI (p + 2 + (t.length - s))) (nI (6 * l)) (nI (k + 1)) (nI (l + 1)) key so tk sz da ll' (upd ln l (nI t.length))) :
    ∀ (n i : Nat) (ll : Nat → Int32), t.length < n + (s + i) → s + i ≤ t.length → (∀ j, j < 6 * l → ll j = ll0 j) → (∀ j, j < s + i → ll (6 * l + j) = t.getD j 0) → wX_unpack_78 post J x1 (nI p) (nI k) kl bl tot fb fi (nI l) n (nI i) key so tk sz da ll ln := by
  obtain ⟨e1, e2, e3, e4⟩ := hE
  intro n
  induction n with
  | zero => intro i ll h1 h2; omega
  | succ n ih =>
    intro i ll h1 h2 h3 h4
    have ea : da (nI p + 1).toNatClampNeg = nI (t.length - s) := by rw [nI_1, nI_clamp (by omega), e3]
    have eb : da (nI p).toNatClampNeg = nI s := by rw [nI_clamp (by omega), e2]
    have ec : 6 * nI l + nI s + nI i = nI (6 * l + s + i) := by rw [tx_m6, nI_add, nI_add]
    have ed : nI p + 2 + nI i = nI (p + 2 + i) := by rw [tx_a2, nI_add]
    refine And.intro (pk_in (p + 1) 768 (by omega) (nI_1 p)) ?_
    rw [ea, eb, ec, ed]
    refine pk_le (t.length - s) i (fun g => ⟨pk_in p 768 (by omega), pk_in (p + 1) 768 (by omega) (nI_1 p), pk_in l 16 hl, ?_⟩) (fun g => ⟨pk_in p 768 (by omega), pk_in (p + 2 + i) 768 (by omega), pk_in (6 * l + s + i) 96 (by omega), ?_⟩)
    · rw [nI_clamp (n := l) (by omega)]
      refine nm_r (e' := upd ln l (nI t.length)) ?_ (nm_r (tx_m6 l) (nm_r (nI_1 l) ⟨pk_in (p + 1) 768 (by omega) (nI_1 p), nm_r (e' := nI (p + 2 + (t.length - s))) ?_ (nm_r (nI_1 k) (hJ ll h3 (fun j hj => h4 j (by omega))))⟩))
      · rw [nI_add, show s + (t.length - s) = t.length from by omega]
      · rw [tx_2a, nI_add]; exact tx_n (by omega)
    · rw [nI_clamp (n := 6 * l + s + i) (by omega), nI_clamp (n := p + 2 + i) (by omega)]
      have ev : da (p + 2 + i) = t.getD (s + i) 0 := by
        have := e4 (s + i) (by omega) (by omega)
        rw [show p + 2 + (s + i) - s = p + 2 + i from by omega] at this
        exact this
      rw [ev]
      refine nm_e (nm_r (nI_1 i) (ih (i + 1) _ (by omega) (by omega) (fun j hj => ?_) (fun j hj => ?_)))
      · rw [pk_un (by omega)]; exact h3 j hj
      · rcases Nat.lt_or_ge j (s + i) with q | q
        · rw [pk_un (by omega)]; exact h4 j q
        · have : j = s + i := by omega
          subst this
          rw [show 6 * l + (s + i) = 6 * l + s + i from by omega, pk_us]
theorem xu_34 {post : SX → Prop} {J : Int32 → Int32 → Int32 → Int32 → (Nat → Int32) → (Nat → Int32) → (Nat → Int32) → (Nat → Int32) → (Nat → Int32) → (Nat → Int32) → (Nat → Int32) → Prop} {x1 x4 : Int32} {p pv l s : Nat} {q : List Int32} {ll0 : Nat → Int32} (hd : da p = nI s) (hp : p < 768) (hs : s ≤ q.length) (hs6 : s ≤ 6) (hl : l < 16) (hv : pv + q.length ≤ 6 * l) (hq : ∀ i, i < q.length → ll0 (pv + i) = q.getD i 0)
    (hJ : ∀ ll, (∀ j, j < 6 * l → ll j = ll0 j) → (∀ j, j < s → ll (6 * l + j) = q.getD j 0) → ∃ n78 : Nat, wX_unpack_78 post J x1 (nI p) x4 kl bl tot fb fi (nI l) n78 0 key so tk sz da ll ln) :
    ∀ (n i : Nat) (ll : Nat → Int32), s < n + i → i ≤ s → (∀ j, j < 6 * l → ll j = ll0 j) → (∀ j, j < i → ll (6 * l + j) = q.getD j 0) → wX_unpack_34 post J x1 (nI p) (nI pv) x4 kl bl tot fb fi (nI l) n (nI i) key so tk sz da ll ln := by
  intro n
  induction n with
  | zero => intro i ll h1 h2; omega
  | succ n ih =>
    intro i ll h1 h2 h3 h4
    have eb : da (nI p).toNatClampNeg = nI s := by rw [nI_clamp (by omega), hd]
    have ec : 6 * nI l + nI i = nI (6 * l + i) := by rw [tx_m6, nI_add]
    have ed : nI pv + nI i = nI (pv + i) := nI_add pv i
    refine And.intro (pk_in p 768 hp) ?_
    rw [eb, ec, ed]
    refine pk_le s i (fun g => hJ ll h3 (fun j hj => h4 j (by omega))) (fun g => ⟨pk_in (pv + i) 96 (by omega), pk_in (6 * l + i) 96 (by omega), ?_⟩)
    rw [nI_clamp (n := 6 * l + i) (by omega), nI_clamp (n := pv + i) (by omega), h3 (pv + i) (by omega), hq i (by omega)]
    refine nm_e (nm_r (nI_1 i) (ih (i + 1) _ (by omega) (by omega) (fun j hj => ?_) (fun j hj => ?_)))
    · rw [pk_un (by omega)]; exact h3 j hj
    · rcases Nat.lt_or_ge j i with w | w
      · rw [pk_un (by omega)]; exact h4 j w
      · have : j = i := by omega
        subst this
        rw [pk_us]
theorem xu_15 {post : SX → Prop} {b c z : Nat} (hb : b < 16) (hso : so b = nI c) (hc : c < 16) (hz : sz c = nI z) (hz6 : z ≤ 6) :
    ∀ (ts : List (List Int32)) (n p pv k : Nat) (q : List Int32) (T : List (List Int32)) (ll ln : Nat → Int32), ts.length < n → tx_Bl da ts p q → p + 8 * ts.length ≤ 768 → (∀ t, t ∈ ts → t.length ≤ 6) → (∀ t, t ∈ T → t.length ≤ 6) → tx_LE ll ln T → T.length + ts.length ≤ 16 → k + ts.length = z →
      (∀ i, i < q.length → ll (pv + i) = q.getD i 0) → pv + q.length ≤ 6 * T.length →
      (∀ ll ln, tx_LE ll ln (T ++ ts) → post (kl, bl, tot, fb, fi, nI (T.length + ts.length), key, so, tk, sz, da, ll, ln)) → wX_unpack_15 post (nI b) kl bl tot fb fi n (nI p) (nI pv) (nI k) (nI T.length) key so tk sz da ll ln := by
  intro ts
  induction ts with
  | nil =>
    intro n p pv k q T ll ln hn hB hp h6 hT hL hl hk hq hv hpost
    obtain ⟨n, rfl⟩ : ∃ m, n = m + 1 := ⟨n - 1, by omega⟩
    rw [List.length_nil] at hk
    refine And.intro (pk_in b 16 hb) ?_
    rw [nI_clamp (n := b) (by omega), hso]
    refine ⟨pk_in c 16 hc, ?_⟩
    rw [nI_clamp (n := c) (by omega), hz]
    exact br_t (nI_le (by omega) (by omega)) (hpost ll ln (by rw [List.append_nil]; exact hL))
  | cons t ts ih =>
    intro n p pv k q T ll ln hn hB hp h6 hT hL hl hk hq hv hpost
    obtain ⟨n, rfl⟩ : ∃ m, n = m + 1 := ⟨n - 1, by omega⟩
    obtain ⟨hE, hB⟩ := hB
    rw [List.length_cons] at hn hp hl hk
    have ht := h6 t List.mem_cons_self
    have sq := tx_shP q t
    refine And.intro (pk_in b 16 hb) ?_
    rw [nI_clamp (n := b) (by omega), hso]
    refine ⟨pk_in c 16 hc, ?_⟩
    rw [nI_clamp (n := c) (by omega), hz]
    refine br_f (nI_ge (by omega) (by omega)) ⟨7, ?_⟩
    refine xu_34 hE.2.1 (by omega) sq.1 (by omega) (show T.length < 16 by omega) hv hq (fun ll1 a1 a2 => ⟨7, ?_⟩) 7 0 ll (by omega) (Nat.zero_le _) (fun _ _ => rfl) (fun j hj => absurd hj (Nat.not_lt_zero j))
    refine xu_78 (ll0 := ll) hE ht (by omega) (by omega) (fun ll2 b1 b2 => ?_) 7 0 ll1 (by omega) sq.2.1 a1 (fun j hj => (a2 j hj).trans (sq.2.2.1 j hj))
    have hT2 : ∀ u, u ∈ T ++ [t] → u.length ≤ 6 := fun u hu => by
      rcases List.mem_append.mp hu with hu | hu
      · exact hT u hu
      · rw [List.mem_singleton.mp hu]; exact ht
    have e2 : (T ++ [t]).length = T.length + 1 := by rw [List.length_append]; rfl
    have hL2 : tx_LE ll2 (upd ln T.length (nI t.length)) (T ++ [t]) := tx_LEs hL hT b1 (fun j hj => pk_un (by omega)) ⟨pk_us, b2⟩
    have := ih n (p + 2 + (t.length - tx_sh q t)) (6 * T.length) (k + 1) t (T ++ [t]) ll2 (upd ln T.length (nI t.length)) (by omega) hB (by omega) (fun u hu => h6 u (List.mem_cons_of_mem _ hu)) hT2 hL2 (by omega) (by omega) b2 (by omega) (fun ll3 ln3 h => by
      have := hpost ll3 ln3 (by rw [List.append_assoc] at h; exact h)
      rw [List.length_cons] at this
      rw [e2, show T.length + 1 + ts.length = T.length + (ts.length + 1) from by omega]
      exact this)
    rw [e2] at this
    exact this
theorem xu_unpack {post : SX → Prop} {D1 D2 : List (Nat × List (List Int32))} {d : Nat × List (List Int32)} {T : List (List Int32)} (hI : tx_DI so tk sz da (D1 ++ d :: D2)) (hD : (D1 ++ d :: D2).length ≤ 16) (hT : ∀ t, t ∈ T → t.length ≤ 6) (hL : tx_LE ll ln T) (hl : T.length + d.2.length ≤ 16)
    (hpost : ∀ ll ln, tx_LE ll ln (T ++ d.2) → post (kl, bl, tot, fb, fi, nI (T.length + d.2.length), key, so, tk, sz, da, ll, ln)) : wpX_unpack post (kl, bl, tot, fb, fi, nI T.length, key, so, tk, sz, da, ll, ln) (nI D1.length) := by
  obtain ⟨g1, g2, g3, g4, g5, g6⟩ := tx_DIat hI
  rw [List.length_append, List.length_cons] at hD
  refine And.intro (pk_in D1.length 16 (by omega)) (nm_r (e' := nI (48 * d.1)) ?_ ⟨7, ?_⟩)
  · rw [nI_clamp (by omega), g1, tx_m48]
  · exact xu_15 (show D1.length < 16 by omega) g1 g2 g3 g5 d.2 7 (48 * d.1) 0 0 [] T ll ln (by omega) g4 (by omega) (fun t ht => (g6 t ht).2) hT hL hl (Nat.zero_add _) (fun i hi => absurd hi (Nat.not_lt_zero i)) (Nat.zero_le _) hpost
theorem xy_loop {post : SX → Prop} {a b : Nat} {t : List Int32} {ll0 : Nat → Int32} (ha : a < 16) (hb : b < 16) (hab : a ≠ b) (ht : t.length ≤ 6) (hT : tx_TE ll0 ln a t)
    (hpost : ∀ ll, (∀ j, j < t.length → ll (6 * b + j) = t.getD j 0) → (∀ j, (j < 6 * b ∨ 6 * b + 6 ≤ j) → ll j = ll0 j) → post (kl, bl, tot, fb, fi, ls, key, so, tk, sz, da, ll, upd ln b (nI t.length))) :
    ∀ (n i : Nat) (ll : Nat → Int32), t.length < n + i → i ≤ t.length → (∀ j, j < i → ll (6 * b + j) = t.getD j 0) → (∀ j, (j < 6 * b ∨ 6 * b + 6 ≤ j) → ll j = ll0 j) → wX_copyInList_2 post (nI a) (nI b) kl bl tot fb fi ls n (nI i) key so tk sz da ll ln := by
  obtain ⟨t1, t2⟩ := hT
  intro n
  induction n with
  | zero => intro i ll h1 h2; omega
  | succ n ih =>
    intro i ll h1 h2 h3 h4
    have e1 : ln (nI a).toNatClampNeg = nI t.length := by rw [nI_clamp (by omega), t1]
    have e2 : 6 * nI a + nI i = nI (6 * a + i) := by rw [tx_m6, nI_add]
    have e3 : 6 * nI b + nI i = nI (6 * b + i) := by rw [tx_m6, nI_add]
    refine And.intro (pk_in a 16 ha) ?_
    rw [e1, e2, e3]
    refine pk_le t.length i (fun g => ⟨pk_in a 16 ha, pk_in b 16 hb, ?_⟩) (fun g => ⟨pk_in (6 * a + i) 96 (by omega), pk_in (6 * b + i) 96 (by omega), ?_⟩)
    · rw [nI_clamp (n := b) (by omega)]
      exact nm_e (hpost ll (fun j hj => h3 j (by omega)) h4)
    · rw [nI_clamp (n := 6 * a + i) (by omega), nI_clamp (n := 6 * b + i) (by omega), h4 (6 * a + i) (by omega), t2 i g]
      refine nm_e (nm_r (nI_1 i) (ih (i + 1) _ (by omega) (by omega) (fun j hj => ?_) (fun j hj => ?_)))
      · rcases Nat.lt_or_ge j i with w | w
        · rw [pk_un (by omega)]; exact h3 j w
        · have : j = i := by omega
          subst this
          rw [pk_us]
      · rw [pk_un (by omega)]; exact h4 j hj
theorem xy_copy {post : SX → Prop} {a b : Nat} {t : List Int32} (ha : a < 16) (hb : b < 16) (hab : a ≠ b) (ht : t.length ≤ 6) (hT : tx_TE ll ln a t)
    (hpost : ∀ ll' ln', tx_TE ll' ln' b t → (∀ (k : Nat) (u : List Int32), k ≠ b → u.length ≤ 6 → tx_TE ll ln k u → tx_TE ll' ln' k u) → post (kl, bl, tot, fb, fi, ls, key, so, tk, sz, da, ll', ln')) : wpX_copyInList post (kl, bl, tot, fb, fi, ls, key, so, tk, sz, da, ll, ln) (nI a) (nI b) := by
  refine ⟨7, xy_loop (ll0 := ll) ha hb hab ht hT (fun ll' h1 h2 => hpost ll' _ ⟨pk_us, h1⟩ (fun k u hk hu h => ?_)) 7 0 ll (by omega) (Nat.zero_le _) (fun j hj => absurd hj (Nat.not_lt_zero j)) (fun _ _ => rfl)⟩
  exact ⟨by rw [pk_un hk]; exact h.1, fun i hi => by rw [h2 _ (by omega)]; exact h.2 i hi⟩
theorem xp_26 {post : SX → Prop} {a l : Nat} {K : List Int32} {ll0 : Nat → Int32} (hK : tx_KE key K) (ha : a < 16)
    (hpost : ∀ ll, (∀ j, j < K.length → ll (6 * a + j) = K.getD j 0) → (∀ j, (j < 6 * a ∨ 6 * a + 6 ≤ j) → ll j = ll0 j) → post (nI K.length, bl, tot, fb, fi, nI (l + 1), key, so, tk, sz, da, ll, upd ln a (nI K.length))) :
    ∀ (n i : Nat) (ll : Nat → Int32), K.length < n + i → i ≤ K.length → (∀ j, j < i → ll (6 * a + j) = K.getD j 0) → (∀ j, (j < 6 * a ∨ 6 * a + 6 ≤ j) → ll j = ll0 j) → wX_putKeyInList_26 post (nI a) (nI K.length) bl tot fb fi (nI l) n (nI i) key so tk sz da ll ln := by
  obtain ⟨k6, kk⟩ := hK
  intro n
  induction n with
  | zero => intro i ll h1 h2; omega
  | succ n ih =>
    intro i ll h1 h2 h3 h4
    have e2 : 6 * nI a + nI i = nI (6 * a + i) := by rw [tx_m6, nI_add]
    refine pk_le K.length i (fun g => And.intro (pk_in a 16 ha) ?_) (fun g => And.intro (pk_in i 6 (by omega)) ?_)
    · rw [nI_clamp (n := a) (by omega)]
      exact nm_e (nm_r (nI_1 l) (hpost ll (fun j hj => h3 j (by omega)) h4))
    · rw [e2]
      refine ⟨pk_in (6 * a + i) 96 (by omega), ?_⟩
      rw [nI_clamp (n := 6 * a + i) (by omega), nI_clamp (n := i) (by omega), kk i g]
      refine nm_e (nm_r (nI_1 i) (ih (i + 1) _ (by omega) (by omega) (fun j hj => ?_) (fun j hj => ?_)))
      · rcases Nat.lt_or_ge j i with w | w
        · rw [pk_un (by omega)]; exact h3 j w
        · have : j = i := by omega
          subst this
          rw [pk_us]
      · rw [pk_un (by omega)]; exact h4 j hj
theorem xp_5 {post : SX → Prop} {A B : List (List Int32)} {K : List Int32} (hK : tx_KE key K) (hl : A.length + B.length < 16) (hA : ∀ t, t ∈ A → t.length ≤ 6) (hB : ∀ t, t ∈ B → t.length ≤ 6)
    (hpost : ∀ ll ln, tx_LE ll ln (A ++ K :: B) → post (nI K.length, bl, tot, fb, fi, nI (A.length + B.length + 1), key, so, tk, sz, da, ll, ln)) :
    ∀ (n k : Nat) (ll ln : Nat → Int32), k < n → k ≤ B.length → (∀ j, j < A.length → tx_TE ll ln j (A.getD j [])) → (∀ j, j < k → tx_TE ll ln (A.length + j) (B.getD j [])) → (∀ j, k ≤ j → j < B.length → tx_TE ll ln (A.length + 1 + j) (B.getD j [])) →
      wX_putKeyInList_5 post (nI A.length) n (nI (A.length + k)) (nI K.length) bl tot fb fi (nI (A.length + B.length)) key so tk sz da ll ln := by
  intro n
  induction n with
  | zero => intro k ll ln h1; omega
  | succ n ih =>
    intro k ll ln h1 h2 h3 h4 h5
    have fr : ∀ (f f' g g' : Nat → Int32) (b : Nat), (∀ (k : Nat) (u : List Int32), k ≠ b → u.length ≤ 6 → tx_TE f g k u → tx_TE f' g' k u) → (∀ j, j < A.length → j ≠ b → tx_TE f g j (A.getD j []) → tx_TE f' g' j (A.getD j [])) ∧ (∀ i j, j < B.length → i ≠ b → tx_TE f g i (B.getD j []) → tx_TE f' g' i (B.getD j [])) := fun f f' g g' b h =>
      ⟨fun j hj hb => h j _ hb (hA _ (tx_gmem A j hj)), fun i j hj hb => h i _ hb (hB _ (tx_gmem B j hj))⟩
    refine pk_le (A.length + k) A.length (fun g => ⟨7, ?_⟩) (fun g => ?_)
    · have hk : k = 0 := by omega
      subst hk
      refine xp_26 (ll0 := ll) hK (show A.length < 16 by omega) (fun ll' a1 a2 => hpost ll' _ ?_) 7 0 ll (by have := hK.1; omega) (Nat.zero_le _) (fun j hj => absurd hj (Nat.not_lt_zero j)) (fun _ _ => rfl)
      have w : ∀ (k : Nat) (u : List Int32), k ≠ A.length → u.length ≤ 6 → tx_TE ll ln k u → tx_TE ll' (upd ln A.length (nI K.length)) k u := fun k u hk hu h =>
        ⟨by rw [pk_un hk]; exact h.1, fun i hi => by rw [a2 _ (by omega)]; exact h.2 i hi⟩
      obtain ⟨w1, w2⟩ := fr _ _ _ _ _ w
      exact tx_LEi (fun j hj => w1 j hj (by omega) (h3 j hj)) ⟨pk_us, a1⟩ (fun j hj => w2 _ j hj (by omega) (h5 j (Nat.zero_le _) hj))
    · obtain ⟨m, rfl⟩ : ∃ m, k = m + 1 := ⟨k - 1, by omega⟩
      rw [tx_s1 (show 1 ≤ A.length + (m + 1) by omega), show A.length + (m + 1) - 1 = A.length + m from by omega]
      refine xy_copy (show A.length + m < 16 by omega) (show A.length + (m + 1) < 16 by omega) (by omega) (hB _ (tx_gmem B m (by omega))) (h4 m (by omega)) (fun ll' ln' a1 w => ?_)
      obtain ⟨w1, w2⟩ := fr _ _ _ _ _ w
      refine nm_r (e' := nI (A.length + m)) ?_ (ih m ll' ln' (by omega) (by omega) (fun j hj => w1 j hj (by omega) (h3 j hj)) (fun j hj => w2 _ j (by omega) (by omega) (h4 j (by omega))) (fun j hj1 hj2 => ?_))
      · rw [sb_m1 (by omega)]; exact tx_n (by omega)
      · rcases Nat.lt_or_ge m j with q | q
        · exact w2 _ j hj2 (by omega) (h5 j q hj2)
        · have : j = m := by omega
          subst this
          rw [show A.length + 1 + j = A.length + (j + 1) from by omega]
          exact a1
theorem xp_put {post : SX → Prop} {A B : List (List Int32)} {K : List Int32} (hK : tx_KE key K) (hl : A.length + B.length < 16) (ok : ∀ t, t ∈ A ++ B → t.length ≤ 6) (hL : tx_LE ll ln (A ++ B))
    (hpost : ∀ ll ln, tx_LE ll ln (A ++ K :: B) → post (nI K.length, bl, tot, fb, fi, nI (A.length + B.length + 1), key, so, tk, sz, da, ll, ln)) : wpX_putKeyInList post (nI K.length, bl, tot, fb, fi, nI (A.length + B.length), key, so, tk, sz, da, ll, ln) (nI A.length) :=
  ⟨17, xp_5 hK hl (fun t ht => ok t (List.mem_append.mpr (Or.inl ht))) (fun t ht => ok t (List.mem_append.mpr (Or.inr ht))) hpost 17 B.length ll ln (by omega) (Nat.le_refl _) (tx_LEl hL) (tx_LEr hL) (fun j h1 h2 => absurd h2 (by omega))⟩
theorem xk_2 {post : SX → Prop} {A B : List (List Int32)} (hl : A.length + 1 + B.length ≤ 16) (hA : ∀ t, t ∈ A → t.length ≤ 6) (hB : ∀ t, t ∈ B → t.length ≤ 6)
    (hpost : ∀ ll ln, tx_LE ll ln (A ++ B) → post (kl, bl, tot, fb, fi, nI (A.length + B.length), key, so, tk, sz, da, ll, ln)) :
    ∀ (n k : Nat) (ll ln : Nat → Int32), B.length < n + k → k ≤ B.length → (∀ j, j < A.length → tx_TE ll ln j (A.getD j [])) → (∀ j, j < k → tx_TE ll ln (A.length + j) (B.getD j [])) → (∀ j, k ≤ j → j < B.length → tx_TE ll ln (A.length + 1 + j) (B.getD j [])) →
      wX_takeFromList_2 post n (nI (A.length + k)) kl bl tot fb fi (nI (A.length + 1 + B.length)) key so tk sz da ll ln := by
  intro n
  induction n with
  | zero => intro k ll ln h1; omega
  | succ n ih =>
    intro k ll ln h1 h2 h3 h4 h5
    refine pk_le (A.length + 1 + B.length) (A.length + k + 1) (fun g => nm_r (e' := nI (A.length + B.length)) ?_ (hpost ll ln (tx_LEj h3 (fun j hj => h4 j (by omega))))) (fun g => ?_) rfl (nI_1 _)
    · rw [tx_s1 (by omega)]; exact tx_n (by omega)
    · rw [nI_1]
      refine xy_copy (show A.length + k + 1 < 16 by omega) (show A.length + k < 16 by omega) (by omega) (hB _ (tx_gmem B k (by omega))) (by have := h5 k (Nat.le_refl _) (by omega); rw [show A.length + 1 + k = A.length + k + 1 from by omega] at this; exact this) (fun ll' ln' a1 w => ?_)
      refine nm_e (ih (k + 1) ll' ln' (by omega) (by omega) (fun j hj => w j _ (by omega) (hA _ (tx_gmem A j hj)) (h3 j hj)) (fun j hj => ?_) (fun j hj1 hj2 => w _ _ (by omega) (hB _ (tx_gmem B j hj2)) (h5 j (by omega) hj2)))
      rcases Nat.lt_or_ge j k with q | q
      · exact w _ _ (by omega) (hB _ (tx_gmem B j (by omega))) (h4 j q)
      · have : j = k := by omega
        subst this
        exact a1
theorem xk_take {post : SX → Prop} {A B : List (List Int32)} {t : List Int32} (hl : A.length + 1 + B.length ≤ 16) (ok : ∀ u, u ∈ A ++ t :: B → u.length ≤ 6) (hL : tx_LE ll ln (A ++ t :: B))
    (hpost : ∀ ll ln, tx_LE ll ln (A ++ B) → post (kl, bl, tot, fb, fi, nI (A.length + B.length), key, so, tk, sz, da, ll, ln)) : wpX_takeFromList post (kl, bl, tot, fb, fi, nI (A.length + 1 + B.length), key, so, tk, sz, da, ll, ln) (nI A.length) := by
  refine ⟨17, xk_2 hl (fun t ht => ok t (List.mem_append.mpr (Or.inl ht))) (fun t ht => ok t (List.mem_append.mpr (Or.inr (List.mem_cons_of_mem _ ht)))) hpost 17 0 ll ln (by omega) (Nat.zero_le _) (tx_LEl hL) (fun j hj => absurd hj (Nat.not_lt_zero j)) (fun j h1 h2 => ?_)⟩
  have := tx_LEr hL (j + 1) (by rw [List.length_cons]; omega)
  rw [show A.length + (j + 1) = A.length + 1 + j from by omega] at this
  exact this
end
end
section
/-! blocks opened, closed, packed; the list stored -/
section
variable {kl bl tot fb fi ls : Int32} {key so tk sz da ll ln : Nat → Int32}
theorem xo_45 {post : SX → Prop} {b c N : Nat} {so0 : Nat → Int32} (hN : N ≤ 15)
    (hpost : ∀ so, (∀ i, i < b → so i = so0 i) → so b = nI c → (∀ i, b ≤ i → i < N → so (i + 1) = so0 i) → post (kl, nI (N + 1), tot, fb, fi, ls, key, so, tk, sz, da, ll, ln)) :
    ∀ (n k : Nat) (so : Nat → Int32), k < n → b + k ≤ N → (∀ i, i < b + k → so i = so0 i) → (∀ i, b + k ≤ i → i < N → so (i + 1) = so0 i) → wX_openBlock_45 post (nI b) (nI c) kl (nI N) tot fb fi ls n (nI (b + k)) key so tk sz da ll ln := by
  intro n
  induction n with
  | zero => intro k so h1; omega
  | succ n ih =>
    intro k so h1 h2 h3 h4
    refine pk_le (b + k) b (fun g => And.intro (pk_in b 16 (by omega)) ?_) (fun g => ?_)
    · rw [nI_clamp (n := b) (by omega)]
      refine nm_e (nm_r (nI_1 N) (hpost _ (fun i hi => ?_) pk_us (fun i hi1 hi2 => ?_)))
      · rw [pk_un (by omega)]; exact h3 i (by omega)
      · rw [pk_un (by omega)]; exact h4 i (by omega) hi2
    · obtain ⟨m, rfl⟩ : ∃ m, k = m + 1 := ⟨k - 1, by omega⟩
      have e1 : nI (b + (m + 1)) - 1 = nI (b + m) := by rw [tx_s1 (by omega)]; exact tx_n (by omega)
      have e2 : nI (b + (m + 1)) + (-1) = nI (b + m) := by rw [sb_m1 (by omega)]; exact tx_n (by omega)
      rw [e1, e2, nI_clamp (n := b + m) (by omega), nI_clamp (n := b + (m + 1)) (by omega)]
      refine ⟨pk_in (b + m) 16 (by omega), pk_in (b + (m + 1)) 16 (by omega), nm_e (nm_e (ih m _ (by omega) (by omega) (fun i hi => ?_) (fun i hi1 hi2 => ?_)))⟩
      · rw [pk_un (by omega)]; exact h3 i (by omega)
      · rcases Nat.lt_or_ge (b + m) i with q | q
        · rw [pk_un (by omega)]; exact h4 i (by omega) hi2
        · have : i = b + m := by omega
          subst this
          rw [show b + m + 1 = b + (m + 1) from by omega, pk_us]
          exact h3 (b + m) (by omega)
theorem xo_5 {post : SX → Prop} {x1 : Int32} (hfree : ¬ ∀ s, s < 16 → tk s ≠ 0)
    (hp : ∀ c, c < 16 → tk c = 0 → ∃ n45 : Nat, wX_openBlock_45 post x1 (nI c) kl bl tot fb fi ls n45 bl key so (upd tk c (vp_nar .boolean 1)) (upd sz c 0) da ll ln) :
    ∀ (j c : Nat) (x3 : Int32), x3 = nI j + (-1) → j ≤ 16 → c < 16 → (tk c = 0 ∨ ∀ s, j ≤ s → s < 16 → tk s ≠ 0) → wX_openBlock_5 post x1 kl bl tot fb fi ls key so tk sz da ll ln (j + 1) (nI c) x3 := by
  intro j
  induction j with
  | zero =>
    intro c x3 e hj hc h
    have e' : x3 < 0 := by rw [e]; decide
    have ht : tk c = 0 := by
      rcases h with h | h
      · exact h
      · exact absurd (fun s hs => h s (Nat.zero_le _) hs) hfree
    refine br_t e' (And.intro (pk_in c 16 hc) ?_)
    rw [nI_clamp (n := c) (by omega)]
    exact nm_e ⟨pk_in c 16 hc, nm_e (hp c hc ht)⟩
  | succ j ih =>
    intro c x3 e hj hc h
    rw [pk_m1] at e
    subst e
    refine br_f (nI_pos (by omega)) (And.intro (pk_in j 16 (by omega)) ?_)
    rw [nI_clamp (n := j) (by omega)]
    refine br_c (fun g => nm_e (ih j _ rfl (by omega) (by omega) (Or.inl g))) (fun g => nm_e (ih c _ rfl (by omega) hc ?_))
    rcases h with h | h
    · exact Or.inl h
    · refine Or.inr (fun s hs1 hs2 => ?_)
      rcases Nat.lt_or_ge j s with q | q
      · exact h s q hs2
      · have : s = j := by omega
        rw [this]; exact g
theorem tx_nb1 : vp_nar .boolean 1 ≠ 0 := by
  have : vp_nar .boolean 1 = 1 := rfl
  rw [this]; decide
theorem tx_nb0 : vp_nar .boolean 0 = 0 := rfl
theorem xo_open {post : SX → Prop} {D1 D2 : List (Nat × List (List Int32))} (hI : tx_DI so tk sz da (D1 ++ D2)) (hD : (D1 ++ D2).length ≤ 15)
    (hpost : ∀ c so tk sz, tx_DI so tk sz da (D1 ++ (c, []) :: D2) → post (kl, nI (D1 ++ (c, []) :: D2).length, tot, fb, fi, ls, key, so, tk, sz, da, ll, ln)) : wpX_openBlock post (kl, nI (D1 ++ D2).length, tot, fb, fi, ls, key, so, tk, sz, da, ll, ln) (nI D1.length) := by
  have hD' := hD
  rw [List.length_append] at hD'
  refine ⟨17, xo_5 (tx_free hI hD) (fun c hc ht => ⟨17, ?_⟩) 16 0 15 (by decide) (Nat.le_refl _) (by omega) (Or.inr (fun s h1 h2 => absurd h2 (by omega)))⟩
  have := xo_45 (post := post) (kl := kl) (tot := tot) (fb := fb) (fi := fi) (ls := ls) (key := key) (tk := upd tk c (vp_nar .boolean 1)) (sz := upd sz c 0) (da := da) (ll := ll) (ln := ln) (b := D1.length) (c := c) (so0 := so) hD (fun so' s1 s2 s3 => by
    have := hpost c so' _ _ (tx_DIopen hI hc ht tx_nb1 s1 s2 (fun i h1 h2 => s3 i h1 (by rw [List.length_append]; exact h2)))
    rw [List.length_append, List.length_cons, ← Nat.add_assoc, ← List.length_append] at this
    exact this) 17 D2.length so (by omega) (by rw [List.length_append]; omega) (fun _ _ => rfl) (fun i h1 h2 => absurd h2 (by rw [List.length_append]; omega))
  rw [List.length_append]
  rw [List.length_append] at this
  exact this
theorem xz_14 {post : SX → Prop} {b N : Nat} {so0 : Nat → Int32} (hN : N ≤ 16)
    (hpost : ∀ so, (∀ i, i < b → so i = so0 i) → (∀ i, b ≤ i → i + 1 < N → so i = so0 (i + 1)) → post (kl, nI (N - 1), tot, fb, fi, ls, key, so, tk, sz, da, ll, ln)) :
    ∀ (n k : Nat) (so : Nat → Int32), N < n + (b + k) + 1 → b + k < N → (∀ i, i < b → so i = so0 i) → (∀ i, b ≤ i → i < b + k → so i = so0 (i + 1)) → (∀ i, b + k ≤ i → i < N → so i = so0 i) → wX_closeBlock_14 post kl (nI N) tot fb fi ls n (nI (b + k)) key so tk sz da ll ln := by
  intro n
  induction n with
  | zero => intro k so h1 h2; omega
  | succ n ih =>
    intro k so h1 h2 h3 h4 h5
    refine pk_le N (b + k + 1) (fun g => nm_r (tx_s1 (by omega)) (hpost so h3 (fun i hi1 hi2 => h4 i hi1 (by omega)))) (fun g => ?_) rfl (nI_1 _)
    rw [nI_1, nI_clamp (n := b + k + 1) (by omega), nI_clamp (n := b + k) (by omega)]
    refine ⟨pk_in (b + k + 1) 16 (by omega), pk_in (b + k) 16 (by omega), nm_e (nm_e (ih (k + 1) _ (by omega) (by omega) (fun i hi => ?_) (fun i hi1 hi2 => ?_) (fun i hi1 hi2 => ?_)))⟩
    · rw [pk_un (by omega)]; exact h3 i hi
    · rcases Nat.lt_or_ge i (b + k) with q | q
      · rw [pk_un (by omega)]; exact h4 i hi1 q
      · have : i = b + k := by omega
        subst this
        rw [pk_us]; exact h5 (b + k + 1) (by omega) (by omega)
    · rw [pk_un (by omega)]; exact h5 i (by omega) hi2
theorem xz_close {post : SX → Prop} {D1 D2 : List (Nat × List (List Int32))} {d : Nat × List (List Int32)} (hI : tx_DI so tk sz da (D1 ++ d :: D2)) (hD : (D1 ++ d :: D2).length ≤ 16)
    (hpost : ∀ so tk, tx_DI so tk sz da (D1 ++ D2) → post (kl, nI (D1 ++ D2).length, tot, fb, fi, ls, key, so, tk, sz, da, ll, ln)) : wpX_closeBlock post (kl, nI (D1 ++ d :: D2).length, tot, fb, fi, ls, key, so, tk, sz, da, ll, ln) (nI D1.length) := by
  obtain ⟨g1, g2, g3, g4, g5, g6⟩ := tx_DIat hI
  have eL : (D1 ++ d :: D2).length = D1.length + D2.length + 1 := by rw [List.length_append, List.length_cons]; omega
  rw [eL] at hD ⊢
  refine And.intro (pk_in D1.length 16 (by omega)) ?_
  rw [nI_clamp (n := D1.length) (by omega), g1]
  refine ⟨pk_in d.1 16 g2, ?_⟩
  rw [nI_clamp (n := d.1) (by omega), tx_nb0]
  refine nm_e ⟨17, ?_⟩
  refine xz_14 (so0 := so) (b := D1.length) hD (fun so' s1 s2 => ?_) 17 0 so (by omega) (by omega) (fun _ _ => rfl) (fun i h1 h2 => absurd h2 (by omega)) (fun _ _ _ => rfl)
  have := hpost so' _ (tx_DIclose hI s1 (fun i h1 h2 => s2 i h1 (by omega)))
  rw [List.length_append] at this
  exact this
theorem xa_78 {post : SX → Prop} {J : Int32 → Int32 → (Nat → Int32) → (Nat → Int32) → (Nat → Int32) → (Nat → Int32) → (Nat → Int32) → (Nat → Int32) → (Nat → Int32) → Prop} {x2 x3 x4 : Int32} {p k s : Nat} {t : List Int32} {da0 : Nat → Int32} (hT : tx_TE ll ln k t) (ht : t.length ≤ 6) (hk : k < 16) (hs : s ≤ t.length) (hp : p + 8 ≤ 768)
    (hJ : ∀ da, tx_En da p s t → (∀ j, (j < p ∨ p + 8 ≤ j) → da j = da0 j) → J (nI (p + 2 + (t.length - s))) (nI (k + 1)) key so tk sz da ll ln) :
    ∀ (n i : Nat) (da : Nat → Int32), t.length < n + i → s ≤ i → i ≤ t.length → da p = nI s → da (p + 1) = nI (t.length - s) → (∀ j, s ≤ j → j < i → da (p + 2 + j - s) = t.getD j 0) → (∀ j, (j < p ∨ p + 8 ≤ j) → da j = da0 j) → wX_pack_78 post J x2 x3 x4 (nI p) (nI k) (nI s) kl bl tot fb fi ls n (nI i) key so tk sz da ll ln := by
  obtain ⟨t1, t2⟩ := hT
  intro n
  induction n with
  | zero => intro i da h1 h2 h3; omega
  | succ n ih =>
    intro i da h1 h2 h3 h4 h5 h6 h7
    have e1 : ln (nI k).toNatClampNeg = nI t.length := by rw [nI_clamp (by omega), t1]
    have e2 : 6 * nI k + nI i = nI (6 * k + i) := by rw [tx_m6, nI_add]
    have e3 : nI p + 2 + nI i - nI s = nI (p + 2 + i - s) := by rw [tx_a2, nI_add, pk_sub (by omega)]
    refine And.intro (pk_in k 16 hk) ?_
    rw [e1, e2, e3]
    refine pk_le t.length i (fun g => ⟨pk_in k 16 hk, nm_r (e' := nI (p + 2 + (t.length - s))) ?_ (nm_r (nI_1 k) (hJ da ⟨hs, h4, h5, fun j hj1 hj2 => h6 j hj1 (by omega)⟩ h7))⟩) (fun g => ⟨pk_in (6 * k + i) 96 (by omega), pk_in (p + 2 + i - s) 768 (by omega), ?_⟩)
    · rw [tx_2a, pk_sub (by omega), nI_add]; exact tx_n (by omega)
    · rw [nI_clamp (n := 6 * k + i) (by omega), nI_clamp (n := p + 2 + i - s) (by omega), t2 i g]
      refine nm_e (nm_r (nI_1 i) (ih (i + 1) _ (by omega) (by omega) (by omega) ?_ ?_ (fun j hj1 hj2 => ?_) (fun j hj => ?_)))
      · rw [pk_un (by omega)]; exact h4
      · rw [pk_un (by omega)]; exact h5
      · rcases Nat.lt_or_ge j i with w | w
        · rw [pk_un (by omega)]; exact h6 j hj1 w
        · have : j = i := by omega
          subst this
          rw [pk_us]
      · rw [pk_un (by omega)]; exact h7 j hj
theorem xa_44 {post : SX → Prop} {J : Int32 → Int32 → (Nat → Int32) → (Nat → Int32) → (Nat → Int32) → (Nat → Int32) → (Nat → Int32) → (Nat → Int32) → (Nat → Int32) → Prop} {x2 x3 x4 : Int32} {p k s : Nat} {t : List Int32} (hT : tx_TE ll ln k t) (ht : t.length ≤ 6) (hk : k < 16) (hs : s ≤ t.length) (hp : p + 8 ≤ 768)
    (hJ : ∀ da', tx_En da' p s t → (∀ j, (j < p ∨ p + 8 ≤ j) → da' j = da j) → J (nI (p + 2 + (t.length - s))) (nI (k + 1)) key so tk sz da' ll ln) :
    wX_pack_44 post J x2 x3 x4 (nI p) (nI k) (nI s) kl bl tot fb fi ls key so tk sz da ll ln := by
  have e1 : ln (nI k).toNatClampNeg = nI t.length := by rw [nI_clamp (by omega), hT.1]
  unfold wX_pack_44
  rw [nI_1, e1, nI_clamp (n := p) (by omega), nI_clamp (n := p + 1) (by omega), pk_sub hs]
  refine ⟨pk_in p 768 (by omega), nm_e ⟨pk_in k 16 hk, pk_in (p + 1) 768 (by omega), nm_e ⟨7, ?_⟩⟩⟩
  refine xa_78 (da0 := da) hT ht hk hs hp hJ 7 s _ (by omega) (Nat.le_refl _) hs ?_ pk_us (fun j h1 h2 => absurd h2 (by omega)) (fun j hj => ?_)
  · rw [pk_un (by omega), pk_us]
  · rw [pk_un (by omega), pk_un (by omega)]
theorem xa_18 {post : SX → Prop} {c f e : Nat} (hc : c < 16) (he : e ≤ 16) :
    ∀ (B : List (List Int32)) (n k p : Nat) (q : List Int32) (da : Nat → Int32), B.length < n → k + B.length = e → f ≤ k → (∀ j, j < B.length → tx_TE ll ln (k + j) (B.getD j [])) → ((k = f ∧ q = []) ∨ (f < k ∧ tx_TE ll ln (k - 1) q ∧ q.length ≤ 6)) → (∀ t, t ∈ B → t.length ≤ 6) → p + 8 * B.length ≤ 768 →
      (∀ da', tx_Bl da' B p q → (∀ j, (j < p ∨ p + 8 * B.length ≤ j) → da' j = da j) → post (kl, bl, tot, fb, fi, ls, key, so, tk, upd sz c (nI (e - f)), da', ll, ln)) → wX_pack_18 post (nI f) (nI e) (nI c) kl bl tot fb fi ls n (nI p) (nI k) key so tk sz da ll ln := by
  intro B
  induction B with
  | nil =>
    intro n k p q da hn hk hf hT hq h6 hp hpost
    obtain ⟨n, rfl⟩ : ∃ m, n = m + 1 := ⟨n - 1, by omega⟩
    rw [List.length_nil] at hk
    refine br_t (nI_le (by omega) (by omega)) (And.intro (pk_in c 16 hc) ?_)
    rw [nI_clamp (n := c) (by omega), pk_sub (by omega)]
    exact nm_e (hpost da True.intro (fun _ _ => rfl))
  | cons t B ih =>
    intro n k p q da hn hk hf hT hq h6 hp hpost
    obtain ⟨n, rfl⟩ : ∃ m, n = m + 1 := ⟨n - 1, by omega⟩
    rw [List.length_cons] at hn hk hp
    have ht := h6 t List.mem_cons_self
    have sq := tx_shP q t
    have hTt : tx_TE ll ln k t := hT 0 (by rw [List.length_cons]; omega)
    have go : wX_pack_44 post (wX_pack_18 post (nI f) (nI e) (nI c) kl bl tot fb fi ls n) (nI f) (nI e) (nI c) (nI p) (nI k) (nI (tx_sh q t)) kl bl tot fb fi ls key so tk sz da ll ln := by
      refine xa_44 hTt ht (by omega) sq.2.1 (by omega) (fun da1 hE hfr => ?_)
      refine ih n (k + 1) (p + 2 + (t.length - tx_sh q t)) t da1 (by omega) (by omega) (by omega) (fun j hj => ?_) (Or.inr ⟨by omega, hTt, ht⟩) (fun u hu => h6 u (List.mem_cons_of_mem _ hu)) (by omega) (fun da2 hB2 hfr2 => ?_)
      · have := hT (j + 1) (by rw [List.length_cons]; omega)
        rw [show k + (j + 1) = k + 1 + j from by omega] at this
        exact this
      · refine hpost da2 (And.intro (tx_EnC hE (fun j h1 h2 => hfr2 j (by omega))) hB2) (fun j hj => ?_)
        rw [List.length_cons] at hj
        rw [hfr2 j (by omega), hfr j (by omega)]
    refine br_f (nI_ge (by omega) (by omega)) ?_
    rcases hq with ⟨h1, h2⟩ | ⟨h1, h2, h3⟩
    · refine pk_eq k f (fun _ => ?_) (fun h => absurd h1 h)
      rw [h2, tx_shN] at go
      exact go
    · refine pk_eq k f (fun h => absurd h (by omega)) (fun _ => ?_)
      rw [tx_s1 (show 1 ≤ k by omega)]
      exact xl_shared h2 hTt h3 ht (by omega) (by omega) go
theorem xa_pack {post : SX → Prop} {D1 D2 : List (Nat × List (List Int32))} {c b f e : Nat} {old A B C : List (List Int32)} (hI : tx_DI so tk sz da (D1 ++ (c, old) :: D2)) (hb : b = D1.length) (hb16 : b < 16) (hL : tx_LE ll ln (A ++ (B ++ C))) (hf : f = A.length) (he : e = A.length + B.length) (he16 : e ≤ 16) (h6 : B.length ≤ 6) (ok : tx_ok B)
    (hpost : ∀ sz da, tx_DI so tk sz da (D1 ++ (c, B) :: D2) → post (kl, bl, tot, fb, fi, ls, key, so, tk, sz, da, ll, ln)) : wpX_pack post (kl, bl, tot, fb, fi, ls, key, so, tk, sz, da, ll, ln) (nI b) (nI f) (nI e) := by
  obtain ⟨g1, g2, g3, g4, g5, g6⟩ := tx_DIat hI
  refine And.intro (pk_in b 16 hb16) (nm_r (e' := nI c) ?_ (nm_r (tx_m48 c) ⟨7, ?_⟩))
  · rw [nI_clamp (by omega), hb, g1]
  · refine xa_18 g2 he16 B 7 f (48 * c) [] da (by omega) (by omega) (Nat.le_refl _) (fun j hj => ?_) (Or.inl ⟨rfl, rfl⟩) (fun t ht => (ok t ht).2) (by omega) (fun da' hB hfr => ?_)
    · have := tx_LEr hL j (by rw [List.length_append]; omega)
      rw [tx_gl _ _ _ hj] at this
      rw [hf]; exact this
    · rw [show e - f = B.length from by omega]
      exact hpost _ da' (tx_DIpack hI (fun j hj => hfr j (by omega)) hB h6 ok)
theorem xe_60a {post : SX → Prop} {D1 D2 : List (Nat × List (List Int32))} {c : Nat} {old T : List (List Int32)} (hI : tx_DI so tk sz da (D1 ++ (c, old) :: D2)) (hD : (D1 ++ (c, old) :: D2).length ≤ 16) (hL : tx_LE ll ln T) (h6 : T.length ≤ 6) (ok : tx_ok T)
    (hpost : ∀ sz da, tx_DI so tk sz da (D1 ++ (c, T) :: D2) → post (kl, bl, tot, fb, fi, nI T.length, key, so, tk, sz, da, ll, ln)) : wX_storeList_60 post (nI D1.length) 1 kl bl tot fb fi (nI T.length) key so tk sz da ll ln := by
  rw [List.length_append, List.length_cons] at hD
  refine br_t rfl ?_
  exact xa_pack (A := []) (C := []) (f := 0) hI rfl (by omega) (by rw [List.append_nil]; exact hL) rfl (Nat.zero_add _).symm (by omega) h6 ok hpost
theorem xe_60b {post : SX → Prop} {D1 D2 : List (Nat × List (List Int32))} {c c' : Nat} {old old' T : List (List Int32)} (hI : tx_DI so tk sz da (D1 ++ (c, old) :: (c', old') :: D2)) (hD : (D1 ++ (c, old) :: (c', old') :: D2).length ≤ 16) (hL : tx_LE ll ln T) (h7 : 7 ≤ T.length) (h6 : T.length ≤ 11) (ok : tx_ok T)
    (hpost : ∀ sz da T1 T2, T = T1 ++ T2 → 3 ≤ T1.length → 3 ≤ T2.length → tx_DI so tk sz da (D1 ++ (c, T1) :: (c', T2) :: D2) → post (kl, bl, tot, fb, fi, nI T.length, key, so, tk, sz, da, ll, ln)) : wX_storeList_60 post (nI D1.length) 2 kl bl tot fb fi (nI T.length) key so tk sz da ll ln := by
  rw [List.length_append, List.length_cons, List.length_cons] at hD
  obtain ⟨T1, T2, eT, l1⟩ := tx_cut T ((T.length + 1) / 2) (by omega)
  have l2 : T1.length + T2.length = T.length := by rw [eT, List.length_append]
  refine br_f (by decide) (br_t rfl (And.intro (by decide) (nm_r (e' := nI T1.length) ?_ ?_)))
  · rw [nI_1, l1]
    exact pk_div (a := T.length + 1) (d := 2) (by omega) (by omega) (by omega)
  · have ok1 : tx_ok T1 := fun t ht => ok t (by rw [eT]; exact List.mem_append.mpr (Or.inl ht))
    have ok2 : tx_ok T2 := fun t ht => ok t (by rw [eT]; exact List.mem_append.mpr (Or.inr ht))
    refine xa_pack (A := []) (B := T1) (C := T2) (f := 0) hI rfl (by omega) (by rw [← eT]; exact hL) rfl (Nat.zero_add _).symm (by omega) (by omega) ok1 (fun sz1 da1 hI1 => ?_)
    have e0 : D1 ++ (c, T1) :: (c', old') :: D2 = (D1 ++ [(c, T1)]) ++ (c', old') :: D2 := by simp
    rw [e0] at hI1
    show wpX_pack _ _ (nI D1.length + 1) _ _
    rw [nI_1]
    refine xa_pack (D1 := D1 ++ [(c, T1)]) (A := T1) (B := T2) (C := []) hI1 (by rw [List.length_append]; rfl) (by omega) (by rw [List.append_nil, ← eT]; exact hL) rfl l2.symm (by omega) (by omega) ok2 (fun sz2 da2 hI2 => ?_)
    have e1 : (D1 ++ [(c, T1)]) ++ (c', T2) :: D2 = D1 ++ (c, T1) :: (c', T2) :: D2 := by simp
    rw [e1] at hI2
    exact hpost sz2 da2 T1 T2 eT (by omega) (by omega) hI2
/-- what a stored list leaves: at most two blocks, none empty, two only for a long list -/
def tx_N (T : List (List Int32)) (N : List (Nat × List (List Int32))) : Prop := tx_fl N = T ∧ N.length ≤ 2 ∧ (N.length = 2 → 7 ≤ T.length) ∧ (∀ x, x ∈ N → 1 ≤ x.2.length ∧ (3 ≤ x.2.length ∨ x.2 = T))
theorem tx_N1 {T : List (List Int32)} {c : Nat} (h : 1 ≤ T.length) : tx_N T [(c, T)] := by
  refine ⟨List.append_nil _, by simp, fun h => absurd h (by simp), fun x hx => ?_⟩
  rw [List.mem_singleton.mp hx]
  exact ⟨h, Or.inr rfl⟩
theorem tx_N2 {T T1 T2 : List (List Int32)} {c c' : Nat} (e : T = T1 ++ T2) (h7 : 7 ≤ T.length) (h1 : 3 ≤ T1.length) (h2 : 3 ≤ T2.length) : tx_N T [(c, T1), (c', T2)] := by
  refine ⟨?_, by simp, fun _ => h7, fun x hx => ?_⟩
  · show T1 ++ (T2 ++ []) = T
    rw [List.append_nil, e]
  · rcases List.mem_cons.mp hx with rfl | hx
    · exact ⟨by show 1 ≤ T1.length; omega, Or.inl h1⟩
    · rw [List.mem_singleton.mp hx]
      exact ⟨by show 1 ≤ T2.length; omega, Or.inl h2⟩
theorem xe_1 {post : SX → Prop} {D1 D2 : List (Nat × List (List Int32))} {d : Nat × List (List Int32)} {T : List (List Int32)} (hI : tx_DI so tk sz da (D1 ++ d :: D2)) (hD : (D1 ++ d :: D2).length ≤ 15) (hL : tx_LE ll ln T) (h7 : T.length ≤ 11) (ok : tx_ok T)
    (hpost : ∀ so tk sz da N, tx_DI so tk sz da (D1 ++ (N ++ D2)) → tx_N T N → post (kl, nI (D1 ++ (N ++ D2)).length, tot, fb, fi, nI T.length, key, so, tk, sz, da, ll, ln)) : wpX_storeList post (kl, nI (D1 ++ d :: D2).length, tot, fb, fi, nI T.length, key, so, tk, sz, da, ll, ln) (nI D1.length) 1 := by
  have hD' := hD
  rw [List.length_append, List.length_cons] at hD'
  refine pk_eq T.length 0 (fun g => ?_) (fun g => pk_lt 6 T.length (fun g' => ?_) (fun g' => ?_))
  · refine br_f (by decide) ?_
    refine xz_close hI (by omega) (fun so1 tk1 hI1 => ?_)
    refine br_t (by decide) (br_t (by decide) (br_f (by decide) (br_f (by decide) ?_)))
    have eT : T = [] := List.length_eq_zero_iff.mp g
    exact hpost so1 tk1 sz da [] hI1 ⟨eT.symm, Nat.zero_le _, fun h => absurd h (by simp), fun x hx => absurd hx List.not_mem_nil⟩
  · refine br_t (by decide) (br_t (by decide) (br_f (by decide) ?_))
    obtain ⟨c, old⟩ := d
    have e0 : D1 ++ (c, old) :: D2 = (D1 ++ [(c, old)]) ++ D2 := by simp
    have el : nI D1.length + 1 = nI (D1 ++ [(c, old)]).length := by rw [nI_1, List.length_append]; rfl
    rw [e0] at hI hD ⊢
    rw [el]
    refine xo_open hI hD (fun c' so1 tk1 sz1 hI1 => ?_)
    have e1 : (D1 ++ [(c, old)]) ++ (c', []) :: D2 = D1 ++ (c, old) :: (c', []) :: D2 := by simp
    rw [e1] at hI1 ⊢
    refine xe_60b hI1 (by rw [List.length_append, List.length_cons, List.length_cons]; omega) hL (by omega) h7 ok (fun sz2 da2 T1 T2 eT l1 l2 hI2 => ?_)
    have := hpost so1 tk1 sz2 da2 [(c, T1), (c', T2)] hI2 (tx_N2 eT (by omega) l1 l2)
    rw [List.length_append] at this ⊢
    exact this
  · refine br_t (by decide) (br_t (by decide) (br_t (by decide) ?_))
    obtain ⟨c, old⟩ := d
    refine xe_60a hI (by omega) hL (by omega) ok (fun sz2 da2 hI2 => ?_)
    have := hpost so tk sz2 da2 [(c, T)] hI2 (tx_N1 (by omega))
    rw [List.length_append] at this ⊢
    exact this
theorem xe_2 {post : SX → Prop} {D1 D2 : List (Nat × List (List Int32))} {d1 d2 : Nat × List (List Int32)} {T : List (List Int32)} (hI : tx_DI so tk sz da (D1 ++ d1 :: d2 :: D2)) (hD : (D1 ++ d1 :: d2 :: D2).length ≤ 15) (hL : tx_LE ll ln T) (h1 : 1 ≤ T.length) (h7 : T.length ≤ 11) (ok : tx_ok T)
    (hpost : ∀ so tk sz da N, tx_DI so tk sz da (D1 ++ (N ++ D2)) → tx_N T N → post (kl, nI (D1 ++ (N ++ D2)).length, tot, fb, fi, nI T.length, key, so, tk, sz, da, ll, ln)) : wpX_storeList post (kl, nI (D1 ++ d1 :: d2 :: D2).length, tot, fb, fi, nI T.length, key, so, tk, sz, da, ll, ln) (nI D1.length) 2 := by
  have hD' := hD
  rw [List.length_append, List.length_cons, List.length_cons] at hD'
  refine pk_eq T.length 0 (fun g => absurd g (by omega)) (fun g => pk_lt 6 T.length (fun g' => ?_) (fun g' => ?_))
  · refine br_t (by decide) (br_t (by decide) (br_t (by decide) ?_))
    obtain ⟨c, old⟩ := d1
    obtain ⟨c', old'⟩ := d2
    refine xe_60b hI (by omega) hL (by omega) h7 ok (fun sz2 da2 T1 T2 eT l1 l2 hI2 => ?_)
    have := hpost so tk sz2 da2 [(c, T1), (c', T2)] hI2 (tx_N2 eT (by omega) l1 l2)
    rw [List.length_append] at this ⊢
    exact this
  · refine br_f (by decide) ?_
    refine xz_close hI (by omega) (fun so1 tk1 hI1 => ?_)
    refine br_t (by decide) (br_t (by decide) ?_)
    obtain ⟨c', old'⟩ := d2
    refine xe_60a hI1 (by rw [List.length_append, List.length_cons]; omega) hL (by omega) ok (fun sz2 da2 hI2 => ?_)
    have := hpost so1 tk1 sz2 da2 [(c', T)] hI2 (tx_N1 h1)
    rw [List.length_append] at this ⊢
    exact this
end
end
section
/-! the reference: each method against the row M of its terms -/
section
variable {te ty : Int32} {le lg key : Nat → Int32}
theorem tx_cS1 {α : Type} {p : α → Prop} {A : List α} {x : α} (h : p x) : tx_cn p (A ++ [x]) = tx_cn p A + 1 := by
  rw [tx_cnA]
  show tx_cn p A + (tx_b (p x) + 0) = _
  rw [tx_b1 h]
theorem tx_cS0 {α : Type} {p : α → Prop} {A : List α} {x : α} (h : ¬ p x) : tx_cn p (A ++ [x]) = tx_cn p A := by
  rw [tx_cnA]
  show tx_cn p A + (tx_b (p x) + 0) = _
  rw [tx_b0 h]; rfl
theorem tx_last {α : Type} : ∀ B : List α, B = [] ∨ ∃ C z, B = C ++ [z]
  | [] => Or.inl rfl
  | b :: B => by
    rcases tx_last B with h | ⟨C, z, h⟩
    · subst h; exact Or.inr ⟨[], b, rfl⟩
    · subst h; exact Or.inr ⟨b :: C, z, rfl⟩
theorem tx_lS {α : Type} (A : List α) (x : α) : (A ++ [x]).length = A.length + 1 := by rw [List.length_append]; rfl
theorem ys_loop {post : Int32 → Prop} {K t : List Int32} {k : Nat} (hK : tx_KE key K) (hT : tx_TE le lg k t) (ht : t.length ≤ 6) (hk : k < 40) (hpost : post (nI (tx_sh t K))) :
    ∀ n m, K.length < n + m → m ≤ K.length → m ≤ t.length → (∀ i, i < m → t.getD i 0 = K.getD i 0) → wY_shared_2 post (nI k) te (nI K.length) le lg key n (nI m) := by
  obtain ⟨k6, kk⟩ := hK
  obtain ⟨t1, t2⟩ := hT
  intro n
  induction n with
  | zero => intro m h1 h3; omega
  | succ n ih =>
    intro m h1 h3 h4 h5
    refine pk_le K.length m (fun h => ?_) (fun h => And.intro (pk_in k 40 hk) ?_)
    · have e : tx_sh t K = m := tx_shU h4 h3 h5 (fun _ g => absurd g (by omega))
      rw [← e]; exact hpost
    · have e : 6 * nI k + nI m = nI (6 * k + m) := by rw [tx_m6, nI_add]
      rw [e, nI_clamp (n := k) (by omega), t1]
      refine pk_le t.length m (fun h' => ?_) (fun h' => ⟨pk_in (6 * k + m) 240 (by omega), pk_in m 6 (by omega), ?_⟩)
      · have e : tx_sh t K = m := tx_shU h4 h3 h5 (fun g => absurd g (by omega))
        rw [← e]; exact hpost
      · rw [nI_clamp (n := 6 * k + m) (by omega), nI_clamp (n := m) (by omega), t2 m h', kk m h]
        refine br_c (fun g => nm_r (nI_1 m) (ih (m + 1) (by omega) (by omega) (by omega) (tx_l1 h5 g))) (fun g => ?_)
        have e : tx_sh t K = m := tx_shU h4 h3 h5 (fun _ _ => g)
        rw [← e]; exact hpost
theorem ys_shared {post : Int32 → Prop} {K t : List Int32} {k : Nat} (hK : tx_KE key K) (hT : tx_TE le lg k t) (ht : t.length ≤ 6) (hk : k < 40) (hpost : post (nI (tx_sh t K))) : wpY_shared post (te, nI K.length, le, lg, key) (nI k) :=
  ⟨7, ys_loop hK hT ht hk hpost 7 0 (by have := hK.1; omega) (Nat.zero_le _) (Nat.zero_le _) (fun i hi => absurd hi (Nat.not_lt_zero i))⟩
theorem yp_prec {post : Int32 → Prop} {K t : List Int32} {k : Nat} (hK : tx_KE key K) (hT : tx_TE le lg k t) (ht : t.length ≤ 6) (hk : k < 40) (h1 : tx_P false K t → post 1) (h0 : ¬ tx_P false K t → post 0) : wpY_precedes post (te, nI K.length, le, lg, key) (nI k) := by
  obtain ⟨g1, g2, g3, g4⟩ := tx_shP t K
  have k6 := hK.1
  unfold wpY_precedes
  refine ys_shared hK hT ht hk ?_
  refine pk_lt (tx_sh t K) K.length (fun h => And.intro (pk_in k 40 hk) ?_) (fun h => h0 (fun z => ?_))
  · have e : 6 * nI k + nI (tx_sh t K) = nI (6 * k + tx_sh t K) := by rw [tx_m6, nI_add]
    rw [e, nI_clamp (n := k) (by omega), hT.1]
    refine pk_le t.length (tx_sh t K) (fun h' => h1 (Or.inr ⟨h, Or.inl (by omega)⟩)) (fun h' => ⟨pk_in (6 * k + tx_sh t K) 240 (by omega), pk_in (tx_sh t K) 6 (by omega), ?_⟩)
    rw [nI_clamp (n := 6 * k + tx_sh t K) (by omega), nI_clamp (n := tx_sh t K) (by omega), hT.2 _ h', hK.2 _ h]
    refine br_c (fun q => h0 (fun z => ?_)) (fun q => h1 (Or.inr ⟨h, Or.inr ?_⟩))
    · rw [Int32.le_iff_toInt_le] at q
      rcases z with z | z
      · omega
      · rcases z.2 with z | z
        · omega
        · unfold tx_v at z; omega
    · rw [Int32.le_iff_toInt_le] at q
      unfold tx_v; omega
  · rcases z with z | z
    · exact absurd z.2 (by decide)
    · omega
theorem yl_loop {post : Int32 → Prop} {s t : List Int32} {a b : Nat} (hS : tx_TE le lg a s) (hT : tx_TE le lg b t) (hs : s.length ≤ 6) (ht : t.length ≤ 6) (ha : a < 40) (hb : b < 40) (h1 : tx_lt s t → post 1) (h0 : ¬ tx_lt s t → post 0) :
    ∀ n m, 6 < n + m → m ≤ s.length → m ≤ t.length → (∀ i, i < m → s.getD i 0 = t.getD i 0) → wY_less_2 post (nI a) (nI b) te ty le lg key n (nI m) := by
  obtain ⟨s1, s2⟩ := hS
  obtain ⟨t1, t2⟩ := hT
  intro n
  induction n with
  | zero => intro m g1 g2 g3; omega
  | succ n ih =>
    intro m g1 g2 g3 g4
    have e : 6 * nI a + nI m = nI (6 * a + m) := by rw [tx_m6, nI_add]
    have e' : 6 * nI b + nI m = nI (6 * b + m) := by rw [tx_m6, nI_add]
    have notlt : t.length ≤ m → ¬ tx_lt s t := fun h z => by
      have es : tx_sh s t = m := tx_shU g2 g3 g4 (fun _ q => absurd q (by omega))
      have := z.1
      omega
    refine pk_le 6 m (fun h => h0 (notlt (by omega))) (fun h => And.intro (pk_in b 40 hb) ?_)
    rw [e, e', nI_clamp (n := a) (by omega), nI_clamp (n := b) (by omega), s1, t1]
    refine pk_lt m t.length (fun h' => ⟨pk_in a 40 ha, pk_lt m s.length (fun h'' => ⟨pk_in (6 * a + m) 240 (by omega), pk_in (6 * b + m) 240 (by omega), ?_⟩) (fun h'' => ?_)⟩) (fun h' => h0 (notlt h'))
    · rw [nI_clamp (n := 6 * a + m) (by omega), nI_clamp (n := 6 * b + m) (by omega), s2 m h'', t2 m h']
      refine br_c (fun g => nm_r (nI_1 m) (ih (m + 1) (by omega) (by omega) (by omega) (tx_l1 g4 g))) (fun g => ⟨pk_in (6 * a + m) 240 (by omega), pk_in (6 * b + m) 240 (by omega), ?_⟩)
      have es : tx_sh s t = m := tx_shU g2 g3 g4 (fun _ _ => g)
      refine br_c (fun q => h0 (fun z => ?_)) (fun q => h1 ?_)
      · rw [Int32.le_iff_toInt_le] at q
        obtain ⟨z1, z2⟩ := z
        rw [es] at z2
        rcases z2 with z2 | z2
        · omega
        · unfold tx_v at z2; omega
      · rw [Int32.le_iff_toInt_le] at q
        refine ⟨by omega, Or.inr ?_⟩
        rw [es]
        unfold tx_v; omega
    · have es : tx_sh s t = m := tx_shU g2 g3 g4 (fun q => absurd q (by omega))
      exact h1 ⟨by omega, Or.inl (by omega)⟩
theorem yl_less {post : Int32 → Prop} {s t : List Int32} {a b : Nat} (hS : tx_TE le lg a s) (hT : tx_TE le lg b t) (hs : s.length ≤ 6) (ht : t.length ≤ 6) (ha : a < 40) (hb : b < 40) (h1 : tx_lt s t → post 1) (h0 : ¬ tx_lt s t → post 0) : wpY_less post (te, ty, le, lg, key) (nI a) (nI b) :=
  ⟨7, yl_loop hS hT hs ht ha hb h1 h0 7 0 (by omega) (Nat.zero_le _) (Nat.zero_le _) (fun i hi => absurd hi (Nat.not_lt_zero i))⟩
theorem yr_loop {post : Int32 → Prop} {M : List (List Int32)} {t : List Int32} {k : Nat} (hL : tx_LE le lg M) (ok : tx_ok M) (hM : M.length ≤ 40) (hT : tx_TE le lg k t) (ht : t.length ≤ 6) (hk : k < 40) (hpost : post (nI (tx_cn (fun s => tx_lt s t) M))) :
    ∀ (R M0 : List (List Int32)) (n : Nat), R.length < n → M = M0 ++ R → wY_rankOf_4 post (nI k) (nI M.length) ty le lg key n (nI (tx_cn (fun s => tx_lt s t) M0)) (nI M0.length) := by
  intro R
  induction R with
  | nil =>
    intro M0 n hn e
    obtain ⟨n, rfl⟩ : ∃ m, n = m + 1 := ⟨n - 1, by omega⟩
    rw [List.append_nil] at e
    subst e
    exact br_t (nI_le (Nat.le_refl _) (by omega)) hpost
  | cons s R ih =>
    intro M0 n hn e
    obtain ⟨n, rfl⟩ : ∃ m, n = m + 1 := ⟨n - 1, by omega⟩
    rw [List.length_cons] at hn
    have el : M.length = M0.length + R.length + 1 := by rw [e, List.length_append, List.length_cons]; omega
    have hS : tx_TE le lg M0.length s := tx_LEm (B := R) (by rw [← e]; exact hL)
    have e2 : M = (M0 ++ [s]) ++ R := by rw [e]; simp
    refine br_f (nI_ge (by omega) (by omega)) ?_
    refine yl_less hS hT (ok s (by rw [e]; simp)).2 ht (by omega) hk (fun z => br_f (by decide) ?_) (fun z => br_t rfl ?_)
    · have := ih (M0 ++ [s]) n (by omega) e2
      rw [tx_cS1 (p := fun s => tx_lt s t) z, tx_lS] at this
      exact nm_r (nI_1 _) (nm_r (nI_1 _) this)
    · have := ih (M0 ++ [s]) n (by omega) e2
      rw [tx_cS0 (p := fun s => tx_lt s t) z, tx_lS] at this
      exact nm_r (nI_1 _) this
theorem yr_rank {post : Int32 → Prop} {M : List (List Int32)} {t : List Int32} {k : Nat} (hL : tx_LE le lg M) (ok : tx_ok M) (hM : M.length ≤ 40) (hT : tx_TE le lg k t) (ht : t.length ≤ 6) (hk : k < 40) (hpost : post (nI (tx_cn (fun s => tx_lt s t) M))) : wpY_rankOf post (nI M.length, ty, le, lg, key) (nI k) :=
  ⟨41, yr_loop hL ok hM hT ht hk hpost M [] 41 (by omega) rfl⟩
def tx_kp (key : Nat → Int32) (t : List Int32) (i : Nat) : Nat → Int32 := fun j => if j < i then t.getD j 0 else key j
theorem tx_kp0 (key : Nat → Int32) (t : List Int32) : tx_kp key t 0 = key := funext (fun j => if_neg (Nat.not_lt_zero j))
theorem tx_kpS (key : Nat → Int32) (t : List Int32) (i : Nat) : upd (tx_kp key t i) i (t.getD i 0) = tx_kp key t (i + 1) := by
  funext j
  unfold tx_kp upd
  by_cases h : j = i
  · subst h
    rw [if_pos rfl, if_pos (Nat.lt_succ_self j)]
  · rw [if_neg h]
    by_cases h' : j < i
    · show (if j < i then t.getD j 0 else key j) = _
      rw [if_pos h', if_pos (by omega)]
    · show (if j < i then t.getD j 0 else key j) = _
      rw [if_neg h', if_neg (by omega)]
theorem tx_kpK (key : Nat → Int32) {t : List Int32} (h : t.length ≤ 6) : tx_KE (tx_kp key t t.length) t := ⟨h, fun _ hi => if_pos hi⟩
theorem yo_31 {post : Int32 → SY → Prop} {t : List Int32} {k : Nat} (hT : tx_TE le lg k t) (ht : t.length ≤ 6) (hk : k < 40) (hpost : post (nI t.length) (te, nI t.length, le, lg, tx_kp key t t.length)) :
    ∀ n i, t.length < n + i → i ≤ t.length → wY_load_31 post (nI k) te (nI t.length) n (nI i) le lg (tx_kp key t i) := by
  obtain ⟨t1, t2⟩ := hT
  intro n
  induction n with
  | zero => intro i h1 h2; omega
  | succ n ih =>
    intro i h1 h2
    refine pk_le t.length i (fun g => ?_) (fun g => ?_)
    · have : i = t.length := by omega
      rw [this]; exact hpost
    · have e : 6 * nI k + nI i = nI (6 * k + i) := by rw [tx_m6, nI_add]
      rw [e, nI_clamp (n := 6 * k + i) (by omega), nI_clamp (n := i) (by omega), t2 i g, tx_kpS]
      exact ⟨pk_in (6 * k + i) 240 (by omega), pk_in i 6 (by omega), nm_e (nm_r (nI_1 i) (ih (i + 1) (by omega) (by omega)))⟩
theorem yo_loop {post : Int32 → SY → Prop} {M : List (List Int32)} {r : Int32} (hL : tx_LE le lg M) (ok : tx_ok M) (hM : M.length ≤ 40)
    (h1 : ∀ t, t ∈ M → nI (tx_cn (fun s => tx_lt s t) M) = r → post (nI t.length) (nI M.length, nI t.length, le, lg, tx_kp key t t.length))
    (h0 : (∀ t, t ∈ M → nI (tx_cn (fun s => tx_lt s t) M) ≠ r) → post (-1) (nI M.length, ty, le, lg, key)) :
    ∀ (R M0 : List (List Int32)) (n : Nat), R.length < n → M = M0 ++ R → (∀ t, t ∈ M0 → nI (tx_cn (fun s => tx_lt s t) M) ≠ r) → wY_load_2 post r (nI M.length) ty le lg key n (nI M0.length) := by
  intro R
  induction R with
  | nil =>
    intro M0 n hn e hno
    obtain ⟨n, rfl⟩ : ∃ m, n = m + 1 := ⟨n - 1, by omega⟩
    rw [List.append_nil] at e
    subst e
    exact br_t (nI_le (Nat.le_refl _) (by omega)) (h0 hno)
  | cons t R ih =>
    intro M0 n hn e hno
    obtain ⟨n, rfl⟩ : ∃ m, n = m + 1 := ⟨n - 1, by omega⟩
    rw [List.length_cons] at hn
    have el : M.length = M0.length + R.length + 1 := by rw [e, List.length_append, List.length_cons]; omega
    have hT : tx_TE le lg M0.length t := tx_LEm (B := R) (by rw [← e]; exact hL)
    have e2 : M = (M0 ++ [t]) ++ R := by rw [e]; simp
    have hm : t ∈ M := by rw [e]; simp
    have ht := (ok t hm).2
    refine br_f (nI_ge (by omega) (by omega)) ?_
    refine yr_rank hL ok hM hT ht (by omega) ?_
    refine br_c (fun g => And.intro (pk_in M0.length 40 (by omega)) ?_) (fun g => nm_r (e' := nI (M0 ++ [t]).length) (by rw [nI_1, tx_lS]) (ih (M0 ++ [t]) n (by omega) e2 (fun u hu => ?_)))
    · rw [nI_clamp (n := M0.length) (by omega), hT.1]
      have := yo_31 (te := nI M.length) (key := key) hT ht (by omega) (h1 t hm g) 7 0 (by omega) (Nat.zero_le _)
      rw [tx_kp0] at this
      exact nm_e ⟨7, this⟩
    · rcases List.mem_append.mp hu with hu | hu
      · exact hno u hu
      · rw [List.mem_singleton.mp hu]; exact g
theorem yo_load {post : Int32 → SY → Prop} {M : List (List Int32)} {r : Int32} (hL : tx_LE le lg M) (ok : tx_ok M) (hM : M.length ≤ 40)
    (h1 : ∀ t, t ∈ M → nI (tx_cn (fun s => tx_lt s t) M) = r → post (nI t.length) (nI M.length, nI t.length, le, lg, tx_kp key t t.length))
    (h0 : (∀ t, t ∈ M → nI (tx_cn (fun s => tx_lt s t) M) ≠ r) → post (-1) (nI M.length, ty, le, lg, key)) : wpY_load post (nI M.length, ty, le, lg, key) r :=
  ⟨41, yo_loop hL ok hM h1 h0 M [] 41 (by omega) rfl (fun t ht => absurd ht List.not_mem_nil)⟩
theorem ym_loop {post : Int32 → Prop} {M : List (List Int32)} {K : List Int32} (hK : tx_KE key K) (hL : tx_LE le lg M) (ok : tx_ok M) (hM : M.length ≤ 40)
    (h1 : ∀ A B, M = A ++ K :: B → post (nI A.length)) (h0 : K ∉ M → post (-1)) :
    ∀ (R M0 : List (List Int32)) (n : Nat), R.length < n → M = M0 ++ R → K ∉ M0 → wY_same_2 post (nI M.length) (nI K.length) le lg key n (nI M0.length) := by
  intro R
  induction R with
  | nil =>
    intro M0 n hn e hno
    obtain ⟨n, rfl⟩ : ∃ m, n = m + 1 := ⟨n - 1, by omega⟩
    rw [List.append_nil] at e
    subst e
    exact br_t (nI_le (Nat.le_refl _) (by omega)) (h0 hno)
  | cons t R ih =>
    intro M0 n hn e hno
    obtain ⟨n, rfl⟩ : ∃ m, n = m + 1 := ⟨n - 1, by omega⟩
    rw [List.length_cons] at hn
    have el : M.length = M0.length + R.length + 1 := by rw [e, List.length_append, List.length_cons]; omega
    have hT : tx_TE le lg M0.length t := tx_LEm (B := R) (by rw [← e]; exact hL)
    have e2 : M = (M0 ++ [t]) ++ R := by rw [e]; simp
    have hm : t ∈ M := by rw [e]; simp
    have ht := (ok t hm).2
    have k6 := hK.1
    have go : t ≠ K → wY_same_2 post (nI M.length) (nI K.length) le lg key n (nI (M0.length + 1)) := fun z => by
      have := ih (M0 ++ [t]) n (by omega) e2 (fun hu => by
        rcases List.mem_append.mp hu with hu | hu
        · exact hno hu
        · exact z (List.mem_singleton.mp hu).symm)
      rw [tx_lS] at this
      exact this
    refine br_f (nI_ge (by omega) (by omega)) (And.intro (pk_in M0.length 40 (by omega)) ?_)
    rw [nI_clamp (n := M0.length) (by omega), hT.1]
    refine pk_eq t.length K.length (fun g => ?_) (fun g => nm_r (nI_1 _) (go (fun z => g (by rw [z]))))
    have sl := tx_shP t K
    refine ys_shared hK hT ht (by omega) (pk_eq (tx_sh t K) K.length (fun g' => ?_) (fun g' => nm_r (nI_1 _) (go (fun z => g' (by rw [z, tx_shS])))))
    have ez := tx_shE g' g
    subst ez
    exact h1 M0 R e
theorem ym_same {post : Int32 → Prop} {M : List (List Int32)} {K : List Int32} (hK : tx_KE key K) (hL : tx_LE le lg M) (ok : tx_ok M) (hM : M.length ≤ 40)
    (h1 : ∀ A B, M = A ++ K :: B → post (nI A.length)) (h0 : K ∉ M → post (-1)) : wpY_same post (nI M.length, nI K.length, le, lg, key) :=
  ⟨41, ym_loop hK hL ok hM h1 h0 M [] 41 (by omega) rfl List.not_mem_nil⟩
theorem yb_loop {post : Int32 → Prop} {M : List (List Int32)} {K : List Int32} (hK : tx_KE key K) (hL : tx_LE le lg M) (ok : tx_ok M) (hM : M.length ≤ 40) (hpost : post (nI (tx_cn (tx_P false K) M))) :
    ∀ (R M0 : List (List Int32)) (n : Nat), R.length < n → M = M0 ++ R → wY_before_4 post (nI M.length) (nI K.length) le lg key n (nI (tx_cn (tx_P false K) M0)) (nI M0.length) := by
  intro R
  induction R with
  | nil =>
    intro M0 n hn e
    obtain ⟨n, rfl⟩ : ∃ m, n = m + 1 := ⟨n - 1, by omega⟩
    rw [List.append_nil] at e
    subst e
    exact br_t (nI_le (Nat.le_refl _) (by omega)) hpost
  | cons s R ih =>
    intro M0 n hn e
    obtain ⟨n, rfl⟩ : ∃ m, n = m + 1 := ⟨n - 1, by omega⟩
    rw [List.length_cons] at hn
    have el : M.length = M0.length + R.length + 1 := by rw [e, List.length_append, List.length_cons]; omega
    have hS : tx_TE le lg M0.length s := tx_LEm (B := R) (by rw [← e]; exact hL)
    have e2 : M = (M0 ++ [s]) ++ R := by rw [e]; simp
    refine br_f (nI_ge (by omega) (by omega)) ?_
    refine yp_prec hK hS (ok s (by rw [e]; simp)).2 (by omega) (fun z => br_f (by decide) ?_) (fun z => br_t rfl ?_)
    · have := ih (M0 ++ [s]) n (by omega) e2
      rw [tx_cS1 z, tx_lS] at this
      exact nm_r (nI_1 _) (nm_r (nI_1 _) this)
    · have := ih (M0 ++ [s]) n (by omega) e2
      rw [tx_cS0 z, tx_lS] at this
      exact nm_r (nI_1 _) this
theorem yb_before {post : Int32 → Prop} {M : List (List Int32)} {K : List Int32} (hK : tx_KE key K) (hL : tx_LE le lg M) (ok : tx_ok M) (hM : M.length ≤ 40) (hpost : post (nI (tx_cn (tx_P false K) M))) : wpY_before post (nI M.length, nI K.length, le, lg, key) :=
  ⟨41, yb_loop hK hL ok hM hpost M [] 41 (by omega) rfl⟩
theorem yg_loop {post : Int32 → Prop} {M : List (List Int32)} {K : List Int32} (hK : tx_KE key K) (hL : tx_LE le lg M) (ok : tx_ok M) (hM : M.length ≤ 40) (hpost : post (nI (tx_cn (fun t => tx_sh t K = K.length) M))) :
    ∀ (R M0 : List (List Int32)) (n : Nat), R.length < n → M = M0 ++ R → wY_beginning_4 post (nI M.length) (nI K.length) le lg key n (nI (tx_cn (fun t => tx_sh t K = K.length) M0)) (nI M0.length) := by
  intro R
  induction R with
  | nil =>
    intro M0 n hn e
    obtain ⟨n, rfl⟩ : ∃ m, n = m + 1 := ⟨n - 1, by omega⟩
    rw [List.append_nil] at e
    subst e
    exact br_t (nI_le (Nat.le_refl _) (by omega)) hpost
  | cons s R ih =>
    intro M0 n hn e
    obtain ⟨n, rfl⟩ : ∃ m, n = m + 1 := ⟨n - 1, by omega⟩
    rw [List.length_cons] at hn
    have el : M.length = M0.length + R.length + 1 := by rw [e, List.length_append, List.length_cons]; omega
    have hS : tx_TE le lg M0.length s := tx_LEm (B := R) (by rw [← e]; exact hL)
    have e2 : M = (M0 ++ [s]) ++ R := by rw [e]; simp
    have k6 := hK.1
    have sl := tx_shP s K
    refine br_f (nI_ge (by omega) (by omega)) ?_
    refine ys_shared hK hS (ok s (by rw [e]; simp)).2 (by omega) (pk_eq (tx_sh s K) K.length (fun z => ?_) (fun z => ?_))
    · have := ih (M0 ++ [s]) n (by omega) e2
      rw [tx_cS1 (p := fun t => tx_sh t K = K.length) z, tx_lS] at this
      exact nm_r (nI_1 _) (nm_r (nI_1 _) this)
    · have := ih (M0 ++ [s]) n (by omega) e2
      rw [tx_cS0 (p := fun t => tx_sh t K = K.length) z, tx_lS] at this
      exact nm_r (nI_1 _) this
theorem yg_begin {post : Int32 → Prop} {M : List (List Int32)} {K : List Int32} (hK : tx_KE key K) (hL : tx_LE le lg M) (ok : tx_ok M) (hM : M.length ≤ 40) (hpost : post (nI (tx_cn (fun t => tx_sh t K = K.length) M))) : wpY_beginning post (nI M.length, nI K.length, le, lg, key) :=
  ⟨41, yg_loop hK hL ok hM hpost M [] 41 (by omega) rfl⟩
theorem tx_nm1 {r : Nat} (h : r < 2 ^ 31) : ¬ nI r ≤ -1 := by
  rw [Int32.le_iff_toInt_le, nI_toInt h, show (-1 : Int32).toInt = -1 from by decide]
  omega
theorem yc_loop {post : Int32 → Prop} {M : List (List Int32)} {K : List Int32} (hK : tx_KE key K) (hL : tx_LE le lg M) (ok : tx_ok M) (hM : M.length ≤ 40) (h0 : M = [] → post (-1)) (h1 : ∀ t, t ∈ M → (∀ u, u ∈ M → tx_sh u K ≤ tx_sh t K) → post (nI (tx_sh t K))) :
    ∀ (R M0 : List (List Int32)) (n : Nat) (x : Int32), R.length < n → M = M0 ++ R → ((M0 = [] ∧ x = -1) ∨ ∃ t, t ∈ M0 ∧ x = nI (tx_sh t K) ∧ ∀ u, u ∈ M0 → tx_sh u K ≤ tx_sh t K) → wY_common_4 post (nI M.length) (nI K.length) le lg key n x (nI M0.length) := by
  intro R
  induction R with
  | nil =>
    intro M0 n x hn e hx
    obtain ⟨n, rfl⟩ : ∃ m, n = m + 1 := ⟨n - 1, by omega⟩
    rw [List.append_nil] at e
    subst e
    refine br_t (nI_le (Nat.le_refl _) (by omega)) ?_
    rcases hx with ⟨a, b⟩ | ⟨t, a, b, c⟩
    · rw [b]; exact h0 a
    · rw [b]; exact h1 t a c
  | cons s R ih =>
    intro M0 n x hn e hx
    obtain ⟨n, rfl⟩ : ∃ m, n = m + 1 := ⟨n - 1, by omega⟩
    rw [List.length_cons] at hn
    have el : M.length = M0.length + R.length + 1 := by rw [e, List.length_append, List.length_cons]; omega
    have hS : tx_TE le lg M0.length s := tx_LEm (B := R) (by rw [← e]; exact hL)
    have e2 : M = (M0 ++ [s]) ++ R := by rw [e]; simp
    have k6 := hK.1
    have sl := tx_shP s K
    refine br_f (nI_ge (by omega) (by omega)) ?_
    refine ys_shared hK hS (ok s (by rw [e]; simp)).2 (by omega) ?_
    have go : ∀ y, (∃ t, t ∈ M0 ++ [s] ∧ y = nI (tx_sh t K) ∧ ∀ u, u ∈ M0 ++ [s] → tx_sh u K ≤ tx_sh t K) → wY_common_4 post (nI M.length) (nI K.length) le lg key n y (nI (M0.length + 1)) := fun y hy => by
      have := ih (M0 ++ [s]) n y (by omega) e2 (Or.inr hy)
      rw [tx_lS] at this
      exact this
    rcases hx with ⟨a, b⟩ | ⟨t, a, b, c⟩
    · subst a
      subst b
      refine br_f (tx_nm1 (by omega)) (nm_r (nI_1 _) (go _ ⟨s, by simp, rfl, fun u hu => ?_⟩))
      rw [List.nil_append] at hu
      rw [List.mem_singleton.mp hu]
      exact Nat.le_refl _
    · subst b
      have tl := tx_shP t K
      refine pk_le (tx_sh s K) (tx_sh t K) (fun g => nm_r (nI_1 _) (go _ ⟨t, List.mem_append.mpr (Or.inl a), rfl, fun u hu => ?_⟩)) (fun g => nm_r (nI_1 _) (go _ ⟨s, by simp, rfl, fun u hu => ?_⟩))
      · rcases List.mem_append.mp hu with hu | hu
        · exact c u hu
        · rw [List.mem_singleton.mp hu]; exact g
      · rcases List.mem_append.mp hu with hu | hu
        · exact Nat.le_trans (c u hu) (Nat.le_of_lt g)
        · rw [List.mem_singleton.mp hu]; exact Nat.le_refl _
theorem yc_common {post : Int32 → Prop} {M : List (List Int32)} {K : List Int32} (hK : tx_KE key K) (hL : tx_LE le lg M) (ok : tx_ok M) (hM : M.length ≤ 40) (h0 : M = [] → post (-1)) (h1 : ∀ t, t ∈ M → (∀ u, u ∈ M → tx_sh u K ≤ tx_sh t K) → post (nI (tx_sh t K))) : wpY_common post (nI M.length, nI K.length, le, lg, key) :=
  ⟨41, yc_loop hK hL ok hM h0 h1 M [] 41 (-1) (by omega) rfl (Or.inl ⟨rfl, rfl⟩)⟩
theorem yi_40 {post : Int32 → SY → Prop} {M : List (List Int32)} {K : List Int32} {le0 : Nat → Int32} (hK : tx_KE key K) (hM : M.length < 40)
    (hp : ∀ le, (∀ j, j < 6 * M.length → le j = le0 j) → (∀ j, j < K.length → le (6 * M.length + j) = K.getD j 0) → wpY_before (fun r => post r (nI (M.length + 1), nI K.length, le, lg, key)) (nI (M.length + 1), nI K.length, le, lg, key)) :
    ∀ (n i : Nat) (le : Nat → Int32), K.length < n + i → i ≤ K.length → (∀ j, j < 6 * M.length → le j = le0 j) → (∀ j, j < i → le (6 * M.length + j) = K.getD j 0) → wY_insert_40 post (nI M.length) (nI K.length) n (nI i) le lg key := by
  obtain ⟨k6, kk⟩ := hK
  intro n
  induction n with
  | zero => intro i le h1 h2; omega
  | succ n ih =>
    intro i le h1 h2 h3 h4
    have e : 6 * nI M.length + nI i = nI (6 * M.length + i) := by rw [tx_m6, nI_add]
    refine pk_le K.length i (fun g => nm_r (nI_1 _) (hp le h3 (fun j hj => h4 j (by omega)))) (fun g => ?_)
    rw [e, nI_clamp (n := 6 * M.length + i) (by omega), nI_clamp (n := i) (by omega), kk i g]
    refine ⟨pk_in i 6 (by omega), pk_in (6 * M.length + i) 240 (by omega), nm_e (nm_r (nI_1 i) (ih (i + 1) _ (by omega) (by omega) (fun j hj => ?_) (fun j hj => ?_)))⟩
    · rw [pk_un (by omega)]; exact h3 j hj
    · rcases Nat.lt_or_ge j i with w | w
      · rw [pk_un (by omega)]; exact h4 j w
      · have : j = i := by omega
        subst this
        rw [pk_us]
theorem yi_ins {post : Int32 → SY → Prop} {M : List (List Int32)} {K : List Int32} (hK : tx_KE key K) (hL : tx_LE le lg M) (ok : tx_ok M) (hM : M.length ≤ 40)
    (h0 : (K.length = 0 ∨ K ∈ M ∨ M.length = 40) → post (-1) (nI M.length, nI K.length, le, lg, key))
    (h1 : K.length ≠ 0 → K ∉ M → M.length < 40 → ∀ le lg, tx_LE le lg (M ++ [K]) → post (nI (tx_cn (tx_P false K) (M ++ [K]))) (nI (M ++ [K]).length, nI K.length, le, lg, key)) :
    wpY_insert post (nI M.length, nI K.length, le, lg, key) := by
  have k6 := hK.1
  refine pk_eq K.length 0 (fun g => h0 (Or.inl g)) (fun g => ?_)
  refine ym_same hK hL ok hM (fun A B e => br_t (nI_pos' ?_) (h0 (Or.inr (Or.inl (by rw [e]; simp))))) (fun hno => br_f (by decide) ?_)
  · rw [e, List.length_append] at hM; omega
  · refine pk_eq M.length 40 (fun g' => h0 (Or.inr (Or.inr g'))) (fun g' => And.intro (pk_in M.length 40 (by omega)) ?_)
    rw [nI_clamp (n := M.length) (by omega)]
    refine nm_e ⟨7, ?_⟩
    refine yi_40 (le0 := le) hK (by omega) (fun le1 a1 a2 => ?_) 7 0 le (by omega) (Nat.zero_le _) (fun _ _ => rfl) (fun j hj => absurd hj (Nat.not_lt_zero j))
    have hL1 : tx_LE le1 (upd lg M.length (nI K.length)) (M ++ [K]) := tx_LEs hL (fun t ht => (ok t ht).2) a1 (fun j hj => pk_un (by omega)) ⟨pk_us, a2⟩
    have ok1 : tx_ok (M ++ [K]) := fun t ht => by
      rcases List.mem_append.mp ht with ht | ht
      · exact ok t ht
      · rw [List.mem_singleton.mp ht]; exact ⟨by omega, k6⟩
    rw [← tx_lS M K]
    exact yb_before hK hL1 ok1 (by rw [tx_lS]; omega) (h1 g hno (by omega) _ _ hL1)
theorem yd_43 {post : Int32 → SY → Prop} {a e : Nat} {x2 : Int32} {le0 : Nat → Int32} (ha : a < 40) (he : e < 40)
    (hp : ∀ le, (∀ j, j < 6 → le (6 * a + j) = le0 (6 * e + j)) → (∀ j, (j < 6 * a ∨ 6 * a + 6 ≤ j) → le j = le0 j) → post x2 (nI e, ty, le, lg, key)) :
    ∀ (n i : Nat) (le : Nat → Int32), 6 < n + i → i ≤ 6 → (∀ j, j < i → le (6 * a + j) = le0 (6 * e + j)) → (∀ j, (j < 6 * a ∨ 6 * a + i ≤ j) → le j = le0 j) → wY_delete_43 post (nI a) x2 (nI e) ty n (nI i) le lg key := by
  intro n
  induction n with
  | zero => intro i le h1 h2; omega
  | succ n ih =>
    intro i le h1 h2 h3 h4
    have e1 : 6 * nI a + nI i = nI (6 * a + i) := by rw [tx_m6, nI_add]
    have e2 : 6 * nI e + nI i = nI (6 * e + i) := by rw [tx_m6, nI_add]
    refine pk_le 6 i (fun g => hp le (fun j hj => h3 j (by omega)) (fun j hj => h4 j (by omega))) (fun g => ?_)
    rw [e1, e2, nI_clamp (n := 6 * a + i) (by omega), nI_clamp (n := 6 * e + i) (by omega)]
    refine ⟨pk_in (6 * e + i) 240 (by omega), pk_in (6 * a + i) 240 (by omega), nm_e (nm_r (nI_1 i) (ih (i + 1) _ (by omega) (by omega) (fun j hj => ?_) (fun j hj => ?_)))⟩
    · rcases Nat.lt_or_ge j i with w | w
      · rw [pk_un (by omega)]; exact h3 j w
      · have : j = i := by omega
        subst this
        rw [pk_us]
        exact h4 (6 * e + j) (by omega)
    · rw [pk_un (by omega)]; exact h4 j (by omega)
theorem yd_del {post : Int32 → SY → Prop} {M : List (List Int32)} {K : List Int32} (hK : tx_KE key K) (hL : tx_LE le lg M) (ok : tx_ok M) (hM : M.length ≤ 40)
    (h0 : K ∉ M → post (-1) (nI M.length, nI K.length, le, lg, key))
    (h1 : ∀ A B, M = A ++ K :: B → ∀ N le lg, N.Perm (A ++ B) → tx_LE le lg N → post (nI (tx_cn (tx_P false K) M)) (nI N.length, nI K.length, le, lg, key)) :
    wpY_delete post (nI M.length, nI K.length, le, lg, key) := by
  unfold wpY_delete
  refine ym_same hK hL ok hM (fun A B e => ?_) (fun hno => br_f (by decide) (h0 hno))
  have el : M.length = A.length + B.length + 1 := by rw [e, List.length_append, List.length_cons]; omega
  refine br_t (nI_pos' (by omega)) ?_
  refine yb_before hK hL ok hM ?_
  refine nm_r (e' := nI (A.length + B.length)) ?_ ⟨pk_in (A.length + B.length) 40 (by omega), pk_in A.length 40 (by omega), ?_⟩
  · rw [tx_s1 (by omega)]; exact tx_n (by omega)
  · rw [nI_clamp (n := A.length + B.length) (by omega), nI_clamp (n := A.length) (by omega)]
    refine nm_e ⟨7, ?_⟩
    refine yd_43 (le0 := le) (show A.length < 40 by omega) (show A.length + B.length < 40 by omega) (fun le1 a1 a2 => ?_) 7 0 le (by omega) (Nat.zero_le _) (fun j hj => absurd hj (Nat.not_lt_zero j)) (fun _ _ => rfl)
    have hL' := hL
    rw [e] at hL'
    have fr : ∀ (k : Nat) (u : List Int32), k ≠ A.length → u.length ≤ 6 → tx_TE le lg k u → tx_TE le1 (upd lg A.length (lg (A.length + B.length))) k u := fun k u hk hu h =>
      ⟨by rw [pk_un hk]; exact h.1, fun i hi => by rw [a2 _ (by omega)]; exact h.2 i hi⟩
    have okA : ∀ j, j < A.length → (A.getD j []).length ≤ 6 := fun j hj => (ok _ (by rw [e]; exact List.mem_append.mpr (Or.inl (tx_gmem A j hj)))).2
    rcases tx_last B with hB | ⟨C, z, hB⟩
    · subst hB
      have := h1 A [] e A le1 (upd lg A.length (lg (A.length + 0))) (by rw [List.append_nil]) (fun k hk => fr k _ (by omega) (okA k hk) (tx_LEl hL' k hk))
      exact this
    · subst hB
      have eC : A.length + (C ++ [z]).length = (A ++ z :: C).length := by rw [tx_lS, List.length_append, List.length_cons]
      have hz : tx_TE le lg (A.length + (C ++ [z]).length) z := by
        have := tx_LEr hL' (C.length + 1) (by rw [List.length_cons, tx_lS]; omega)
        rw [show (K :: (C ++ [z])).getD (C.length + 1) [] = (C ++ [z]).getD C.length [] from rfl, tx_gm] at this
        rw [tx_lS]; exact this
      have hz6 : z.length ≤ 6 := (ok z (by rw [e]; simp)).2
      have := h1 A (C ++ [z]) e (A ++ z :: C) le1 (upd lg A.length (lg (A.length + (C ++ [z]).length))) (List.Perm.append_left A (List.perm_append_singleton z C).symm) (tx_LEi (fun k hk => fr k _ (by omega) (okA k hk) (tx_LEl hL' k hk)) ⟨by rw [pk_us]; exact hz.1, fun i hi => by rw [a1 i (by omega)]; exact hz.2 i hi⟩ (fun k hk => ?_))
      · rw [← eC] at this
        exact this
      · have h2 := tx_LEr hL' (k + 1) (by rw [List.length_cons, tx_lS]; omega)
        rw [show (K :: (C ++ [z])).getD (k + 1) [] = (C ++ [z]).getD k [] from rfl, tx_gl _ _ _ hk, show A.length + (k + 1) = A.length + 1 + k from by omega] at h2
        exact fr _ _ (by omega) ((ok _ (by rw [e]; refine List.mem_append.mpr (Or.inr (List.mem_cons_of_mem _ (List.mem_append.mpr (Or.inl (tx_gmem C k hk)))))) ).2) h2
end
end
section
/-! whole calls of the component -/
section
variable {kl bl tot fb fi ls : Int32} {key so tk sz da ll ln : Nat → Int32}
def tx_GI (D : List (Nat × List (List Int32))) : Prop := ∀ d, d ∈ D → 1 ≤ d.2.length ∧ (2 ≤ D.length → 3 ≤ d.2.length)
theorem tx_flm {t : List Int32} : ∀ D : List (Nat × List (List Int32)), t ∈ tx_fl D → ∃ d, d ∈ D ∧ t ∈ d.2
  | [], h => absurd h List.not_mem_nil
  | d :: D, h => by
    rcases List.mem_append.mp (show t ∈ d.2 ++ tx_fl D from h) with h | h
    · exact ⟨d, List.mem_cons_self, h⟩
    · obtain ⟨e, h1, h2⟩ := tx_flm D h
      exact ⟨e, List.mem_cons_of_mem _ h1, h2⟩
theorem tx_flok {D : List (Nat × List (List Int32))} (h : tx_DI so tk sz da D) : tx_ok (tx_fl D) := by
  intro t ht
  obtain ⟨d, h1, h2⟩ := tx_flm D ht
  exact (h.2.1 d h1).2.2.2.2 t h2
theorem tx_fl3 : ∀ D : List (Nat × List (List Int32)), (∀ d, d ∈ D → 3 ≤ d.2.length) → 3 * D.length ≤ (tx_fl D).length
  | [], _ => Nat.zero_le _
  | d :: D, h => by
    have h1 := h d List.mem_cons_self
    have h2 := tx_fl3 D (fun e he => h e (List.mem_cons_of_mem _ he))
    show 3 * (D.length + 1) ≤ (d.2 ++ tx_fl D).length
    rw [List.length_append]
    omega
theorem tx_GIl {D : List (Nat × List (List Int32))} (h : tx_GI D) (h40 : (tx_fl D).length ≤ 40) : D.length ≤ 13 := by
  by_cases e : 2 ≤ D.length
  · have := tx_fl3 D (fun d hd => (h d hd).2 e)
    omega
  · omega
theorem tx_GIo {D1 D2 : List (Nat × List (List Int32))} {d : Nat × List (List Int32)} (h : tx_GI (D1 ++ d :: D2)) : ∀ x, x ∈ D1 ++ D2 → 3 ≤ x.2.length := by
  intro x hx
  have hm : x ∈ D1 ++ d :: D2 := by
    rcases List.mem_append.mp hx with g | g
    · exact List.mem_append.mpr (Or.inl g)
    · exact List.mem_append.mpr (Or.inr (List.mem_cons_of_mem _ g))
  refine (h x hm).2 ?_
  rw [List.length_append, List.length_cons]
  have h1 : 1 ≤ (D1 ++ D2).length := List.length_pos_of_mem hx
  rw [List.length_append] at h1
  omega
theorem tx_GIr {D1 D2 N : List (Nat × List (List Int32))} (ho : ∀ x, x ∈ D1 ++ D2 → 3 ≤ x.2.length) (hn : ∀ x, x ∈ N → 1 ≤ x.2.length ∧ (2 ≤ (D1 ++ (N ++ D2)).length → 3 ≤ x.2.length)) : tx_GI (D1 ++ (N ++ D2)) := by
  intro x hx
  rcases List.mem_append.mp hx with g | g
  · have := ho x (List.mem_append.mpr (Or.inl g))
    exact ⟨by omega, fun _ => this⟩
  · rcases List.mem_append.mp g with g | g
    · exact hn x g
    · have := ho x (List.mem_append.mpr (Or.inr g))
      exact ⟨by omega, fun _ => this⟩
theorem tx_part {past : Bool} {K : List Int32} : ∀ L : List (List Int32), L.Pairwise tx_lt → ∃ L1 L2, L = L1 ++ L2 ∧ (∀ t, t ∈ L1 → tx_P past K t) ∧ (∀ t, t ∈ L2 → ¬ tx_P past K t) ∧ tx_cn (tx_P past K) L = L1.length
  | [], _ => ⟨[], [], rfl, fun t ht => absurd ht List.not_mem_nil, fun t ht => absurd ht List.not_mem_nil, rfl⟩
  | t :: L, h => by
    rcases Classical.em (tx_P past K t) with p | p
    · obtain ⟨L1, L2, e, h1, h2, h3⟩ := tx_part (past := past) (K := K) L (List.pairwise_cons.mp h).2
      refine ⟨t :: L1, L2, by rw [e]; rfl, fun u hu => ?_, h2, ?_⟩
      · rcases List.mem_cons.mp hu with rfl | hu
        · exact p
        · exact h1 u hu
      · show tx_b (tx_P past K t) + tx_cn (tx_P past K) L = L1.length + 1
        rw [tx_b1 p, h3]; omega
    · exact ⟨[], t :: L, rfl, fun u hu => absurd hu List.not_mem_nil, tx_np h p, tx_cn0 _ (tx_np h p)⟩
theorem tx_loc {t : List Int32} : ∀ (D : List (Nat × List (List Int32))) (L1 L3 : List (List Int32)), tx_fl D = L1 ++ t :: L3 → ∃ D1 d D2 A B, D = D1 ++ d :: D2 ∧ d.2 = A ++ t :: B ∧ L1 = tx_fl D1 ++ A ∧ L3 = B ++ tx_fl D2
  | [], L1, L3, h => absurd (congrArg List.length h) (by rw [List.length_append, List.length_cons]; show 0 ≠ _; omega)
  | d :: D, L1, L3, h => by
    have h' : d.2 ++ tx_fl D = L1 ++ t :: L3 := h
    rcases List.append_eq_append_iff.mp h' with ⟨as, e1, e2⟩ | ⟨bs, e1, e2⟩
    · obtain ⟨D1, x, D2, A, B, g1, g2, g3, g4⟩ := tx_loc D as L3 e2
      exact ⟨d :: D1, x, D2, A, B, by rw [g1]; rfl, g2, by rw [e1, g3]; exact (List.append_assoc _ _ _).symm, g4⟩
    · cases bs with
      | nil =>
        rw [List.append_nil] at e1
        obtain ⟨D1, x, D2, A, B, g1, g2, g3, g4⟩ := tx_loc D [] L3 e2.symm
        refine ⟨d :: D1, x, D2, A, B, by rw [g1]; rfl, g2, ?_, g4⟩
        show L1 = d.2 ++ tx_fl D1 ++ A
        rw [List.append_assoc, ← g3, List.append_nil, e1]
      | cons b bs =>
        injection e2 with e3 e4
        subst e3
        exact ⟨[], d, D, L1, bs, rfl, e1, rfl, e4⟩
theorem tx_Pk (K : List Int32) : ¬ tx_P false K K := fun h => tx_irr K (tx_ltP.mpr h)
theorem tx_ok6 {T : List (List Int32)} (h : tx_ok T) : ∀ t, t ∈ T → t.length ≤ 6 := fun t ht => (h t ht).2
theorem xh_held {post : Int32 → SX → Prop} {K : List Int32} {D : List (Nat × List (List Int32))} (hK : tx_KE key K) (hI : tx_DI so tk sz da D) (hG : tx_GI D) (hs : (tx_fl D).Pairwise tx_lt) (h40 : (tx_fl D).length ≤ 40)
    (h1 : K ∈ tx_fl D → ∀ fb fi ls ll ln, post 1 (nI K.length, nI D.length, nI (tx_fl D).length, fb, fi, ls, key, so, tk, sz, da, ll, ln))
    (h0 : K ∉ tx_fl D → ∀ fb fi ls ll ln, post 0 (nI K.length, nI D.length, nI (tx_fl D).length, fb, fi, ls, key, so, tk, sz, da, ll, ln)) :
    wpX_held post (nI K.length, nI D.length, nI (tx_fl D).length, fb, fi, ls, key, so, tk, sz, da, ll, ln) := by
  have hD := tx_GIl hG h40
  have k6 := hK.1
  have hok := tx_flok hI
  unfold wpX_held
  refine xc_rank (past := false) hK hI (fun d hd => (hG d hd).1) (by omega) hs (fun fb fi => ?_)
  refine pk_eq K.length 0 (fun g => h0 (fun z => ?_) fb fi ls ll ln) (fun g => ?_)
  · have := (hok K z).1; omega
  · obtain ⟨L1, L2, eL, p1, p2, ec⟩ := tx_part (past := false) (K := K) (tx_fl D) hs
    rw [ec]
    have el : (tx_fl D).length = L1.length + L2.length := by rw [eL, List.length_append]
    refine pk_lt L1.length (tx_fl D).length (fun g' => ?_) (fun g' => h0 (fun z => ?_) fb fi ls ll ln)
    · cases L2 with
      | nil => rw [List.length_nil] at el; omega
      | cons t L3 =>
        have hs' := hs
        rw [eL] at hs'
        obtain ⟨m1, m2, _, _⟩ := tx_mid hs'
        have hin : K ∈ tx_fl D ↔ t = K := by
          rw [eL]
          constructor
          · intro z
            rcases List.mem_append.mp z with z | z
            · exact absurd (p1 K z) (tx_Pk K)
            · rcases List.mem_cons.mp z with z | z
              · exact z.symm
              · exact absurd (tx_ltP.mp (m2 K z)) (p2 t List.mem_cons_self)
          · intro z
            rw [z]; simp
        obtain ⟨D1, d, D2, A, B, e1, e2, e3, e4⟩ := tx_loc D L1 L3 eL
        subst e1
        have hl : L1.length = (tx_fl D1).length + A.length := by rw [e3, List.length_append]
        have hd : d.2.length = A.length + B.length + 1 := by rw [e2, List.length_append, List.length_cons]; omega
        obtain ⟨q1, q2, q3, q4, q5, q6⟩ := tx_DIat hI
        refine xb_block (r := L1.length) hI (by omega) (by omega) (by omega) (by omega) ?_
        refine xu_unpack (T := []) hI (by omega) (fun t ht => absurd ht List.not_mem_nil) (tx_LE0 _ _) (by rw [List.length_nil]; omega) (fun ll ln hL => ?_)
        rw [List.nil_append, e2] at hL
        have hT := tx_LEm hL
        have ht := q6 t (by rw [e2]; simp)
        refine xt_before hI (by omega) ?_
        refine nm_r (e' := nI A.length) (by rw [pk_sub (by omega)]; exact tx_n (by omega)) ⟨pk_in A.length 16 (by omega), ?_⟩
        rw [nI_clamp (n := A.length) (by omega), hT.1]
        refine pk_eq t.length K.length (fun y => ?_) (fun y => h0 (fun z => y (by rw [hin.mp z])) _ _ _ _ _)
        have sl := tx_shP t K
        refine xw_shared hK hT ht.2 (by omega) (pk_eq (tx_sh t K) K.length (fun y' => h1 (hin.mpr (tx_shE y' y)) _ _ _ _ _) (fun y' => h0 (fun z => y' (by rw [hin.mp z, tx_shS])) _ _ _ _ _))
    · have e2 : L2 = [] := List.length_eq_zero_iff.mp (by omega)
      rw [eL, e2, List.append_nil] at z
      exact tx_Pk K (p1 K z)
theorem xg_at {post : Int32 → SX → Prop} {K t : List Int32} {D : List (Nat × List (List Int32))} {L1 L3 : List (List Int32)} (hK : tx_KE key K) (hI : tx_DI so tk sz da D) (hG : tx_GI D) (h40 : (tx_fl D).length ≤ 40) (eL : tx_fl D = L1 ++ t :: L3)
    (h : ∀ ls ll ln, post (nI (tx_sh t K)) (nI K.length, nI D.length, tot, fb, fi, ls, key, so, tk, sz, da, ll, ln)) :
    wpX_sharedAtRank post (nI K.length, nI D.length, tot, fb, fi, ls, key, so, tk, sz, da, ll, ln) (nI L1.length) := by
  have hD := tx_GIl hG h40
  have el : (tx_fl D).length = L1.length + L3.length + 1 := by rw [eL, List.length_append, List.length_cons]; omega
  obtain ⟨D1, d, D2, A, B, e1, e2, e3, e4⟩ := tx_loc D L1 L3 eL
  subst e1
  have hl : L1.length = (tx_fl D1).length + A.length := by rw [e3, List.length_append]
  have hd : d.2.length = A.length + B.length + 1 := by rw [e2, List.length_append, List.length_cons]; omega
  obtain ⟨q1, q2, q3, q4, q5, q6⟩ := tx_DIat hI
  unfold wpX_sharedAtRank
  refine xb_block (r := L1.length) hI (by omega) (by omega) (by omega) (by omega) ?_
  refine xu_unpack (T := []) hI (by omega) (fun t ht => absurd ht List.not_mem_nil) (tx_LE0 _ _) (by rw [List.length_nil]; omega) (fun ll ln hL => ?_)
  rw [List.nil_append, e2] at hL
  have hT := tx_LEm hL
  have ht := q6 t (by rw [e2]; simp)
  refine xt_before hI (by omega) ?_
  refine nm_r (e' := nI A.length) (by rw [pk_sub (by omega)]; exact tx_n (by omega)) ?_
  exact xw_shared hK hT ht.2 (by omega) (h _ _ _)
theorem xd_51 {post : Int32 → SX → Prop} {t : List Int32} {k : Nat} (hT : tx_TE ll ln k t) (ht : t.length ≤ 6) (hk : k < 16) (hpost : post (nI t.length) (nI t.length, bl, tot, fb, fi, ls, tx_kp key t t.length, so, tk, sz, da, ll, ln)) :
    ∀ n i, t.length < n + i → i ≤ t.length → wX_load_51 post (nI k) (nI t.length) bl tot fb fi ls n (nI i) (tx_kp key t i) so tk sz da ll ln := by
  obtain ⟨t1, t2⟩ := hT
  intro n
  induction n with
  | zero => intro i h1 h2; omega
  | succ n ih =>
    intro i h1 h2
    refine pk_le t.length i (fun g => ?_) (fun g => ?_)
    · have : i = t.length := by omega
      rw [this]; exact hpost
    · have e : 6 * nI k + nI i = nI (6 * k + i) := by rw [tx_m6, nI_add]
      rw [e, nI_clamp (n := 6 * k + i) (by omega), nI_clamp (n := i) (by omega), t2 i g, tx_kpS]
      exact ⟨pk_in (6 * k + i) 96 (by omega), pk_in i 6 (by omega), nm_e (nm_r (nI_1 i) (ih (i + 1) (by omega) (by omega)))⟩
theorem xd_load {post : Int32 → SX → Prop} {t : List Int32} {D : List (Nat × List (List Int32))} {L1 L3 : List (List Int32)} (hI : tx_DI so tk sz da D) (hG : tx_GI D) (h40 : (tx_fl D).length ≤ 40) (eL : tx_fl D = L1 ++ t :: L3)
    (h : ∀ ls ll ln, post (nI t.length) (nI t.length, nI D.length, nI (tx_fl D).length, fb, fi, ls, tx_kp key t t.length, so, tk, sz, da, ll, ln)) :
    wpX_load post (kl, nI D.length, nI (tx_fl D).length, fb, fi, ls, key, so, tk, sz, da, ll, ln) (nI L1.length) := by
  have hD := tx_GIl hG h40
  have el : (tx_fl D).length = L1.length + L3.length + 1 := by rw [eL, List.length_append, List.length_cons]; omega
  obtain ⟨D1, d, D2, A, B, e1, e2, e3, e4⟩ := tx_loc D L1 L3 eL
  subst e1
  have hl : L1.length = (tx_fl D1).length + A.length := by rw [e3, List.length_append]
  have hd : d.2.length = A.length + B.length + 1 := by rw [e2, List.length_append, List.length_cons]; omega
  obtain ⟨q1, q2, q3, q4, q5, q6⟩ := tx_DIat hI
  unfold wpX_load
  refine br_f (nI_pos (by omega)) (br_t (nI_lt (by omega) (by omega)) ?_)
  refine xb_block (r := L1.length) hI (by omega) (by omega) (by omega) (by omega) ?_
  refine xu_unpack (T := []) hI (by omega) (fun t ht => absurd ht List.not_mem_nil) (tx_LE0 _ _) (by rw [List.length_nil]; omega) (fun ll ln hL => ?_)
  rw [List.nil_append, e2] at hL
  have hT := tx_LEm hL
  have ht := q6 t (by rw [e2]; simp)
  refine xt_before hI (by omega) ?_
  refine nm_r (e' := nI A.length) (by rw [pk_sub (by omega)]; exact tx_n (by omega)) ⟨pk_in A.length 16 (by omega), ?_⟩
  rw [nI_clamp (n := A.length) (by omega), hT.1]
  have := xd_51 (post := post) (bl := nI (D1 ++ d :: D2).length) (tot := nI (tx_fl (D1 ++ d :: D2)).length) (fb := fb) (fi := fi) (ls := nI (([] : List (List Int32)).length + d.2.length)) (key := key) (so := so) (tk := tk) (sz := sz) (da := da) hT ht.2 (by omega) (h _ _ _) 7 0 (by omega) (Nat.zero_le _)
  rw [tx_kp0] at this
  exact nm_e ⟨7, this⟩
theorem xq_53 {post : Int32 → SX → Prop} {K : List Int32} {D1 D2 : List (Nat × List (List Int32))} {d : Nat × List (List Int32)} {A B : List (List Int32)} {x1 : Int32} {n : Nat} (hK : tx_KE key K) (hK1 : 1 ≤ K.length) (hI : tx_DI so tk sz da (D1 ++ d :: D2)) (hD : (D1 ++ d :: D2).length ≤ 14) (hd : d.2 = A ++ B)
    (h : ∀ so tk sz da ls ll ln N, tx_DI so tk sz da (D1 ++ (N ++ D2)) → tx_N (A ++ K :: B) N → post x1 (nI K.length, nI (D1 ++ (N ++ D2)).length, nI (n + 1), nI D1.length, nI A.length, ls, key, so, tk, sz, da, ll, ln)) :
    wX_insert_53 post x1 (nI K.length) (nI (D1 ++ d :: D2).length) (nI n) (nI D1.length) (nI A.length) ls key so tk sz da ll ln := by
  obtain ⟨q1, q2, q3, q4, q5, q6⟩ := tx_DIat hI
  have k6 := hK.1
  have hl : d.2.length = A.length + B.length := by rw [hd, List.length_append]
  have okT : tx_ok (A ++ K :: B) := fun t ht => by
    rcases List.mem_append.mp ht with g | g
    · exact q6 t (by rw [hd]; exact List.mem_append.mpr (Or.inl g))
    · rcases List.mem_cons.mp g with g | g
      · rw [g]; exact ⟨hK1, k6⟩
      · exact q6 t (by rw [hd]; exact List.mem_append.mpr (Or.inr g))
  unfold wX_insert_53
  refine xu_unpack (T := []) hI (by omega) (fun t ht => absurd ht List.not_mem_nil) (tx_LE0 _ _) (by rw [List.length_nil]; omega) (fun ll1 ln1 hL => ?_)
  rw [List.nil_append, hd] at hL
  rw [List.length_nil, Nat.zero_add, hl]
  refine xp_put hK (by omega) (fun t ht => (q6 t (by rw [hd]; exact ht)).2) hL (fun ll2 ln2 hL2 => ?_)
  have eT : A.length + B.length + 1 = (A ++ K :: B).length := by rw [List.length_append, List.length_cons]; omega
  rw [eT]
  refine xe_1 hI (by omega) hL2 (by omega) okT (fun so3 tk3 sz3 da3 N hI3 hN => ?_)
  exact nm_r (nI_1 n) (h so3 tk3 sz3 da3 _ _ _ N hI3 hN)
end
end
section
/-! insert and delete of the component -/
section
variable {kl bl tot fb fi ls : Int32} {key so tk sz da ll ln : Nat → Int32}
theorem tx_rkP {A B : List (List Int32)} {K : List Int32} (h : (A ++ K :: B).Pairwise tx_lt) : tx_cn (tx_P false K) (A ++ K :: B) = A.length := by
  rw [← tx_rank h]
  exact tx_cnG _ (fun a _ => tx_ltP.symm)
theorem xx_ins {post : Int32 → SX → Prop} {K : List Int32} {D : List (Nat × List (List Int32))} (hK : tx_KE key K) (hI : tx_DI so tk sz da D) (hG : tx_GI D) (hs : (tx_fl D).Pairwise tx_lt) (h40 : (tx_fl D).length ≤ 40)
    (h0 : (K.length = 0 ∨ (tx_fl D).length = 40 ∨ K ∈ tx_fl D) → ∀ fb fi ls ll ln, post (-1) (nI K.length, nI D.length, nI (tx_fl D).length, fb, fi, ls, key, so, tk, sz, da, ll, ln))
    (h1 : K.length ≠ 0 → (tx_fl D).length < 40 → K ∉ tx_fl D → ∀ L1 L2, tx_fl D = L1 ++ L2 → (∀ t, t ∈ L1 → tx_lt t K) → (∀ t, t ∈ L2 → tx_lt K t) → ∀ E so tk sz da fb fi ls ll ln, tx_DI so tk sz da E → tx_GI E → tx_fl E = L1 ++ K :: L2 → post (nI L1.length) (nI K.length, nI E.length, nI (tx_fl E).length, fb, fi, ls, key, so, tk, sz, da, ll, ln)) :
    wpX_insert post (nI K.length, nI D.length, nI (tx_fl D).length, fb, fi, ls, key, so, tk, sz, da, ll, ln) := by
  have hD := tx_GIl hG h40
  have k6 := hK.1
  unfold wpX_insert
  refine pk_eq K.length 0 (fun g => h0 (Or.inl g) _ _ _ _ _) (fun g => pk_le 40 (tx_fl D).length (fun g' => h0 (Or.inr (Or.inl (by omega))) _ _ _ _ _) (fun g' => ?_))
  refine xh_held hK hI hG hs h40 (fun hin fb fi ls ll ln => br_f (by decide) (h0 (Or.inr (Or.inr hin)) _ _ _ _ _)) (fun hno fb fi ls ll ln => br_t rfl ?_)
  refine xc_count (past := false) hK hI (fun d hd => (hG d hd).1) (by omega) hs (fun e => ?_) (fun D1 d D2 A B eD ed hA hB => ?_)
  · subst e
    refine br_t rfl ?_
    refine xo_open (D1 := []) (D2 := []) hI (Nat.zero_le _) (fun c so1 tk1 sz1 hI1 => ?_)
    refine xq_53 (D1 := []) (d := (c, [])) (D2 := []) (A := []) (B := []) (n := 0) hK (by omega) hI1 (by simp) rfl (fun so2 tk2 sz2 da2 ls2 ll2 ln2 N hI2 hN => ?_)
    obtain ⟨n1, n2, n3, n4⟩ := hN
    rw [List.append_nil, List.nil_append] at hI2
    have hGN : tx_GI N := fun x hx => ⟨(n4 x hx).1, fun h2 => by have := n3 (by omega); exact absurd this (by simp)⟩
    have := h1 g (by omega) hno [] [] rfl (fun t ht => absurd ht List.not_mem_nil) (fun t ht => absurd ht List.not_mem_nil) N so2 tk2 sz2 da2 (nI 0) (nI 0) ls2 ll2 ln2 hI2 hGN n1
    rw [n1] at this
    rw [List.append_nil, List.nil_append]
    exact this
  · have hl : 0 < D.length := by rw [eD, List.length_append, List.length_cons]; omega
    have eL : tx_fl D = (tx_fl D1 ++ A) ++ (B ++ tx_fl D2) := by rw [eD, tx_flM, ed]; simp
    refine br_f (nI_ne0 hl (by omega)) ?_
    rw [eD] at hI hG hD
    have e13 : (D1 ++ d :: D2).length ≤ 13 := hD
    obtain ⟨q1, q2, q3, q4, q5, q6⟩ := tx_DIat hI
    have hdl : d.2.length = A.length + B.length := by rw [ed, List.length_append]
    rw [show nI D.length = nI (D1 ++ d :: D2).length from by rw [eD]]
    refine xq_53 hK (by omega) hI (by omega) ed (fun so2 tk2 sz2 da2 ls2 ll2 ln2 N hI2 hN => ?_)
    obtain ⟨n1, n2, n3, n4⟩ := hN
    have ef : tx_fl (D1 ++ (N ++ D2)) = (tx_fl D1 ++ A) ++ K :: (B ++ tx_fl D2) := by rw [tx_flA, tx_flA, n1]; simp
    have hG2 : tx_GI (D1 ++ (N ++ D2)) := by
      refine tx_GIr (tx_GIo hG) (fun x hx => ⟨(n4 x hx).1, fun h2 => ?_⟩)
      rcases (n4 x hx).2 with h | h
      · exact h
      · rw [h, List.length_append, List.length_cons]
        by_cases h3 : 2 ≤ (D1 ++ d :: D2).length
        · have := (hG d (by simp)).2 h3
          omega
        · rw [List.length_append, List.length_cons] at h3
          rw [List.length_append, List.length_append] at h2
          have := n3 (by omega)
          rw [List.length_append, List.length_cons] at this
          omega
    have key1 : ∀ t, t ∈ tx_fl D1 ++ A → tx_lt t K := fun t ht => tx_ltP.mpr (hA t ht)
    have key2 : ∀ t, t ∈ B ++ tx_fl D2 → tx_lt K t := fun t ht => tx_tri (fun z => hB t ht (tx_ltP.mp z)) (fun z => hno (by rw [eL, ← z]; exact List.mem_append.mpr (Or.inr ht)))
    have := h1 g (by omega) hno (tx_fl D1 ++ A) (B ++ tx_fl D2) eL key1 key2 (D1 ++ (N ++ D2)) so2 tk2 sz2 da2 (nI D1.length) (nI A.length) ls2 ll2 ln2 hI2 hG2 ef
    rw [ef, List.length_append, show ((tx_fl D1 ++ A) ++ K :: (B ++ tx_fl D2)).length = (tx_fl D).length + 1 from by rw [eL, List.length_append, List.length_cons, List.length_append (as := tx_fl D1 ++ A)]; omega] at this
    exact this
theorem xx_del {post : Int32 → SX → Prop} {K : List Int32} {D : List (Nat × List (List Int32))} (hK : tx_KE key K) (hI : tx_DI so tk sz da D) (hG : tx_GI D) (hs : (tx_fl D).Pairwise tx_lt) (h40 : (tx_fl D).length ≤ 40)
    (h0 : K ∉ tx_fl D → ∀ fb fi ls ll ln, post (-1) (nI K.length, nI D.length, nI (tx_fl D).length, fb, fi, ls, key, so, tk, sz, da, ll, ln))
    (h1 : ∀ L1 L3, tx_fl D = L1 ++ K :: L3 → ∀ E so tk sz da fb fi ls ll ln, tx_DI so tk sz da E → tx_GI E → tx_fl E = L1 ++ L3 → post (nI L1.length) (nI K.length, nI E.length, nI (tx_fl E).length, fb, fi, ls, key, so, tk, sz, da, ll, ln)) :
    wpX_delete post (nI K.length, nI D.length, nI (tx_fl D).length, fb, fi, ls, key, so, tk, sz, da, ll, ln) := by
  have hD := tx_GIl hG h40
  have k6 := hK.1
  unfold wpX_delete
  refine xh_held hK hI hG hs h40 (fun hin fb fi ls ll ln => br_f (by decide) ?_) (fun hno fb fi ls ll ln => br_t rfl (h0 hno _ _ _ _ _))
  refine xc_rank (past := false) hK hI (fun d hd => (hG d hd).1) (by omega) hs (fun fb fi => ?_)
  obtain ⟨L1, L3, eL⟩ := List.append_of_mem hin
  have ec : tx_cn (tx_P false K) (tx_fl D) = L1.length := by
    rw [eL] at hs ⊢
    exact tx_rkP hs
  rw [ec]
  have el : (tx_fl D).length = L1.length + L3.length + 1 := by rw [eL, List.length_append, List.length_cons]; omega
  obtain ⟨D1, d, D2, A, B, e1, e2, e3, e4⟩ := tx_loc D L1 L3 eL
  subst e1
  have hl : L1.length = (tx_fl D1).length + A.length := by rw [e3, List.length_append]
  have hd : d.2.length = A.length + 1 + B.length := by rw [e2, List.length_append, List.length_cons]; omega
  obtain ⟨q1, q2, q3, q4, q5, q6⟩ := tx_DIat hI
  have okAB : tx_ok (A ++ B) := fun t ht => q6 t (by
    rw [e2]
    rcases List.mem_append.mp ht with g | g
    · exact List.mem_append.mpr (Or.inl g)
    · exact List.mem_append.mpr (Or.inr (List.mem_cons_of_mem _ g)))
  refine xb_block (r := L1.length) hI (by omega) (by omega) (by omega) (by omega) ?_
  refine xu_unpack (T := []) hI (by omega) (fun t ht => absurd ht List.not_mem_nil) (tx_LE0 _ _) (by rw [List.length_nil]; omega) (fun ll1 ln1 hL => ?_)
  rw [List.nil_append, e2] at hL
  refine xt_before hI (by omega) ?_
  refine nm_r (e' := nI A.length) (by rw [pk_sub (by omega)]; exact tx_n (by omega)) ?_
  rw [List.length_nil, Nat.zero_add, hd]
  refine xk_take (by omega) (fun t ht => (q6 t (by rw [e2]; exact ht)).2) hL (fun ll2 ln2 hL2 => ?_)
  refine nm_r (e' := nI (L1.length + L3.length)) (by rw [tx_s1 (by omega)]; exact tx_n (by omega)) ?_
  have eAB : A.length + B.length = (A ++ B).length := by rw [List.length_append]
  have fin : ∀ E so tk sz da ls ll ln, tx_DI so tk sz da E → tx_GI E → tx_fl E = L1 ++ L3 → post (nI L1.length) (nI K.length, nI E.length, nI (L1.length + L3.length), fb, fi, ls, key, so, tk, sz, da, ll, ln) := fun E so tk sz da ls ll ln a b c => by
    have := h1 L1 L3 eL E so tk sz da fb fi ls ll ln a b c
    rw [c, List.length_append (as := L1)] at this
    exact this
  have store : (3 ≤ A.length + B.length ∨ (D1 ++ d :: D2).length = 1) → wX_delete_70 post (nI L1.length) (nI D1.length) (nI K.length) (nI (D1 ++ d :: D2).length) (nI (L1.length + L3.length)) fb fi (nI (A.length + B.length)) key so tk sz da ll2 ln2 := fun hc => by
    unfold wX_delete_70
    rw [eAB]
    refine xe_1 hI (by omega) hL2 (by omega) okAB (fun so3 tk3 sz3 da3 N hI3 hN => ?_)
    obtain ⟨n1, n2, n3, n4⟩ := hN
    refine fin _ _ _ _ _ _ _ _ hI3 ?_ (by rw [tx_flA, tx_flA, n1, e3, e4]; simp)
    refine tx_GIr (tx_GIo hG) (fun x hx => ⟨(n4 x hx).1, fun h2 => ?_⟩)
    rcases (n4 x hx).2 with h | h
    · exact h
    · rw [h]
      rcases hc with hc | hc
      · omega
      · rw [List.length_append, List.length_cons] at hc
        rw [List.length_append, List.length_append] at h2
        have := n3 (by omega)
        omega
  refine pk_le 3 (A.length + B.length) (fun g => store (Or.inl g)) (fun g => pk_eq (D1 ++ d :: D2).length 1 (fun g' => store (Or.inr g')) (fun g' => ?_))
  have lD : (D1 ++ d :: D2).length = D1.length + D2.length + 1 := by rw [List.length_append, List.length_cons]; omega
  have all3 : ∀ x, x ∈ D1 ++ d :: D2 → 3 ≤ x.2.length := fun x hx => (hG x hx).2 (by omega)
  have hd3 := all3 d (by simp)
  refine pk_le (D1 ++ d :: D2).length (D1.length + 1) (fun g2 => ?_) (fun g2 => ?_) rfl (nI_1 _)
  · have eD2 : D2 = [] := List.length_eq_zero_iff.mp (by omega)
    subst eD2
    rcases tx_last D1 with hC | ⟨C, e, hC⟩
    · subst hC; exact absurd lD (by simp; omega)
    · subst hC
      have eD : (C ++ [e]) ++ [d] = C ++ e :: [d] := by simp
      have hI' := hI
      rw [eD] at hI'
      obtain ⟨p1, p2, p3, p4, p5, p6⟩ := tx_DIat hI'
      have he3 := all3 e (by simp)
      have lC : (C ++ e :: [d]).length = C.length + 2 := by rw [List.length_append]; rfl
      have eb : nI (C ++ [e]).length - 1 = nI C.length := by rw [tx_lS, nI_pred]
      have efl : tx_fl (C ++ [e]) = tx_fl C ++ e.2 := by rw [tx_flM]; simp [tx_fl]
      rw [efl, List.length_append] at hl
      have hD' : C.length + 2 ≤ 13 := by rw [eD, lC] at hD; exact hD
      rw [eb, eD]
      refine xu_unpack (D1 := C) (d := e) (D2 := [d]) (T := []) hI' (by omega) (fun t ht => absurd ht List.not_mem_nil) (tx_LE0 _ _) (by rw [List.length_nil]; omega) (fun ll3 ln3 hL3 => ?_)
      rw [List.nil_append] at hL3
      rw [List.length_nil, Nat.zero_add]
      refine xu_unpack (D1 := C ++ [e]) (d := d) (D2 := []) (T := e.2) hI (by rw [eD]; omega) (tx_ok6 p6) hL3 (by omega) (fun ll4 ln4 hL4 => ?_)
      refine xt_before (D1 := C) (D2 := [e, d]) hI' (by omega) ?_
      refine nm_r (e' := nI (e.2 ++ A).length) (by rw [pk_sub (by omega), List.length_append]; exact tx_n (by omega)) ?_
      have eT : e.2 ++ d.2 = (e.2 ++ A) ++ K :: B := by rw [e2]; simp
      rw [eT] at hL4
      have lT : e.2.length + d.2.length = (e.2 ++ A).length + 1 + B.length := by rw [List.length_append]; omega
      rw [lT]
      refine xk_take (by rw [List.length_append]; omega) (fun t ht => ?_) hL4 (fun ll5 ln5 hL5 => ?_)
      · rw [← eT] at ht
        rcases List.mem_append.mp ht with ht | ht
        · exact (p6 t ht).2
        · exact (q6 t ht).2
      · have lU : (e.2 ++ A).length + B.length = ((e.2 ++ A) ++ B).length := by rw [List.length_append (as := e.2 ++ A)]
        have lV : ((e.2 ++ A) ++ B).length = e.2.length + A.length + B.length := by rw [List.length_append, List.length_append]
        rw [lU]
        refine xe_2 (D1 := C) (d1 := e) (d2 := d) (D2 := []) hI' (by omega) hL5 (by omega) (by omega) (fun t ht => ?_) (fun so3 tk3 sz3 da3 N hI3 hN => ?_)
        · rw [List.append_assoc] at ht
          rcases List.mem_append.mp ht with ht | ht
          · exact p6 t ht
          · exact okAB t ht
        · obtain ⟨n1, n2, n3, n4⟩ := hN
          refine fin _ _ _ _ _ _ _ _ hI3 ?_ (by rw [tx_flA, tx_flA, n1, e3, e4, efl]; simp)
          refine tx_GIr (fun x hx => all3 x ?_) (fun x hx => ⟨(n4 x hx).1, fun h2 => ?_⟩)
          · rw [List.append_nil] at hx
            simp [hx]
          · rcases (n4 x hx).2 with h | h
            · exact h
            · rw [h]; omega
  · obtain ⟨e, D3, eD2⟩ : ∃ e D3, D2 = e :: D3 := by
      cases D2 with
      | nil => rw [List.length_nil] at lD; omega
      | cons e D3 => exact ⟨e, D3, rfl⟩
    subst eD2
    have eD : D1 ++ d :: e :: D3 = (D1 ++ [d]) ++ e :: D3 := by simp
    have hI' := hI
    rw [eD] at hI'
    obtain ⟨p1, p2, p3, p4, p5, p6⟩ := tx_DIat hI'
    have he3 := all3 e (by simp)
    have eb : nI D1.length + 1 = nI (D1 ++ [d]).length := by rw [nI_1, tx_lS]
    rw [eb, eAB]
    refine xu_unpack (D1 := D1 ++ [d]) (d := e) (D2 := D3) (T := A ++ B) hI' (by rw [← eD]; omega) (tx_ok6 okAB) hL2 (by omega) (fun ll4 ln4 hL4 => ?_)
    have lU : (A ++ B).length + e.2.length = ((A ++ B) ++ e.2).length := by rw [List.length_append (as := A ++ B)]
    rw [lU]
    refine xe_2 (D1 := D1) (d1 := d) (d2 := e) (D2 := D3) hI (by omega) hL4 (by omega) (by omega) (fun t ht => ?_) (fun so3 tk3 sz3 da3 N hI3 hN => ?_)
    · rcases List.mem_append.mp ht with ht | ht
      · exact okAB t ht
      · exact p6 t ht
    · obtain ⟨n1, n2, n3, n4⟩ := hN
      refine fin _ _ _ _ _ _ _ _ hI3 ?_ (by rw [tx_flA, tx_flA, n1, e3, e4]; simp [tx_fl])
      refine tx_GIr (fun x hx => all3 x ?_) (fun x hx => ⟨(n4 x hx).1, fun h2 => ?_⟩)
      · rcases List.mem_append.mp hx with g | g
        · exact List.mem_append.mpr (Or.inl g)
        · exact List.mem_append.mpr (Or.inr (List.mem_cons_of_mem _ (List.mem_cons_of_mem _ g)))
      · rcases (n4 x hx).2 with h | h
        · exact h
        · rw [h]; omega
end
end
section
/-! the relation, and what is owed -/
/-- K: the key; D: the blocks, each with its slot and its terms; M: the reference's terms. The blocks' terms in a row are sorted, and are the reference's terms -/
def tx_R (K : List Int32) (D : List (Nat × List (List Int32))) (M : List (List Int32)) (key so tk sz da le lg : Nat → Int32) : Prop :=
  tx_KE key K ∧ tx_DI so tk sz da D ∧ tx_GI D ∧ (tx_fl D).Pairwise tx_lt ∧ (tx_fl D).length ≤ 40 ∧ tx_LE le lg M ∧ M.Perm (tx_fl D)
def i_Rel (k : Nat) (u : SX) (v : SY) : Prop := match u, v with
  | (kl, bl, tot, fb, fi, ls, key, so, tk, sz, da, ll, ln), (te, ty, le, lg, ky) => ∃ K D M, (kl = nI K.length ∧ bl = nI D.length ∧ tot = nI (tx_fl D).length ∧ te = nI M.length ∧ ty = nI K.length ∧ ky = key) ∧ tx_R K D M key so tk sz da le lg
theorem tx_in {k : Nat} {K : List Int32} {D : List (Nat × List (List Int32))} {M : List (List Int32)} {fb fi ls : Int32} {key so tk sz da ll ln le lg : Nat → Int32} (h : tx_R K D M key so tk sz da le lg) :
    i_Rel k (nI K.length, nI D.length, nI (tx_fl D).length, fb, fi, ls, key, so, tk, sz, da, ll, ln) (nI M.length, nI K.length, le, lg, key) := by
  unfold i_Rel
  exact ⟨K, D, M, ⟨rfl, rfl, rfl, rfl, rfl, rfl⟩, h⟩
theorem tx_el {P : SX → SY → Prop} {k : Nat} {u : SX} {v : SY} (h : ∀ (K : List Int32) (D : List (Nat × List (List Int32))) (M : List (List Int32)) (fb fi ls : Int32) (key so tk sz da ll ln le lg : Nat → Int32), tx_R K D M key so tk sz da le lg → P (nI K.length, nI D.length, nI (tx_fl D).length, fb, fi, ls, key, so, tk, sz, da, ll, ln) (nI M.length, nI K.length, le, lg, key))
    (I : i_Rel k u v) : P u v := by
  obtain ⟨kl, bl, tot, fb, fi, ls, key, so, tk, sz, da, ll, ln⟩ := u
  obtain ⟨te, ty, le, lg, ky⟩ := v
  obtain ⟨K, D, M, ⟨rfl, rfl, rfl, rfl, rfl, rfl⟩, hR⟩ := I
  exact h K D M fb fi ls ky so tk sz da ll ln le lg hR
theorem tx_RM {K : List Int32} {D : List (Nat × List (List Int32))} {M : List (List Int32)} {key so tk sz da le lg : Nat → Int32} (h : tx_R K D M key so tk sz da le lg) : tx_ok M ∧ M.length = (tx_fl D).length ∧ M.length ≤ 40 ∧ D.length ≤ 16 := by
  obtain ⟨r1, r2, r3, r4, r5, r6, r7⟩ := h
  have e := r7.length_eq
  have := tx_GIl r3 r5
  exact ⟨fun t ht => tx_flok r2 t (r7.mem_iff.mp ht), e, by omega, by omega⟩
theorem i_up {k : Nat} {u : SX} {v : SY} (h : i_Rel k u v) : i_Rel (k + 2) u v := h
theorem i_vc0 : wpX_init (fun u => wpY_init (fun v => i_Rel 0 u v)) := by
  refine tx_in (k := 0) (K := []) (D := []) (M := []) (fb := 0) (fi := 0) (ls := 0) (ll := fun _ => 0) (ln := fun _ => 0) ⟨⟨Nat.zero_le _, fun i hi => absurd hi (Nat.not_lt_zero i)⟩, ⟨fun i hi => absurd hi (Nat.not_lt_zero i), fun d hd => absurd hd List.not_mem_nil, List.Pairwise.nil, fun s hs => ⟨fun z => absurd rfl z, fun z => ?_⟩⟩, fun d hd => absurd hd List.not_mem_nil, List.Pairwise.nil, Nat.zero_le _, tx_LE0 _ _, List.Perm.nil⟩
  obtain ⟨d, hd, _⟩ := z
  exact absurd hd List.not_mem_nil
theorem i_vc_type {k : Nat} {u : SX} {v : SY} (I : i_Rel k u v) (hk : k + 2 ≤ 1024) (v1 : Int32) : wpX_type (fun r u' => wpY_type (fun r' v' => r' = r ∧ i_Rel (k + 2) u' v') v v1) u v1 := by
  refine tx_el (P := fun u v => wpX_type (fun r u' => wpY_type (fun r' v' => r' = r ∧ i_Rel (k + 2) u' v') v v1) u v1) ?_ I
  intro K D M fb fi ls key so tk sz da ll ln le lg hR
  have k6 := hR.1.1
  by_cases h0 : v1 < 0
  · exact br_t h0 (br_t h0 ⟨rfl, tx_in hR⟩)
  · by_cases h9 : 9 < v1
    · exact br_f h0 (br_t h9 (br_f h0 (br_t h9 ⟨rfl, tx_in hR⟩)))
    · refine br_f h0 (br_f h9 (pk_lt K.length 6 (fun g => And.intro (pk_in K.length 6 g) ?_) (fun g => br_f h0 (br_f h9 (pk_eq K.length 6 (fun _ => ⟨rfl, tx_in hR⟩) (fun g' => absurd g' (by omega)))))))
      rw [nI_clamp (n := K.length) (by omega)]
      refine nm_e (nm_r (nI_1 _) (br_f h0 (br_f h9 (pk_eq K.length 6 (fun g' => absurd g' (by omega)) (fun _ => And.intro (pk_in K.length 6 g) ?_)))))
      rw [nI_clamp (n := K.length) (by omega)]
      refine nm_e (nm_r (nI_1 _) ⟨rfl, ?_⟩)
      rw [← tx_lS K v1]
      refine tx_in ⟨⟨by rw [tx_lS]; omega, fun i hi => ?_⟩, hR.2⟩
      rw [tx_lS] at hi
      rcases Nat.lt_or_ge i K.length with q | q
      · rw [pk_un (by omega), tx_gl _ _ _ q]; exact hR.1.2 i q
      · have : i = K.length := by omega
        subst this
        rw [pk_us, tx_gm]
theorem i_vc_back {k : Nat} {u : SX} {v : SY} (I : i_Rel k u v) (hk : k + 2 ≤ 1024) : wpX_back (fun r u' => wpY_back (fun r' v' => r' = r ∧ i_Rel (k + 2) u' v') v) u := by
  refine tx_el (P := fun u v => wpX_back (fun r u' => wpY_back (fun r' v' => r' = r ∧ i_Rel (k + 2) u' v') v) u) ?_ I
  intro K D M fb fi ls key so tk sz da ll ln le lg hR
  have k6 := hR.1.1
  refine pk_eq K.length 0 (fun g => pk_eq K.length 0 (fun _ => ⟨rfl, tx_in hR⟩) (fun g' => absurd g g')) (fun g => ?_)
  rcases tx_last K with hL | ⟨J, z, hL⟩
  · subst hL; exact absurd rfl g
  · subst hL
    have kk := hR.1.2
    rw [tx_lS] at k6 g kk ⊢
    refine nm_r (nI_pred _) ⟨pk_in J.length 6 (by omega), pk_eq (J.length + 1) 0 (fun g' => absurd g' g) (fun _ => nm_r (nI_pred _) ⟨pk_in J.length 6 (by omega), rfl, ?_⟩)⟩
    refine tx_in ⟨⟨by omega, fun i hi => ?_⟩, hR.2⟩
    have := kk i (by omega)
    rw [tx_gl _ _ _ hi] at this
    exact this
theorem i_vc_erase {k : Nat} {u : SX} {v : SY} (I : i_Rel k u v) (hk : k + 2 ≤ 1024) : wpX_erase (fun u' => wpY_erase (fun v' => i_Rel (k + 2) u' v') v) u := by
  refine tx_el (P := fun u v => wpX_erase (fun u' => wpY_erase (fun v' => i_Rel (k + 2) u' v') v) u) ?_ I
  intro K D M fb fi ls key so tk sz da ll ln le lg hR
  exact tx_in (k := k + 2) (K := []) (fb := fb) (fi := fi) (ls := ls) (ll := ll) (ln := ln) ⟨⟨Nat.zero_le _, fun i hi => absurd hi (Nat.not_lt_zero i)⟩, hR.2⟩
theorem tx_rk {A B : List (List Int32)} {t s : List Int32} (h : (A ++ t :: B).Pairwise tx_lt) (hs : s ∈ A ++ t :: B) : tx_cn (fun x => tx_lt x s) (A ++ t :: B) < (A ++ t :: B).length ∧ (tx_cn (fun x => tx_lt x s) (A ++ t :: B) = A.length → s = t) := by
  obtain ⟨A', B', e⟩ := List.append_of_mem hs
  have hr : tx_cn (fun x => tx_lt x s) (A ++ t :: B) = A'.length := by
    rw [e] at h ⊢
    exact tx_rank h
  rw [hr]
  refine ⟨by rw [e, List.length_append, List.length_cons]; omega, fun z => ?_⟩
  have h1 : (A ++ t :: B).getD A.length [] = t := tx_gm A B
  have h2 : (A' ++ s :: B').getD A'.length [] = s := tx_gm A' B'
  rw [← e, z, h1] at h2
  exact h2.symm
theorem i_vc_load {k : Nat} {u : SX} {v : SY} (I : i_Rel k u v) (hk : k + 2 ≤ 1024) (v1 : Int32) : wpX_load (fun r u' => wpY_load (fun r' v' => r' = r ∧ i_Rel (k + 2) u' v') v v1) u v1 := by
  refine tx_el (P := fun u v => wpX_load (fun r u' => wpY_load (fun r' v' => r' = r ∧ i_Rel (k + 2) u' v') v v1) u v1) ?_ I
  intro K D M fb fi ls key so tk sz da ll ln le lg hR
  obtain ⟨okM, eM, hM, hD⟩ := tx_RM hR
  have hR' := hR
  obtain ⟨r1, r2, r3, r4, r5, r6, r7⟩ := hR'
  have hcn : ∀ t, tx_cn (fun s => tx_lt s t) M = tx_cn (fun s => tx_lt s t) (tx_fl D) := fun t => tx_cnP _ r7
  have hcl : ∀ t, t ∈ M → tx_cn (fun s => tx_lt s t) M < (tx_fl D).length := fun t ht => by
    have ht' := r7.mem_iff.mp ht
    obtain ⟨A, B, e⟩ := List.append_of_mem ht'
    rw [hcn]
    rw [e] at r4 ht' ⊢
    exact (tx_rk r4 ht').1
  by_cases h0 : v1 < 0
  · unfold wpX_load
    refine br_t h0 (yo_load r6 okM hM (fun t ht z => ?_) (fun _ => ⟨rfl, tx_in hR⟩))
    rw [← z] at h0
    exact absurd h0 (nI_pos (by have := hcl t ht; omega))
  · obtain ⟨r, hr, rfl⟩ := nI_of h0
    rcases Nat.lt_or_ge r (tx_fl D).length with g | g
    · obtain ⟨L1, t, L3, eL, el⟩ := tx_split (tx_fl D) r g
      subst el
      refine xd_load r2 r3 r5 eL (fun ls ll ln => ?_)
      have htM : t ∈ M := r7.mem_iff.mpr (by rw [eL]; simp)
      have rk : ∀ s, s ∈ M → nI (tx_cn (fun x => tx_lt x s) M) = nI L1.length → s = t := fun s hs z => by
        have hs' := r7.mem_iff.mp hs
        have hl := hcl s hs
        rw [nI_eq (by omega) (by omega), hcn] at z
        rw [eL] at r4 hs' z
        exact (tx_rk r4 hs').2 z
      refine yo_load r6 okM hM (fun s hs z => ?_) (fun z => ?_)
      · have e := rk s hs z
        subst e
        exact ⟨rfl, tx_in ⟨tx_kpK key (okM s hs).2, hR.2⟩⟩
      · refine absurd ?_ (z t htM)
        rw [hcn]
        rw [eL] at r4 ⊢
        rw [tx_rank r4]
    · unfold wpX_load
      refine br_f h0 (br_f (nI_nlt g hr) (yo_load r6 okM hM (fun t ht z => ?_) (fun _ => ⟨rfl, tx_in hR⟩)))
      have hl := hcl t ht
      rw [nI_eq (by omega) hr] at z
      omega
theorem i_vc_letter {k : Nat} {u : SX} {v : SY} (I : i_Rel k u v) (hk : k + 2 ≤ 1024) (v1 : Int32) : wpX_letter (fun r => wpY_letter (fun r' => r' = r ∧ i_Rel (k + 2) u v) v v1) u v1 := by
  refine tx_el (P := fun u v => wpX_letter (fun r => wpY_letter (fun r' => r' = r ∧ i_Rel (k + 2) u v) v v1) u v1) ?_ I
  intro K D M fb fi ls key so tk sz da ll ln le lg hR
  have k6 := hR.1.1
  by_cases h0 : v1 < 0
  · exact br_t h0 (br_t h0 ⟨rfl, tx_in hR⟩)
  · by_cases h1 : v1 < nI K.length
    · have hi : vp_in v1 6 := by
        obtain ⟨j, hj, rfl⟩ := nI_of h0
        rw [nI_ltI hj (by omega)] at h1
        exact vp_in_nI (by omega) (by omega)
      exact br_f h0 (br_t h1 ⟨hi, br_f h0 (br_t h1 ⟨hi, rfl, tx_in hR⟩)⟩)
    · exact br_f h0 (br_f h1 (br_f h0 (br_f h1 ⟨rfl, tx_in hR⟩)))
theorem i_vc_insert {k : Nat} {u : SX} {v : SY} (I : i_Rel k u v) (hk : k + 2 ≤ 1024) : wpX_insert (fun r u' => wpY_insert (fun r' v' => r' = r ∧ i_Rel (k + 2) u' v') v) u := by
  refine tx_el (P := fun u v => wpX_insert (fun r u' => wpY_insert (fun r' v' => r' = r ∧ i_Rel (k + 2) u' v') v) u) ?_ I
  intro K D M fb fi ls key so tk sz da ll ln le lg hR
  obtain ⟨okM, eM, hM, hD⟩ := tx_RM hR
  have hR' := hR
  obtain ⟨r1, r2, r3, r4, r5, r6, r7⟩ := hR'
  refine xx_ins r1 r2 r3 r4 r5 (fun hc fb fi ls ll ln => ?_) (fun c1 c2 c3 L1 L2 eL l1 l2 E so2 tk2 sz2 da2 fb fi ls ll ln hI2 hG2 ef => ?_)
  · refine yi_ins r1 r6 okM hM (fun _ => ⟨rfl, tx_in hR⟩) (fun d1 d2 d3 => ?_)
    rcases hc with hc | hc | hc
    · exact absurd hc d1
    · omega
    · exact absurd (r7.mem_iff.mpr hc) d2
  · refine yi_ins r1 r6 okM hM (fun hc => ?_) (fun d1 d2 d3 le2 lg2 hL2 => ⟨?_, ?_⟩)
    · rcases hc with hc | hc | hc
      · exact absurd hc c1
      · exact absurd (r7.mem_iff.mp hc) c3
      · omega
    · rw [tx_cS0 (tx_Pk K), tx_cnP _ r7, eL, tx_cnC (fun t ht => tx_ltP.mp (l1 t ht)) (fun t ht z => tx_asym (l2 t ht) (tx_ltP.mpr z))]
    · refine tx_in ⟨r1, hI2, hG2, ?_, ?_, hL2, ?_⟩
      · rw [eL] at r4
        rw [ef]
        exact tx_ins r4 l1 l2
      · have := congrArg List.length eL
        rw [List.length_append] at this
        rw [ef, List.length_append, List.length_cons]
        omega
      · rw [ef]
        rw [eL] at r7
        exact (List.perm_append_singleton K M).trans ((r7.cons K).trans List.perm_middle.symm)
theorem i_vc_delete {k : Nat} {u : SX} {v : SY} (I : i_Rel k u v) (hk : k + 2 ≤ 1024) : wpX_delete (fun r u' => wpY_delete (fun r' v' => r' = r ∧ i_Rel (k + 2) u' v') v) u := by
  refine tx_el (P := fun u v => wpX_delete (fun r u' => wpY_delete (fun r' v' => r' = r ∧ i_Rel (k + 2) u' v') v) u) ?_ I
  intro K D M fb fi ls key so tk sz da ll ln le lg hR
  obtain ⟨okM, eM, hM, hD⟩ := tx_RM hR
  have hR' := hR
  obtain ⟨r1, r2, r3, r4, r5, r6, r7⟩ := hR'
  refine xx_del r1 r2 r3 r4 r5 (fun hno fb fi ls ll ln => ?_) (fun L1 L3 eL E so2 tk2 sz2 da2 fb fi ls ll ln hI2 hG2 ef => ?_)
  · exact yd_del r1 r6 okM hM (fun _ => ⟨rfl, tx_in hR⟩) (fun A B e => absurd (r7.mem_iff.mp (by rw [e]; simp)) hno)
  · refine yd_del r1 r6 okM hM (fun z => absurd (r7.mem_iff.mpr (by rw [eL]; simp)) z) (fun A B e N le2 lg2 hp hL2 => ⟨?_, ?_⟩)
    · rw [tx_cnP _ r7]
      rw [eL] at r4 ⊢
      rw [tx_rkP r4]
    · refine tx_in ⟨r1, hI2, hG2, ?_, ?_, hL2, ?_⟩
      · rw [eL] at r4
        rw [ef]
        exact (tx_mid r4).2.2.1
      · have := congrArg List.length eL
        rw [List.length_append, List.length_cons] at this
        rw [ef, List.length_append]
        omega
      · rw [ef]
        rw [e, eL] at r7
        exact hp.trans ((List.perm_middle.symm.trans (r7.trans List.perm_middle)).cons_inv)
theorem i_vc_size {k : Nat} {u : SX} {v : SY} (I : i_Rel k u v) (hk : k + 2 ≤ 1024) : wpX_size (fun r => wpY_size (fun r' => r' = r ∧ i_Rel (k + 2) u v) v) u := by
  refine tx_el (P := fun u v => wpX_size (fun r => wpY_size (fun r' => r' = r ∧ i_Rel (k + 2) u v) v) u) ?_ I
  intro K D M fb fi ls key so tk sz da ll ln le lg hR
  exact And.intro (by rw [(tx_RM hR).2.1]) (tx_in hR)
theorem i_vc_before {k : Nat} {u : SX} {v : SY} (I : i_Rel k u v) (hk : k + 2 ≤ 1024) : wpX_before (fun r u' => wpY_before (fun r' => r' = r ∧ i_Rel (k + 2) u' v) v) u := by
  refine tx_el (P := fun u v => wpX_before (fun r u' => wpY_before (fun r' => r' = r ∧ i_Rel (k + 2) u' v) v) u) ?_ I
  intro K D M fb fi ls key so tk sz da ll ln le lg hR
  obtain ⟨okM, eM, hM, hD⟩ := tx_RM hR
  have hR' := hR
  obtain ⟨r1, r2, r3, r4, r5, r6, r7⟩ := hR'
  unfold wpX_before
  refine xc_rank (past := false) r1 r2 (fun d hd => (r3 d hd).1) hD r4 (fun fb fi => ?_)
  exact yb_before r1 r6 okM hM ⟨by rw [tx_cnP _ r7], tx_in hR⟩
theorem i_vc_held {k : Nat} {u : SX} {v : SY} (I : i_Rel k u v) (hk : k + 2 ≤ 1024) : wpX_held (fun r u' => wpY_held (fun r' => r' = r ∧ i_Rel (k + 2) u' v) v) u := by
  refine tx_el (P := fun u v => wpX_held (fun r u' => wpY_held (fun r' => r' = r ∧ i_Rel (k + 2) u' v) v) u) ?_ I
  intro K D M fb fi ls key so tk sz da ll ln le lg hR
  obtain ⟨okM, eM, hM, hD⟩ := tx_RM hR
  have hR' := hR
  obtain ⟨r1, r2, r3, r4, r5, r6, r7⟩ := hR'
  refine xh_held r1 r2 r3 r4 r5 (fun hin fb fi ls ll ln => ?_) (fun hno fb fi ls ll ln => ?_)
  · refine ym_same r1 r6 okM hM (fun A B e => br_f (nI_pos ?_) ⟨rfl, tx_in hR⟩) (fun z => absurd (r7.mem_iff.mpr hin) z)
    have := congrArg List.length e
    rw [List.length_append] at this
    omega
  · exact ym_same r1 r6 okM hM (fun A B e => absurd (r7.mem_iff.mp (by rw [e]; simp)) hno) (fun _ => br_t (by decide) ⟨rfl, tx_in hR⟩)
theorem i_vc_beginning {k : Nat} {u : SX} {v : SY} (I : i_Rel k u v) (hk : k + 2 ≤ 1024) : wpX_beginning (fun r u' => wpY_beginning (fun r' => r' = r ∧ i_Rel (k + 2) u' v) v) u := by
  refine tx_el (P := fun u v => wpX_beginning (fun r u' => wpY_beginning (fun r' => r' = r ∧ i_Rel (k + 2) u' v) v) u) ?_ I
  intro K D M fb fi ls key so tk sz da ll ln le lg hR
  obtain ⟨okM, eM, hM, hD⟩ := tx_RM hR
  have hR' := hR
  obtain ⟨r1, r2, r3, r4, r5, r6, r7⟩ := hR'
  unfold wpX_beginning
  refine xc_rank (past := true) r1 r2 (fun d hd => (r3 d hd).1) hD r4 (fun fb fi => ?_)
  refine xc_rank (past := false) r1 r2 (fun d hd => (r3 d hd).1) hD r4 (fun fb fi => ?_)
  refine yg_begin r1 r6 okM hM ⟨?_, tx_in hR⟩
  have e := tx_cnO (p := tx_P false K) (q := fun t => tx_sh t K = K.length) (r := tx_P true K) (tx_fl D) (fun a _ => ⟨tx_Pt, tx_Pd⟩)
  rw [tx_cnP _ r7, e, pk_sub (by omega)]
  exact tx_n (by omega)
theorem xj_48 {post : Int32 → SX → Prop} {lo hi : Nat} {kl bl tot fb fi ls : Int32} {key so tk sz da ll ln : Nat → Int32} (h1 : lo ≤ 6) (h2 : hi ≤ 6) (h : ∀ m, lo ≤ m → hi ≤ m → (m = lo ∨ m = hi) → post (nI m) (kl, bl, tot, fb, fi, ls, key, so, tk, sz, da, ll, ln)) : wX_common_48 post (nI lo) (nI hi) kl bl tot fb fi ls key so tk sz da ll ln := by
  unfold wX_common_48
  exact pk_le lo hi (fun g => h hi g (Nat.le_refl _) (Or.inr rfl)) (fun g => h lo (Nat.le_refl _) (by omega) (Or.inl rfl))
theorem i_vc_common {k : Nat} {u : SX} {v : SY} (I : i_Rel k u v) (hk : k + 2 ≤ 1024) : wpX_common (fun r u' => wpY_common (fun r' => r' = r ∧ i_Rel (k + 2) u' v) v) u := by
  refine tx_el (P := fun u v => wpX_common (fun r u' => wpY_common (fun r' => r' = r ∧ i_Rel (k + 2) u' v) v) u) ?_ I
  intro K D M fb fi ls key so tk sz da ll ln le lg hR
  obtain ⟨okM, eM, hM, hD⟩ := tx_RM hR
  have hR' := hR
  obtain ⟨r1, r2, r3, r4, r5, r6, r7⟩ := hR'
  have k6 := r1.1
  unfold wpX_common
  refine pk_eq (tx_fl D).length 0 (fun g => ?_) (fun g => ?_)
  · have e : M = [] := List.length_eq_zero_iff.mp (by omega)
    exact yc_common r1 r6 okM hM (fun _ => ⟨rfl, tx_in hR⟩) (fun t ht => absurd ht (by rw [e]; exact List.not_mem_nil))
  · obtain ⟨L1, L2, eL, p1, p2, ec⟩ := tx_part (past := false) (K := K) (tx_fl D) r4
    have el : (tx_fl D).length = L1.length + L2.length := by rw [eL, List.length_append]
    refine xc_rank (past := false) r1 r2 (fun d hd => (r3 d hd).1) hD r4 (fun fb fi => ?_)
    rw [ec]
    have hs := r4
    rw [eL] at hs
    obtain ⟨s1, s2, s3⟩ := List.pairwise_append.mp hs
    -- the end: both neighbours' shares bound all
    have fin : ∀ (lo hi m : Nat) (fb fi ls : Int32) (ll ln : Nat → Int32), (∀ t, t ∈ L1 → tx_sh t K ≤ lo) → (∀ t, t ∈ L2 → tx_sh t K ≤ hi) → (lo = 0 ∨ ∃ t, t ∈ L1 ++ L2 ∧ tx_sh t K = lo) → (hi = 0 ∨ ∃ t, t ∈ L1 ++ L2 ∧ tx_sh t K = hi) → lo ≤ m → hi ≤ m → (m = lo ∨ m = hi) →
        wpY_common (fun r' => r' = nI m ∧ i_Rel (k + 2) (nI K.length, nI D.length, nI (tx_fl D).length, fb, fi, ls, key, so, tk, sz, da, ll, ln) (nI M.length, nI K.length, le, lg, key)) (nI M.length, nI K.length, le, lg, key) := fun lo hi m fb fi ls ll ln b1 b2 w1 w2 m1 m2 m3 => by
      refine yc_common r1 r6 okM hM (fun e => absurd g (by rw [e] at eM; rw [← eM]; exact fun z => z rfl)) (fun t ht mx => ⟨tx_n ?_, tx_in hR⟩)
      have ht' := r7.mem_iff.mp ht
      rw [eL] at ht'
      have up : tx_sh t K ≤ m := by
        rcases List.mem_append.mp ht' with z | z
        · have := b1 t z; omega
        · have := b2 t z; omega
      have lo1 : lo ≤ tx_sh t K := by
        rcases w1 with w | ⟨x, hx, w⟩
        · omega
        · have := mx x (r7.mem_iff.mpr (by rw [eL]; exact hx)); omega
      have hi1 : hi ≤ tx_sh t K := by
        rcases w2 with w | ⟨x, hx, w⟩
        · omega
        · have := mx x (r7.mem_iff.mpr (by rw [eL]; exact hx)); omega
      omega
    -- the upper neighbour
    have c30 : ∀ (lo : Nat) (fb fi ls : Int32) (ll ln : Nat → Int32), lo ≤ 6 → (∀ t, t ∈ L1 → tx_sh t K ≤ lo) → (lo = 0 ∨ ∃ t, t ∈ L1 ++ L2 ∧ tx_sh t K = lo) →
        wX_common_30 (fun r u' => wpY_common (fun r' => r' = r ∧ i_Rel (k + 2) u' (nI M.length, nI K.length, le, lg, key)) (nI M.length, nI K.length, le, lg, key)) (nI L1.length) (nI lo) (nI K.length) (nI D.length) (nI (tx_fl D).length) fb fi ls key so tk sz da ll ln := fun lo fb fi ls ll ln h6 b1 w1 => by
      unfold wX_common_30
      refine pk_le (tx_fl D).length L1.length (fun q => ?_) (fun q => ?_)
      · have e2 : L2 = [] := List.length_eq_zero_iff.mp (by omega)
        refine xj_48 (hi := 0) h6 (Nat.zero_le _) (fun m m1 m2 m3 => fin lo 0 m fb fi ls ll ln b1 (fun t ht => ?_) w1 (Or.inl rfl) m1 m2 m3)
        rw [e2] at ht
        exact absurd ht List.not_mem_nil
      · cases L2 with
        | nil => rw [List.length_nil] at el; omega
        | cons t L3 =>
          have sl := tx_shP t K
          refine xg_at r1 r2 r3 r5 eL (fun ls ll ln => ?_)
          refine xj_48 h6 (by omega) (fun m m1 m2 m3 => fin lo (tx_sh t K) m fb fi ls ll ln b1 (fun x hx => ?_) w1 (Or.inr ⟨t, by simp, rfl⟩) m1 m2 m3)
          rcases List.mem_cons.mp hx with hx | hx
          · rw [hx]; exact Nat.le_refl _
          · exact tx_cm2 ((List.pairwise_cons.mp s2).1 x hx) (p2 t List.mem_cons_self)
    refine pk_le L1.length 0 (fun q => ?_) (fun q => ?_)
    · have e1 : L1 = [] := List.length_eq_zero_iff.mp (by omega)
      exact c30 0 fb fi ls ll ln (Nat.zero_le _) (fun t ht => by rw [e1] at ht; exact absurd ht List.not_mem_nil) (Or.inl rfl)
    · rcases tx_last L1 with hC | ⟨C, z, hC⟩
      · rw [hC, List.length_nil] at q; omega
      · have e1 : nI L1.length - 1 = nI C.length := by rw [hC, tx_lS, nI_pred]
        have eL' : tx_fl D = C ++ z :: L2 := by rw [eL, hC]; simp
        have sl := tx_shP z K
        rw [e1]
        refine xg_at r1 r2 r3 r5 eL' (fun ls ll ln => c30 (tx_sh z K) fb fi ls ll ln (by omega) (fun x hx => ?_) (Or.inr ⟨z, by rw [hC]; simp, rfl⟩))
        rw [hC] at hx s1
        rcases List.mem_append.mp hx with hx | hx
        · exact tx_cm1 ((tx_mid s1).1 x hx) (p1 z (by rw [hC]; simp))
        · rw [List.mem_singleton.mp hx]; exact Nat.le_refl _
end
