section
/-! basics: Int32 by its integer, a loop in existence form, sums -/
theorem rg_le {a b : Int32} : a ≤ b ↔ a.toInt ≤ b.toInt := Int32.le_iff_toInt_le
theorem rg_lt {a b : Int32} : a < b ↔ a.toInt < b.toInt := Int32.lt_iff_toInt_lt
theorem rg_eq {a b : Int32} : a = b ↔ a.toInt = b.toInt := Int32.toInt_inj.symm
theorem rg_ad {a b : Int32} (h1 : -1000000000 ≤ a.toInt + b.toInt) (h2 : a.toInt + b.toInt ≤ 1000000000) : (a + b).toInt = a.toInt + b.toInt := by
  rw [Int32.toInt_add]
  exact Int.bmod_eq_of_le (by omega) (by omega)
theorem rg_sb {a b : Int32} (h1 : -1000000000 ≤ a.toInt - b.toInt) (h2 : a.toInt - b.toInt ≤ 1000000000) : (a - b).toInt = a.toInt - b.toInt := by
  rw [Int32.toInt_sub]
  exact Int.bmod_eq_of_le (by omega) (by omega)
theorem rg_ng {a : Int32} (h1 : -1000000000 ≤ a.toInt) (h2 : a.toInt ≤ 1000000000) : (-a).toInt = -a.toInt := by
  rw [Int32.toInt_neg]
  exact Int.bmod_eq_of_le (by omega) (by omega)
theorem rg_t0 : (0 : Int32).toInt = 0 := by decide
theorem rg_t1 : (1 : Int32).toInt = 1 := by decide
theorem rg_t4 : (4 : Int32).toInt = 4 := by decide
theorem rg_t7 : (7 : Int32).toInt = 7 := by decide
theorem rg_t100 : (100 : Int32).toInt = 100 := by decide
theorem rg_tm100 : (-100 : Int32).toInt = -100 := by decide
theorem rg_tm1 : (-1 : Int32).toInt = -1 := by decide
theorem rg_ix (i x : Nat) : nI i * 4 + nI x = nI (i * 4 + x) := by
  rw [show (4 : Int32) = nI 4 from rfl, pk_mul, nI_add]
theorem rg_self (f : Nat → Int32) (k : Nat) : upd f k (f k) = f := by
  funext j
  by_cases h : j = k
  · rw [h, pk_us]
  · rw [pk_un h]
theorem rg_and (v : Int32) {k : Nat} (hk : k < 2 ^ 31) : ∃ m : Nat, m ≤ k ∧ v &&& nI k = nI m ∧ (0 ≤ v.toInt → (m : Int) ≤ v.toInt) := by
  refine ⟨v.toBitVec.toNat &&& k, Nat.and_le_right, ?_, ?_⟩
  · apply Int32.toBitVec_inj.mp
    apply BitVec.eq_of_toNat_eq
    have hm : v.toBitVec.toNat &&& k ≤ k := Nat.and_le_right
    rw [pk_tn (show v.toBitVec.toNat &&& k < 2 ^ 32 by omega), Int32.toBitVec_and, BitVec.toNat_and, pk_tn (by omega)]
  · intro h
    obtain ⟨j, hj, rfl⟩ := nI_of (x := v) (fun z => by rw [rg_lt, rg_t0] at z; omega)
    rw [pk_tn (by omega), nI_toInt hj]
    have := @Nat.and_le_left j k
    omega
/-- a loop that ends, its end one and the same for all posts -/
theorem rg_loop {σ ρ τ : Type} (W : (τ → Prop) → Nat → σ → Prop) (mk : ρ → τ) (I : σ → Prop) (R : ρ → Prop) (μ : σ → Nat)
    (hs : ∀ s, I s → (∃ u, R u ∧ ∀ n post, post (mk u) → W post (n + 1) s) ∨ (∃ s', I s' ∧ μ s' < μ s ∧ ∀ n post, W post n s' → W post (n + 1) s))
    (s : σ) (h : I s) : ∃ u, R u ∧ ∀ post, post (mk u) → ∃ n, W post n s := by
  have key : ∀ m s, μ s < m → I s → ∃ u, R u ∧ ∀ post, post (mk u) → ∃ n, W post n s := by
    intro m
    induction m with
    | zero => intro s h; omega
    | succ m ih =>
      intro s hm hi
      rcases hs s hi with ⟨u, hu, hp⟩ | ⟨s', hi', hl, hp⟩
      · exact ⟨u, hu, fun post h => ⟨1, hp 0 post h⟩⟩
      · obtain ⟨u, hu, hp'⟩ := ih s' (by omega) hi'
        exact ⟨u, hu, fun post h => (hp' post h).elim fun n hn => ⟨n + 1, hp n post hn⟩⟩
  exact key (μ s + 1) s (by omega) h
def rg_sum (f : Nat → Nat) : Nat → Nat
  | 0 => 0
  | n + 1 => rg_sum f n + f n
theorem rg_sum_c {f : Nat → Nat} {c : Nat} : ∀ n, (∀ j, j < n → f j ≤ c) → rg_sum f n ≤ n * c := by
  intro n
  induction n with
  | zero => intro _; exact Nat.zero_le _
  | succ n ih =>
    intro h
    have h1 := ih (fun j hj => h j (by omega))
    have h2 := h n (by omega)
    rw [Nat.succ_mul]
    show rg_sum f n + f n ≤ _
    omega
theorem rg_sum_le {f g : Nat → Nat} : ∀ n, (∀ j, j < n → g j ≤ f j) → rg_sum g n ≤ rg_sum f n := by
  intro n
  induction n with
  | zero => intro _; exact Nat.le_refl _
  | succ n ih =>
    intro h
    have h1 := ih (fun j hj => h j (by omega))
    have h2 := h n (by omega)
    show rg_sum g n + g n ≤ rg_sum f n + f n
    omega
theorem rg_sum_lt {f g : Nat → Nat} {t : Nat} : ∀ n, (∀ j, j < n → g j ≤ f j) → t < n → g t < f t → rg_sum g n < rg_sum f n := by
  intro n
  induction n with
  | zero => intro _ h; omega
  | succ n ih =>
    intro h ht hl
    have h2 := h n (by omega)
    show rg_sum g n + g n < rg_sum f n + f n
    by_cases e : t = n
    · subst e
      have h1 := rg_sum_le t (fun j hj => h j (by omega))
      omega
    · have h1 := ih (fun j hj => h j (by omega)) (by omega) hl
      omega
end
section
/-! what the analysis keeps: K = (moved, reached, least, most, widened) -/
abbrev rg_K : Type := Int32 × (Nat → Int32) × (Nat → Int32) × (Nat → Int32) × (Nat → Int32)
/-- how many of the two bounds of variable x before instruction t can still move once t is wide -/
def rg_nx (a1 a2 a10 a11 : Nat → Int32) (t x : Nat) : Nat := (if a1 x < a10 (t * 4 + x) then 1 else 0) + (if a11 (t * 4 + x) < a2 x then 1 else 0)
/-- how many changes instruction t has left -/
def rg_mu (a1 a2 : Nat → Int32) (K : rg_K) (t : Nat) : Nat :=
  if K.2.1 t = 0 then 13 else (5 - (K.2.2.2.2 t).toInt.toNat) + rg_sum (rg_nx a1 a2 K.2.2.1 K.2.2.2.1 t) 4
def rg_ph (s : Nat) (a1 a2 : Nat → Int32) (K : rg_K) : Nat := rg_sum (rg_mu a1 a2 K) s
/-- v lies between l and h -/
def rg_box (l h v : Nat → Int32) : Prop := ∀ x, x < 4 → l x ≤ v x ∧ v x ≤ h x
/-- the analysis's state is sane -/
def rg_A (a1 a2 : Nat → Int32) (K : rg_K) : Prop := ∀ t, t < 14 → (K.2.1 t = 0 ∨ K.2.1 t = 1) ∧ 0 ≤ (K.2.2.2.2 t).toInt ∧ (K.2.2.2.2 t).toInt + rg_mu a1 a2 K t ≤ 13 ∧
  (K.2.1 t ≠ 0 → ∀ x, x < 4 → a1 x ≤ K.2.2.1 (t * 4 + x) ∧ K.2.2.1 (t * 4 + x) ≤ K.2.2.2.1 (t * 4 + x) ∧ K.2.2.2.1 (t * 4 + x) ≤ a2 x)
/-- K' knows at least K; if it differs, something was left to change -/
def rg_Up (s : Nat) (a1 a2 : Nat → Int32) (K K' : rg_K) : Prop := rg_A a1 a2 K' ∧
  (∀ t, t < 14 → K.2.1 t ≠ 0 → K'.2.1 t ≠ 0 ∧ ∀ x, x < 4 → K'.2.2.1 (t * 4 + x) ≤ K.2.2.1 (t * 4 + x) ∧ K.2.2.2.1 (t * 4 + x) ≤ K'.2.2.2.1 (t * 4 + x)) ∧
  (K' = K ∨ (K'.1 = 1 ∧ rg_ph s a1 a2 K' < rg_ph s a1 a2 K))
/-- v may be had before instruction t -/
def rg_in (s : Nat) (a9 a10 a11 : Nat → Int32) (t : Nat) (v : Nat → Int32) : Prop := t < s → a9 t ≠ 0 ∧ ∀ x, x < 4 → a10 (t * 4 + x) ≤ v x ∧ v x ≤ a11 (t * 4 + x)
theorem rg_Up_refl {s : Nat} {a1 a2 : Nat → Int32} {K : rg_K} (h : rg_A a1 a2 K) : rg_Up s a1 a2 K K :=
  ⟨h, fun _ _ hr => ⟨hr, fun _ _ => ⟨Int32.le_refl _, Int32.le_refl _⟩⟩, Or.inl rfl⟩
theorem rg_Up_ph {s : Nat} {a1 a2 : Nat → Int32} {K K' : rg_K} (h : rg_Up s a1 a2 K K') : rg_ph s a1 a2 K' ≤ rg_ph s a1 a2 K := by
  rcases h.2.2 with e | ⟨_, e⟩
  · rw [e]; exact Nat.le_refl _
  · exact Nat.le_of_lt e
theorem rg_Up_trans {s : Nat} {a1 a2 : Nat → Int32} {K K' K'' : rg_K} (h : rg_Up s a1 a2 K K') (h' : rg_Up s a1 a2 K' K'') : rg_Up s a1 a2 K K'' := by
  refine ⟨h'.1, fun t ht hr => ?_, ?_⟩
  · obtain ⟨q, r⟩ := h.2.1 t ht hr
    obtain ⟨q', r'⟩ := h'.2.1 t ht q
    exact ⟨q', fun x hx => ⟨Int32.le_trans (r' x hx).1 (r x hx).1, Int32.le_trans (r x hx).2 (r' x hx).2⟩⟩
  · rcases h'.2.2 with e | ⟨e1, e2⟩
    · rw [e]; exact h.2.2
    · have := rg_Up_ph h
      exact Or.inr ⟨e1, by omega⟩
theorem rg_Up_same {s : Nat} {a1 a2 : Nat → Int32} {K K' K'' : rg_K} (h : rg_Up s a1 a2 K K') (h' : rg_Up s a1 a2 K' K'') (e : K'' = K) : K' = K := by
  rcases h.2.2 with e' | ⟨_, e2⟩
  · exact e'
  · have := rg_Up_ph h'
    rw [e] at this
    omega
theorem rg_Up_in {s : Nat} {a1 a2 : Nat → Int32} {K K' : rg_K} (hs : s ≤ 14) (h : rg_Up s a1 a2 K K') {t : Nat} {v : Nat → Int32} (hi : rg_in s K.2.1 K.2.2.1 K.2.2.2.1 t v) : rg_in s K'.2.1 K'.2.2.1 K'.2.2.2.1 t v := by
  intro ht
  obtain ⟨q, r⟩ := hi ht
  obtain ⟨q', r'⟩ := h.2.1 t (by omega) q
  exact ⟨q', fun x hx => ⟨Int32.le_trans (r' x hx).1 (r x hx).1, Int32.le_trans (r x hx).2 (r' x hx).2⟩⟩
theorem rg_nx2 (a1 a2 a10 a11 : Nat → Int32) (t x : Nat) : rg_nx a1 a2 a10 a11 t x ≤ 2 := by
  unfold rg_nx
  split <;> split <;> omega
theorem rg_mu13 (a1 a2 : Nat → Int32) (K : rg_K) (t : Nat) : rg_mu a1 a2 K t ≤ 13 := by
  unfold rg_mu
  split
  · exact Nat.le_refl _
  · have := rg_sum_c (f := rg_nx a1 a2 K.2.2.1 K.2.2.2.1 t) (c := 2) 4 (fun j _ => rg_nx2 _ _ _ _ _ _)
    omega
theorem rg_ph182 {s : Nat} (hs : s ≤ 14) (a1 a2 : Nat → Int32) (K : rg_K) : rg_ph s a1 a2 K ≤ 182 := by
  have := rg_sum_c (f := rg_mu a1 a2 K) (c := 13) s (fun j _ => rg_mu13 _ _ _ _)
  unfold rg_ph
  omega
/-- instruction i is one that passes the component's own tests -/
def rg_wf (a3 a4 a5 a6 : Nat → Int32) (i : Nat) : Prop := ∃ o x y : Nat, a3 i = nI o ∧ a4 i = nI x ∧ a5 i = nI y ∧ o ≤ 7 ∧ x < 4 ∧ y < 4 ∧
  -100 ≤ (a6 i).toInt ∧ (a6 i).toInt ≤ 100 ∧ (o = 2 → ∃ z, z < 4 ∧ a6 i = nI z) ∧ (o = 3 → 0 ≤ (a6 i).toInt) ∧ (6 ≤ o → ∃ t, t ≤ 14 ∧ a6 i = nI t)
/-- w is given to x by instruction i, when v is had -/
def rg_giv (s : Nat) (a1 a2 a9 a10 a11 a13 : Nat → Int32) (i : Nat) (v : Nat → Int32) (x : Nat) (w : Int32) : Prop :=
  (a13 i ≠ 0 → a1 x ≤ w ∧ w ≤ a2 x) ∧ (a1 x ≤ w → w ≤ a2 x → rg_in s a9 a10 a11 (i + 1) (upd v x w))
/-- what the analysis says of instruction i, when v is had, is right -/
def rg_cv (s : Nat) (a1 a2 a9 a10 a11 a13 a14 : Nat → Int32) (o : Int32) (x y : Nat) (k : Int32) (i : Nat) (v : Nat → Int32) : Prop :=
  (o = 6 → (v y ≤ v x → rg_in s a9 a10 a11 (i + 1) v) ∧ (¬ v y ≤ v x → rg_in s a9 a10 a11 k.toNatClampNeg v)) ∧
  (o = 7 → rg_in s a9 a10 a11 k.toNatClampNeg v) ∧
  (o = 0 → rg_giv s a1 a2 a9 a10 a11 a13 i v x k) ∧
  (o = 1 → rg_giv s a1 a2 a9 a10 a11 a13 i v x (v y + k)) ∧
  (o = 2 → rg_giv s a1 a2 a9 a10 a11 a13 i v x (v y + v k.toNatClampNeg)) ∧
  (o = 3 → rg_giv s a1 a2 a9 a10 a11 a13 i v x (v y &&& k)) ∧
  (o = 4 → (a14 i ≠ 0 → ¬ v y + k < 0 ∧ v y + k ≤ 7) ∧ (¬ v y + k < 0 → v y + k ≤ 7 → ∀ c : Int32, -100 ≤ c → c ≤ 100 → rg_giv s a1 a2 a9 a10 a11 a13 i v x c)) ∧
  (o = 5 → (a14 i ≠ 0 → ¬ v y + k < 0 ∧ v y + k ≤ 7) ∧ (¬ v y + k < 0 → v y + k ≤ 7 → rg_in s a9 a10 a11 (i + 1) v))
def rg_cert (s : Nat) (a1 a2 a3 a4 a5 a6 a9 a10 a11 a13 a14 : Nat → Int32) (i : Nat) : Prop :=
  ∀ v, (∀ x, x < 4 → a10 (i * 4 + x) ≤ v x ∧ v x ≤ a11 (i * 4 + x)) → rg_cv s a1 a2 a9 a10 a11 a13 a14 (a3 i) (a4 i).toNatClampNeg (a5 i).toNatClampNeg (a6 i) i v
theorem rg_cv0 {s : Nat} {a1 a2 a9 a10 a11 a13 a14 : Nat → Int32} {x y i : Nat} {k : Int32} {v : Nat → Int32} (h : rg_giv s a1 a2 a9 a10 a11 a13 i v x k) : rg_cv s a1 a2 a9 a10 a11 a13 a14 (nI 0) x y k i v :=
  ⟨fun z => absurd z (by decide), fun z => absurd z (by decide), fun _ => h, fun z => absurd z (by decide), fun z => absurd z (by decide), fun z => absurd z (by decide), fun z => absurd z (by decide), fun z => absurd z (by decide)⟩
theorem rg_cv1 {s : Nat} {a1 a2 a9 a10 a11 a13 a14 : Nat → Int32} {x y i : Nat} {k : Int32} {v : Nat → Int32} (h : rg_giv s a1 a2 a9 a10 a11 a13 i v x (v y + k)) : rg_cv s a1 a2 a9 a10 a11 a13 a14 (nI 1) x y k i v :=
  ⟨fun z => absurd z (by decide), fun z => absurd z (by decide), fun z => absurd z (by decide), fun _ => h, fun z => absurd z (by decide), fun z => absurd z (by decide), fun z => absurd z (by decide), fun z => absurd z (by decide)⟩
theorem rg_cv2 {s : Nat} {a1 a2 a9 a10 a11 a13 a14 : Nat → Int32} {x y i : Nat} {k : Int32} {v : Nat → Int32} (h : rg_giv s a1 a2 a9 a10 a11 a13 i v x (v y + v k.toNatClampNeg)) : rg_cv s a1 a2 a9 a10 a11 a13 a14 (nI 2) x y k i v :=
  ⟨fun z => absurd z (by decide), fun z => absurd z (by decide), fun z => absurd z (by decide), fun z => absurd z (by decide), fun _ => h, fun z => absurd z (by decide), fun z => absurd z (by decide), fun z => absurd z (by decide)⟩
theorem rg_cv3 {s : Nat} {a1 a2 a9 a10 a11 a13 a14 : Nat → Int32} {x y i : Nat} {k : Int32} {v : Nat → Int32} (h : rg_giv s a1 a2 a9 a10 a11 a13 i v x (v y &&& k)) : rg_cv s a1 a2 a9 a10 a11 a13 a14 (nI 3) x y k i v :=
  ⟨fun z => absurd z (by decide), fun z => absurd z (by decide), fun z => absurd z (by decide), fun z => absurd z (by decide), fun z => absurd z (by decide), fun _ => h, fun z => absurd z (by decide), fun z => absurd z (by decide)⟩
theorem rg_cv4 {s : Nat} {a1 a2 a9 a10 a11 a13 a14 : Nat → Int32} {x y i : Nat} {k : Int32} {v : Nat → Int32} (h : (a14 i ≠ 0 → ¬ v y + k < 0 ∧ v y + k ≤ 7) ∧ (¬ v y + k < 0 → v y + k ≤ 7 → ∀ c : Int32, -100 ≤ c → c ≤ 100 → rg_giv s a1 a2 a9 a10 a11 a13 i v x c)) : rg_cv s a1 a2 a9 a10 a11 a13 a14 (nI 4) x y k i v :=
  ⟨fun z => absurd z (by decide), fun z => absurd z (by decide), fun z => absurd z (by decide), fun z => absurd z (by decide), fun z => absurd z (by decide), fun z => absurd z (by decide), fun _ => h, fun z => absurd z (by decide)⟩
theorem rg_cv5 {s : Nat} {a1 a2 a9 a10 a11 a13 a14 : Nat → Int32} {x y i : Nat} {k : Int32} {v : Nat → Int32} (h : (a14 i ≠ 0 → ¬ v y + k < 0 ∧ v y + k ≤ 7) ∧ (¬ v y + k < 0 → v y + k ≤ 7 → rg_in s a9 a10 a11 (i + 1) v)) : rg_cv s a1 a2 a9 a10 a11 a13 a14 (nI 5) x y k i v :=
  ⟨fun z => absurd z (by decide), fun z => absurd z (by decide), fun z => absurd z (by decide), fun z => absurd z (by decide), fun z => absurd z (by decide), fun z => absurd z (by decide), fun z => absurd z (by decide), fun _ => h⟩
theorem rg_cv6 {s : Nat} {a1 a2 a9 a10 a11 a13 a14 : Nat → Int32} {x y i : Nat} {k : Int32} {v : Nat → Int32} (h : (v y ≤ v x → rg_in s a9 a10 a11 (i + 1) v) ∧ (¬ v y ≤ v x → rg_in s a9 a10 a11 k.toNatClampNeg v)) : rg_cv s a1 a2 a9 a10 a11 a13 a14 (nI 6) x y k i v :=
  ⟨fun _ => h, fun z => absurd z (by decide), fun z => absurd z (by decide), fun z => absurd z (by decide), fun z => absurd z (by decide), fun z => absurd z (by decide), fun z => absurd z (by decide), fun z => absurd z (by decide)⟩
theorem rg_cv7 {s : Nat} {a1 a2 a9 a10 a11 a13 a14 : Nat → Int32} {x y i : Nat} {k : Int32} {v : Nat → Int32} (h : rg_in s a9 a10 a11 k.toNatClampNeg v) : rg_cv s a1 a2 a9 a10 a11 a13 a14 (nI 7) x y k i v :=
  ⟨fun z => absurd z (by decide), fun _ => h, fun z => absurd z (by decide), fun z => absurd z (by decide), fun z => absurd z (by decide), fun z => absurd z (by decide), fun z => absurd z (by decide), fun z => absurd z (by decide)⟩
end
section
/-! possible, take, arrive -/
section
variable {sz en pl ct kn mv : Int32} {a1 a2 a3 a4 a5 a6 a7 a8 a9 a10 a11 a12 a13 a14 a15 a16 : Nat → Int32}
theorem rg_possible : ∃ r : Int32, (r = 0 ↔ ¬ ∀ x, x < 4 → a15 x ≤ a16 x) ∧ ∀ post : Int32 → Prop, post r → wpX_possible post (sz, en, pl, ct, kn, mv, a1, a2, a3, a4, a5, a6, a7, a8, a9, a10, a11, a12, a13, a14, a15, a16) := by
  refine rg_loop (fun (post : Int32 → Prop) n (i : Nat) => wX_possible_2 post sz en pl ct kn mv a1 a2 a3 a4 a5 a6 a7 a8 a9 a10 a11 a12 a13 a14 a15 a16 n (nI i)) (fun r => r) (fun i => i ≤ 4 ∧ ∀ j, j < i → a15 j ≤ a16 j) (fun r => (r = 0 ↔ ¬ ∀ x, x < 4 → a15 x ≤ a16 x)) (fun i => 4 - i) ?_ 0 ⟨by omega, fun j h => absurd h (by omega)⟩
  rintro i ⟨hi, h⟩
  by_cases h4 : i = 4
  · subst h4
    exact Or.inl ⟨1, ⟨fun z => absurd z (by decide), fun z => absurd h z⟩, fun n post hp => pk_le 4 4 (fun _ => hp) (fun z => absurd z (by omega))⟩
  · have hi4 : i < 4 := by omega
    by_cases hc : a15 i ≤ a16 i
    · refine Or.inr ⟨i + 1, ⟨by omega, lt_s h hc⟩, by omega, fun n post hw => pk_le 4 i (fun z => absurd z (by omega)) (fun _ => ⟨pk_in i 4 hi4, pk_in i 4 hi4, br_t (by rw [nI_clamp (by omega)]; exact hc) (nm_r (nI_1 i) hw)⟩)⟩
    · refine Or.inl ⟨0, ⟨fun _ z => hc (z i hi4), fun _ => rfl⟩, fun n post hp => pk_le 4 i (fun z => absurd z (by omega)) (fun _ => ⟨pk_in i 4 hi4, pk_in i 4 hi4, br_f (by rw [nI_clamp (by omega)]; exact hc) hp⟩)⟩
theorem rg_take {i : Nat} (hi : i < 14) : ∃ b : (Nat → Int32) × (Nat → Int32), (∀ x, x < 4 → b.1 x = a10 (i * 4 + x) ∧ b.2 x = a11 (i * 4 + x)) ∧ ∀ post : St1 → Prop, post (sz, en, pl, ct, kn, mv, a1, a2, a3, a4, a5, a6, a7, a8, a9, a10, a11, a12, a13, a14, b.1, b.2) → wpX_take post (sz, en, pl, ct, kn, mv, a1, a2, a3, a4, a5, a6, a7, a8, a9, a10, a11, a12, a13, a14, a15, a16) (nI i) := by
  refine rg_loop (fun (post : St1 → Prop) n (s : Nat × (Nat → Int32) × (Nat → Int32)) => wX_take_2 post (nI i) sz en pl ct kn mv n (nI s.1) a1 a2 a3 a4 a5 a6 a7 a8 a9 a10 a11 a12 a13 a14 s.2.1 s.2.2) (fun (b : (Nat → Int32) × (Nat → Int32)) => (sz, en, pl, ct, kn, mv, a1, a2, a3, a4, a5, a6, a7, a8, a9, a10, a11, a12, a13, a14, b.1, b.2)) (fun s => s.1 ≤ 4 ∧ ∀ j, j < s.1 → s.2.1 j = a10 (i * 4 + j) ∧ s.2.2 j = a11 (i * 4 + j)) (fun b => ∀ x, x < 4 → b.1 x = a10 (i * 4 + x) ∧ b.2 x = a11 (i * 4 + x)) (fun s => 4 - s.1) ?_ (0, a15, a16) ⟨by show 0 ≤ 4; omega, fun j h => absurd h (by show ¬ j < 0; omega)⟩
  rintro ⟨x, b15, b16⟩ ⟨hx, h⟩
  dsimp only at hx h ⊢
  by_cases h4 : x = 4
  · subst h4
    exact Or.inl ⟨(b15, b16), h, fun n post hp => pk_le 4 4 (fun _ => hp) (fun z => absurd z (by omega))⟩
  · have hx4 : x < 4 := by omega
    refine Or.inr ⟨(x + 1, upd b15 x (a10 (i * 4 + x)), upd b16 x (a11 (i * 4 + x))), ⟨by show x + 1 ≤ 4; omega, ?_⟩, by show 4 - (x + 1) < 4 - x; omega, fun n post hw => pk_le 4 x (fun z => absurd z (by omega)) (fun _ => ⟨pk_in (i * 4 + x) 60 (by omega) (rg_ix i x), pk_in x 4 hx4, nm_r (by rw [rg_ix, nI_clamp (by omega), nI_clamp (by omega)]) ⟨pk_in (i * 4 + x) 60 (by omega) (rg_ix i x), pk_in x 4 hx4, nm_r (by rw [rg_ix, nI_clamp (by omega), nI_clamp (by omega)]) (nm_r (nI_1 x) hw)⟩⟩)⟩
    intro j hj
    dsimp only at hj ⊢
    by_cases e : j = x
    · rw [e, pk_us, pk_us]; exact ⟨rfl, rfl⟩
    · rw [pk_un e, pk_un e]; exact h j (by omega)
/-- one turn of arrive's loop before which nothing was known -/
theorem rg_arr0 {t : Nat} {wd : Int32} (ht : t < 14) (h9 : a9 t = 0) : ∃ b : (Nat → Int32) × (Nat → Int32), ((∀ x, x < 4 → b.1 (t * 4 + x) = a15 x ∧ b.2 (t * 4 + x) = a16 x) ∧ (∀ q, q < t * 4 ∨ t * 4 + 4 ≤ q → b.1 q = a10 q ∧ b.2 q = a11 q)) ∧
    ∀ post : St1 → Prop, post (sz, en, pl, ct, kn, 1, a1, a2, a3, a4, a5, a6, a7, a8, upd a9 t 1, b.1, b.2, upd a12 t (a12 t + 1), a13, a14, a15, a16) → ∃ n, wX_arrive_53 post (nI t) wd sz en pl ct kn mv n 1 0 a1 a2 a3 a4 a5 a6 a7 a8 a9 a10 a11 a12 a13 a14 a15 a16 := by
  refine rg_loop (fun (post : St1 → Prop) n (s : Nat × (Nat → Int32) × (Nat → Int32)) => wX_arrive_53 post (nI t) wd sz en pl ct kn mv n 1 (nI s.1) a1 a2 a3 a4 a5 a6 a7 a8 a9 s.2.1 s.2.2 a12 a13 a14 a15 a16) (fun (b : (Nat → Int32) × (Nat → Int32)) => (sz, en, pl, ct, kn, 1, a1, a2, a3, a4, a5, a6, a7, a8, upd a9 t 1, b.1, b.2, upd a12 t (a12 t + 1), a13, a14, a15, a16))
    (fun s => s.1 ≤ 4 ∧ (∀ x, x < s.1 → s.2.1 (t * 4 + x) = a15 x ∧ s.2.2 (t * 4 + x) = a16 x) ∧ (∀ q, q < t * 4 ∨ t * 4 + 4 ≤ q → s.2.1 q = a10 q ∧ s.2.2 q = a11 q)) (fun b => (∀ x, x < 4 → b.1 (t * 4 + x) = a15 x ∧ b.2 (t * 4 + x) = a16 x) ∧ (∀ q, q < t * 4 ∨ t * 4 + 4 ≤ q → b.1 q = a10 q ∧ b.2 q = a11 q)) (fun s => 4 - s.1) ?_ (0, a10, a11) ⟨by show 0 ≤ 4; omega, fun j h => absurd h (by show ¬ j < 0; omega), fun q _ => ⟨rfl, rfl⟩⟩
  rintro ⟨x, b10, b11⟩ ⟨hx, h, ho⟩
  dsimp only at hx h ho ⊢
  by_cases h4 : x = 4
  · subst h4
    exact Or.inl ⟨(b10, b11), ⟨h, ho⟩, fun n post hp => pk_le 4 4 (fun _ => ⟨pk_in t 15 (by omega), nm_r (by rw [nI_clamp (by omega)]) (br_f (by decide) ⟨pk_in t 15 (by omega), pk_in t 15 (by omega), nm_r (by rw [nI_clamp (by omega)]) hp⟩)⟩) (fun z => absurd z (by omega))⟩
  · have hx4 : x < 4 := by omega
    refine Or.inr ⟨(x + 1, upd b10 (t * 4 + x) (a15 x), upd b11 (t * 4 + x) (a16 x)), ⟨by show x + 1 ≤ 4; omega, ?_, ?_⟩, by show 4 - (x + 1) < 4 - x; omega, fun n post hw => pk_le 4 x (fun z => absurd z (by omega)) (fun _ => nm_r (rg_ix t x) ⟨pk_in t 15 (by omega), br_t (by rw [nI_clamp (by omega)]; exact h9) ⟨pk_in x 4 hx4, pk_in (t * 4 + x) 60 (by omega), nm_r (by rw [nI_clamp (by omega), nI_clamp (by omega)]) ⟨pk_in x 4 hx4, pk_in (t * 4 + x) 60 (by omega), nm_r (by rw [nI_clamp (by omega), nI_clamp (by omega)]) (nm_r (nI_1 x) hw)⟩⟩⟩)⟩
    · intro j hj
      dsimp only at hj ⊢
      by_cases e : j = x
      · rw [e, pk_us, pk_us]; exact ⟨rfl, rfl⟩
      · rw [pk_un (by omega), pk_un (by omega)]; exact h j (by omega)
    · intro q hq
      dsimp only
      rw [pk_un (by omega), pk_un (by omega)]
      exact ho q hq
theorem rg_155 {post : St1 → Prop} {J : Int32 → Int32 → (Nat → Int32) → (Nat → Int32) → (Nat → Int32) → (Nat → Int32) → (Nat → Int32) → (Nat → Int32) → (Nat → Int32) → (Nat → Int32) → (Nat → Int32) → (Nat → Int32) → (Nat → Int32) → (Nat → Int32) → (Nat → Int32) → (Nat → Int32) → (Nat → Int32) → (Nat → Int32) → Prop} {t x q : Nat} {wd c : Int32} (hx : x < 4) (hq : q < 60)
    (h : J (if a16 x ≤ a11 q then c else 1) (nI (x + 1)) a1 a2 a3 a4 a5 a6 a7 a8 a9 a10 (upd a11 q (if a16 x ≤ a11 q then a11 q else if wd = 0 then a16 x else a2 x)) a12 a13 a14 a15 a16) :
    wX_arrive_155 post J (nI t) wd c (nI x) (nI q) sz en pl ct kn mv a1 a2 a3 a4 a5 a6 a7 a8 a9 a10 a11 a12 a13 a14 a15 a16 := by
  unfold wX_arrive_155
  rw [nI_clamp (show x < 2 ^ 31 by omega), nI_clamp (show q < 2 ^ 31 by omega)]
  refine ⟨pk_in x 4 hx, pk_in q 60 hq, br_c (fun g => ?_) (fun g => ?_)⟩
  · rw [if_pos g, if_pos g, rg_self] at h
    exact nm_r (nI_1 x) h
  · rw [if_neg g, if_neg g] at h
    refine br_c (fun w => ?_) (fun w => ?_)
    · rw [if_pos w] at h
      exact ⟨pk_in x 4 hx, pk_in q 60 hq, nm_e (nm_r (nI_1 x) h)⟩
    · rw [if_neg w] at h
      exact ⟨pk_in x 4 hx, pk_in q 60 hq, nm_e (nm_r (nI_1 x) h)⟩
theorem rg_53 {post : St1 → Prop} {t x n : Nat} {wd c : Int32} (ht : t < 14) (hx : x < 4) (h9 : a9 t ≠ 0)
    (h : wX_arrive_53 post (nI t) wd sz en pl ct kn mv n (if a16 x ≤ a11 (t * 4 + x) then (if a10 (t * 4 + x) ≤ a15 x then c else 1) else 1) (nI (x + 1)) a1 a2 a3 a4 a5 a6 a7 a8 a9 (upd a10 (t * 4 + x) (if a10 (t * 4 + x) ≤ a15 x then a10 (t * 4 + x) else if wd = 0 then a15 x else a1 x)) (upd a11 (t * 4 + x) (if a16 x ≤ a11 (t * 4 + x) then a11 (t * 4 + x) else if wd = 0 then a16 x else a2 x)) a12 a13 a14 a15 a16) :
    wX_arrive_53 post (nI t) wd sz en pl ct kn mv (n + 1) c (nI x) a1 a2 a3 a4 a5 a6 a7 a8 a9 a10 a11 a12 a13 a14 a15 a16 := by
  refine pk_le 4 x (fun z => absurd z (by omega)) (fun _ => nm_r (rg_ix t x) ?_)
  rw [nI_clamp (show t < 2 ^ 31 by omega), nI_clamp (show x < 2 ^ 31 by omega), nI_clamp (show t * 4 + x < 2 ^ 31 by omega)]
  refine ⟨pk_in t 15 (by omega), br_f h9 ⟨pk_in x 4 hx, pk_in (t * 4 + x) 60 (by omega), br_c (fun g => ?_) (fun g => br_c (fun w => ?_) (fun w => ?_))⟩⟩
  · rw [if_pos g, if_pos g, rg_self] at h
    exact rg_155 hx (by omega) h
  · rw [if_neg g, if_neg g, if_pos w] at h
    exact ⟨pk_in x 4 hx, And.intro (pk_in (t * 4 + x) 60 (by omega)) (nm_r (by rw [nI_clamp (by omega)]) (rg_155 hx (by omega) h))⟩
  · rw [if_neg g, if_neg g, if_neg w] at h
    exact ⟨pk_in x 4 hx, And.intro (pk_in (t * 4 + x) 60 (by omega)) (nm_r (by rw [nI_clamp (by omega)]) (rg_155 hx (by omega) h))⟩
end
end
section
/-! arrive, where something was known; arrive as a whole -/
section
variable {sz en pl ct kn mv : Int32} {a1 a2 a3 a4 a5 a6 a7 a8 a9 a10 a11 a12 a13 a14 a15 a16 : Nat → Int32}
/-- arrive's loop at x: (c, b10, b11) -/
def rg_L (t x : Nat) (wd : Int32) (a1 a2 a10 a11 a15 a16 : Nat → Int32) (c : Int32) (b10 b11 : Nat → Int32) : Prop :=
  (∀ q, q < t * 4 ∨ t * 4 + x ≤ q → b10 q = a10 q ∧ b11 q = a11 q) ∧
  (∀ j, j < x → (b10 (t * 4 + j) ≤ a15 j ∧ a16 j ≤ b11 (t * 4 + j)) ∧ (a1 j ≤ b10 (t * 4 + j) ∧ b11 (t * 4 + j) ≤ a2 j) ∧ b10 (t * 4 + j) ≤ a10 (t * 4 + j) ∧ a11 (t * 4 + j) ≤ b11 (t * 4 + j)) ∧
  (c = 0 → b10 = a10 ∧ b11 = a11) ∧ (c ≠ 0 → wd ≠ 0 → ∃ j, j < x ∧ rg_nx a1 a2 b10 b11 t j < rg_nx a1 a2 a10 a11 t j)
theorem rg_nxle {a1 a2 a10 a11 b10 b11 : Nat → Int32} {t x : Nat} (h1 : b10 (t * 4 + x) ≤ a10 (t * 4 + x)) (h2 : a11 (t * 4 + x) ≤ b11 (t * 4 + x)) : rg_nx a1 a2 b10 b11 t x ≤ rg_nx a1 a2 a10 a11 t x := by
  unfold rg_nx
  rw [rg_le] at h1 h2
  simp only [rg_lt]
  (repeat' split) <;> omega
theorem rg_nxl {a1 a2 a10 a11 b10 b11 : Nat → Int32} {t x : Nat} (h1 : b10 (t * 4 + x) = a1 x) (h1' : a1 x < a10 (t * 4 + x)) (h2 : a11 (t * 4 + x) ≤ b11 (t * 4 + x)) : rg_nx a1 a2 b10 b11 t x < rg_nx a1 a2 a10 a11 t x := by
  unfold rg_nx
  rw [h1]
  rw [rg_le] at h2
  rw [rg_lt] at h1'
  simp only [rg_lt]
  (repeat' split) <;> omega
theorem rg_nxr {a1 a2 a10 a11 b10 b11 : Nat → Int32} {t x : Nat} (h1 : b11 (t * 4 + x) = a2 x) (h1' : a11 (t * 4 + x) < a2 x) (h2 : b10 (t * 4 + x) ≤ a10 (t * 4 + x)) : rg_nx a1 a2 b10 b11 t x < rg_nx a1 a2 a10 a11 t x := by
  unfold rg_nx
  rw [h1]
  rw [rg_le] at h2
  rw [rg_lt] at h1'
  simp only [rg_lt]
  (repeat' split) <;> omega
theorem rg_nle {a b : Int32} (h : ¬ a ≤ b) : b < a := Int32.not_le.mp h
theorem rg_ltle {a b : Int32} (h : a < b) : a ≤ b := by
  rw [rg_lt] at h
  rw [rg_le]
  omega
theorem rg_lelt {a b c : Int32} (h : a ≤ b) (h' : b < c) : a < c := by
  rw [rg_le] at h
  rw [rg_lt] at h' ⊢
  omega
theorem rg_ltlt {a b c : Int32} (h : a < b) (h' : b ≤ c) : a < c := by
  rw [rg_le] at h'
  rw [rg_lt] at h ⊢
  omega
/-- the new lower bound -/
theorem rg_lo (wd : Int32) {l b o : Int32} (h1 : l ≤ o) (h2 : l ≤ b) : (if b ≤ o then b else if wd = 0 then o else l) ≤ o ∧ l ≤ (if b ≤ o then b else if wd = 0 then o else l) ∧ (if b ≤ o then b else if wd = 0 then o else l) ≤ b := by
  by_cases g : b ≤ o
  · rw [if_pos g]; exact ⟨g, h2, Int32.le_refl _⟩
  · rw [if_neg g]
    by_cases w : wd = 0
    · rw [if_pos w]; exact ⟨Int32.le_refl _, h1, rg_ltle (rg_nle g)⟩
    · rw [if_neg w]; exact ⟨h1, Int32.le_refl _, h2⟩
theorem rg_hi (wd : Int32) {l b o : Int32} (h1 : o ≤ l) (h2 : b ≤ l) : o ≤ (if o ≤ b then b else if wd = 0 then o else l) ∧ (if o ≤ b then b else if wd = 0 then o else l) ≤ l ∧ b ≤ (if o ≤ b then b else if wd = 0 then o else l) := by
  by_cases g : o ≤ b
  · rw [if_pos g]; exact ⟨g, h2, Int32.le_refl _⟩
  · rw [if_neg g]
    by_cases w : wd = 0
    · rw [if_pos w]; exact ⟨Int32.le_refl _, h1, rg_ltle (rg_nle g)⟩
    · rw [if_neg w]; exact ⟨h1, Int32.le_refl _, h2⟩
theorem rg_Ls {t x : Nat} {wd c : Int32} {b10 b11 : Nat → Int32} (hl : a1 x ≤ a15 x) (hh : a16 x ≤ a2 x) (kl : a1 x ≤ a10 (t * 4 + x)) (kh : a11 (t * 4 + x) ≤ a2 x)
    (h : rg_L t x wd a1 a2 a10 a11 a15 a16 c b10 b11) :
    rg_L t (x + 1) wd a1 a2 a10 a11 a15 a16 (if a16 x ≤ b11 (t * 4 + x) then (if b10 (t * 4 + x) ≤ a15 x then c else 1) else 1)
      (upd b10 (t * 4 + x) (if b10 (t * 4 + x) ≤ a15 x then b10 (t * 4 + x) else if wd = 0 then a15 x else a1 x))
      (upd b11 (t * 4 + x) (if a16 x ≤ b11 (t * 4 + x) then b11 (t * 4 + x) else if wd = 0 then a16 x else a2 x)) := by
  obtain ⟨ho, hj, hc, hn⟩ := h
  have e10 := (ho (t * 4 + x) (Or.inr (Nat.le_refl _))).1
  have e11 := (ho (t * 4 + x) (Or.inr (Nat.le_refl _))).2
  rw [e10, e11]
  have L := rg_lo wd hl kl
  have H := rg_hi wd hh kh
  refine ⟨fun q hq => ?_, fun j hj' => ?_, fun z => ?_, fun z w => ?_⟩
  · rw [pk_un (by omega), pk_un (by omega)]
    exact ho q (by omega)
  · by_cases e : j = x
    · subst e
      rw [pk_us, pk_us]
      exact ⟨⟨L.1, H.1⟩, ⟨L.2.1, H.2.1⟩, L.2.2, H.2.2⟩
    · rw [pk_un (by omega), pk_un (by omega)]
      exact hj j (by omega)
  · by_cases g : a16 x ≤ a11 (t * 4 + x)
    · rw [if_pos g] at z ⊢
      by_cases g' : a10 (t * 4 + x) ≤ a15 x
      · rw [if_pos g'] at z ⊢
        rw [← e10, ← e11, rg_self, rg_self]
        exact hc z
      · rw [if_neg g'] at z
        exact absurd z (by decide)
    · rw [if_neg g] at z
      exact absurd z (by decide)
  · by_cases g : a16 x ≤ a11 (t * 4 + x)
    · by_cases g' : a10 (t * 4 + x) ≤ a15 x
      · rw [if_pos g, if_pos g'] at z
        obtain ⟨j, q1, q2⟩ := hn z w
        refine ⟨j, by omega, ?_⟩
        unfold rg_nx at q2 ⊢
        rw [pk_un (by omega), pk_un (by omega)]
        exact q2
      · refine ⟨x, by omega, rg_nxl ?_ ?_ ?_⟩
        · rw [pk_us, if_neg g', if_neg w]
        · exact rg_lelt hl (rg_nle g')
        · rw [pk_us]; exact H.2.2
    · refine ⟨x, by omega, rg_nxr ?_ ?_ ?_⟩
      · rw [pk_us, if_neg g, if_neg w]
      · exact rg_ltlt (rg_nle g) hh
      · rw [pk_us]; exact L.2.2
theorem rg_arr1 {t : Nat} {wd : Int32} (ht : t < 14) (h9 : a9 t ≠ 0) (hb : ∀ x, x < 4 → a1 x ≤ a15 x ∧ a16 x ≤ a2 x) (hk : ∀ x, x < 4 → a1 x ≤ a10 (t * 4 + x) ∧ a11 (t * 4 + x) ≤ a2 x) :
    ∃ b : Int32 × (Nat → Int32) × (Nat → Int32), rg_L t 4 wd a1 a2 a10 a11 a15 a16 b.1 b.2.1 b.2.2 ∧
    ∀ post : St1 → Prop, post (if b.1 = 0 then (sz, en, pl, ct, kn, mv, a1, a2, a3, a4, a5, a6, a7, a8, upd a9 t 1, b.2.1, b.2.2, a12, a13, a14, a15, a16) else (sz, en, pl, ct, kn, 1, a1, a2, a3, a4, a5, a6, a7, a8, upd a9 t 1, b.2.1, b.2.2, upd a12 t (a12 t + 1), a13, a14, a15, a16)) → ∃ n, wX_arrive_53 post (nI t) wd sz en pl ct kn mv n 0 0 a1 a2 a3 a4 a5 a6 a7 a8 a9 a10 a11 a12 a13 a14 a15 a16 := by
  refine rg_loop (fun (post : St1 → Prop) n (s : Nat × Int32 × (Nat → Int32) × (Nat → Int32)) => wX_arrive_53 post (nI t) wd sz en pl ct kn mv n s.2.1 (nI s.1) a1 a2 a3 a4 a5 a6 a7 a8 a9 s.2.2.1 s.2.2.2 a12 a13 a14 a15 a16) (fun (b : Int32 × (Nat → Int32) × (Nat → Int32)) => (if b.1 = 0 then (sz, en, pl, ct, kn, mv, a1, a2, a3, a4, a5, a6, a7, a8, upd a9 t 1, b.2.1, b.2.2, a12, a13, a14, a15, a16) else (sz, en, pl, ct, kn, 1, a1, a2, a3, a4, a5, a6, a7, a8, upd a9 t 1, b.2.1, b.2.2, upd a12 t (a12 t + 1), a13, a14, a15, a16)))
    (fun s => s.1 ≤ 4 ∧ rg_L t s.1 wd a1 a2 a10 a11 a15 a16 s.2.1 s.2.2.1 s.2.2.2) (fun b => rg_L t 4 wd a1 a2 a10 a11 a15 a16 b.1 b.2.1 b.2.2) (fun s => 4 - s.1) ?_ (0, 0, a10, a11)
    ⟨by show 0 ≤ 4; omega, fun q _ => ⟨rfl, rfl⟩, fun j h => absurd h (by show ¬ j < 0; omega), fun _ => ⟨rfl, rfl⟩, fun z => absurd rfl z⟩
  rintro ⟨x, c, b10, b11⟩ ⟨hx, h⟩
  dsimp only at hx h ⊢
  by_cases h4 : x = 4
  · subst h4
    refine Or.inl ⟨(c, b10, b11), h, fun n post hp => pk_le 4 4 (fun _ => ⟨pk_in t 15 (by omega), nm_r (by rw [nI_clamp (by omega)]) (br_c (fun z => ?_) (fun z => ⟨pk_in t 15 (by omega), pk_in t 15 (by omega), nm_r (by rw [nI_clamp (by omega)]) ?_⟩))⟩) (fun z => absurd z (by omega))⟩
    · dsimp only at hp
      rw [if_pos z] at hp
      exact hp
    · dsimp only at hp
      rw [if_neg z] at hp
      exact hp
  · have hx4 : x < 4 := by omega
    exact Or.inr ⟨(x + 1, _, _, _), ⟨by show x + 1 ≤ 4; omega, rg_Ls (hb x hx4).1 (hb x hx4).2 (hk x hx4).1 (hk x hx4).2 h⟩, by show 4 - (x + 1) < 4 - x; omega, fun n post hw => rg_53 ht hx4 h9 hw⟩
end
end
section
/-! arrive as a whole -/
section
variable {sz en pl ct kn mv : Int32} {a1 a2 a3 a4 a5 a6 a7 a8 a9 a10 a11 a12 a13 a14 a15 a16 : Nat → Int32}
theorem rg_sum_cg {f g : Nat → Nat} (n : Nat) (h : ∀ j, j < n → g j = f j) : rg_sum g n = rg_sum f n :=
  Nat.le_antisymm (rg_sum_le n (fun j hj => Nat.le_of_eq (h j hj))) (rg_sum_le n (fun j hj => Nat.le_of_eq (h j hj).symm))
theorem rg_mu_n {K : rg_K} {t : Nat} (h : K.2.1 t = 0) : rg_mu a1 a2 K t = 13 := if_pos h
theorem rg_mu_r {K : rg_K} {t : Nat} (h : K.2.1 t ≠ 0) : rg_mu a1 a2 K t = (5 - (K.2.2.2.2 t).toInt.toNat) + rg_sum (rg_nx a1 a2 K.2.2.1 K.2.2.2.1 t) 4 := if_neg h
theorem rg_mu_o {t j : Nat} {m m' : Int32} {b10 b11 : Nat → Int32} (ho : ∀ q, q < t * 4 ∨ t * 4 + 4 ≤ q → b10 q = a10 q ∧ b11 q = a11 q) (hj : j ≠ t) :
    rg_mu a1 a2 (m', upd a9 t 1, b10, b11, upd a12 t (a12 t + 1)) j = rg_mu a1 a2 (m, a9, a10, a11, a12) j := by
  by_cases h : a9 j = 0
  · rw [rg_mu_n (K := (m, a9, a10, a11, a12)) h, rg_mu_n (show upd a9 t 1 j = 0 by rw [pk_un hj]; exact h)]
  rw [rg_mu_r (K := (m, a9, a10, a11, a12)) h, rg_mu_r (show upd a9 t 1 j ≠ 0 by rw [pk_un hj]; exact h)]
  dsimp only
  rw [pk_un hj]
  rw [rg_sum_cg (f := rg_nx a1 a2 a10 a11 j) (g := rg_nx a1 a2 b10 b11 j) 4 (fun x hx => by
    unfold rg_nx
    rw [(ho (j * 4 + x) (by omega)).1, (ho (j * 4 + x) (by omega)).2])]
theorem rg_chg {s t : Nat} (hs : s ≤ 14) (ht : t < s) (hA : rg_A a1 a2 (mv, a9, a10, a11, a12)) {b10 b11 : Nat → Int32} (ho : ∀ q, q < t * 4 ∨ t * 4 + 4 ≤ q → b10 q = a10 q ∧ b11 q = a11 q)
    (hm : rg_mu a1 a2 (1, upd a9 t 1, b10, b11, upd a12 t (a12 t + 1)) t < rg_mu a1 a2 (mv, a9, a10, a11, a12) t)
    (hb : ∀ x, x < 4 → a1 x ≤ b10 (t * 4 + x) ∧ b10 (t * 4 + x) ≤ b11 (t * 4 + x) ∧ b11 (t * 4 + x) ≤ a2 x)
    (hmo : a9 t ≠ 0 → ∀ x, x < 4 → b10 (t * 4 + x) ≤ a10 (t * 4 + x) ∧ a11 (t * 4 + x) ≤ b11 (t * 4 + x)) :
    rg_Up s a1 a2 (mv, a9, a10, a11, a12) (1, upd a9 t 1, b10, b11, upd a12 t (a12 t + 1)) := by
  have mo : ∀ j, j ≠ t → rg_mu a1 a2 (1, upd a9 t 1, b10, b11, upd a12 t (a12 t + 1)) j = rg_mu a1 a2 (mv, a9, a10, a11, a12) j := fun j hj => rg_mu_o ho hj
  have mle : ∀ j, rg_mu a1 a2 (1, upd a9 t 1, b10, b11, upd a12 t (a12 t + 1)) j ≤ rg_mu a1 a2 (mv, a9, a10, a11, a12) j := by
    intro j
    by_cases e : j = t
    · rw [e]; exact Nat.le_of_lt hm
    · rw [mo j e]; exact Nat.le_refl _
  refine ⟨fun j hj => ?_, fun j hj hr => ?_, Or.inr ⟨rfl, rg_sum_lt s (fun j _ => mle j) ht hm⟩⟩
  · by_cases e : j = t
    · subst e
      obtain ⟨q1, q2, q3, q4⟩ := hA j hj
      dsimp only at q2 q3 ⊢
      rw [pk_us, pk_us]
      have e1 : (a12 j + 1).toInt = (a12 j).toInt + 1 := by
        rw [rg_ad (by rw [rg_t1]; omega) (by rw [rg_t1]; omega), rg_t1]
      rw [e1]
      exact ⟨Or.inr rfl, by omega, by omega, fun _ => hb⟩
    · obtain ⟨q1, q2, q3, q4⟩ := hA j hj
      rw [mo j e]
      dsimp only at q1 q2 q3 q4 ⊢
      rw [pk_un e, pk_un e]
      refine ⟨q1, q2, q3, fun hr x hx => ?_⟩
      rw [(ho (j * 4 + x) (by omega)).1, (ho (j * 4 + x) (by omega)).2]
      exact q4 hr x hx
  · dsimp only at hr ⊢
    by_cases e : j = t
    · subst e
      rw [pk_us]
      exact ⟨by decide, hmo hr⟩
    · rw [pk_un e]
      refine ⟨hr, fun x hx => ?_⟩
      rw [(ho (j * 4 + x) (by omega)).1, (ho (j * 4 + x) (by omega)).2]
      exact ⟨Int32.le_refl _, Int32.le_refl _⟩
theorem rg_w1 {w : Int32} (h0 : 0 ≤ w.toInt) (h1 : w.toInt ≤ 13) : (w + 1).toInt = w.toInt + 1 := by
  rw [rg_ad (by rw [rg_t1]; omega) (by rw [rg_t1]; omega), rg_t1]
theorem rg_arrW {post : St1 → Prop} {s t : Nat} {wd : Int32} (hs : s ≤ 14) (hts : t < s) (hpos : ∀ x, x < 4 → a15 x ≤ a16 x) (hwd : wd = if a12 t ≤ 4 then 0 else 1)
    (h : wX_arrive_33 post (nI t) wd (nI s) en pl ct kn mv a1 a2 a3 a4 a5 a6 a7 a8 a9 a10 a11 a12 a13 a14 a15 a16) : wpX_arrive post (nI s, en, pl, ct, kn, mv, a1, a2, a3, a4, a5, a6, a7, a8, a9, a10, a11, a12, a13, a14, a15, a16) (nI t) := by
  obtain ⟨r, hr, hp⟩ := @rg_possible (nI s) en pl ct kn mv a1 a2 a3 a4 a5 a6 a7 a8 a9 a10 a11 a12 a13 a14 a15 a16
  have h2 : ¬ r = 0 := fun z => hr.mp z hpos
  unfold wpX_arrive
  refine hp _ (pk_le s t (fun z => absurd z (by omega)) (fun _ => br_f h2 ⟨pk_in t 15 (by omega), ?_⟩))
  rw [nI_clamp (show t < 2 ^ 31 by omega)]
  refine br_c (fun g => ?_) (fun g => ?_)
  · rw [if_pos g] at hwd
    rw [hwd] at h
    exact h
  · rw [if_neg g] at hwd
    rw [hwd] at h
    exact h
theorem rg_33a {post : St1 → Prop} {t : Nat} {wd : Int32} (ht : t < 14) (h9 : a9 t = 0) (h : ∃ n, wX_arrive_53 post (nI t) wd sz en pl ct kn mv n 1 0 a1 a2 a3 a4 a5 a6 a7 a8 a9 a10 a11 a12 a13 a14 a15 a16) : wX_arrive_33 post (nI t) wd sz en pl ct kn mv a1 a2 a3 a4 a5 a6 a7 a8 a9 a10 a11 a12 a13 a14 a15 a16 := by
  unfold wX_arrive_33
  exact ⟨pk_in t 15 (by omega), br_t (by rw [nI_clamp (by omega)]; exact h9) h⟩
theorem rg_33b {post : St1 → Prop} {t : Nat} {wd : Int32} (ht : t < 14) (h9 : ¬ a9 t = 0) (h : ∃ n, wX_arrive_53 post (nI t) wd sz en pl ct kn mv n 0 0 a1 a2 a3 a4 a5 a6 a7 a8 a9 a10 a11 a12 a13 a14 a15 a16) : wX_arrive_33 post (nI t) wd sz en pl ct kn mv a1 a2 a3 a4 a5 a6 a7 a8 a9 a10 a11 a12 a13 a14 a15 a16 := by
  unfold wX_arrive_33
  exact ⟨pk_in t 15 (by omega), br_f (by rw [nI_clamp (by omega)]; exact h9) h⟩
theorem rg_arrive {s t : Nat} (hs : s ≤ 14) (ht : t ≤ 14) (hA : rg_A a1 a2 (mv, a9, a10, a11, a12)) (hb : ∀ x, x < 4 → a1 x ≤ a15 x ∧ a16 x ≤ a2 x) :
    ∃ K : rg_K, rg_Up s a1 a2 (mv, a9, a10, a11, a12) K ∧ (∀ v, rg_box a15 a16 v → rg_in s K.2.1 K.2.2.1 K.2.2.2.1 t v) ∧ ∀ post : St1 → Prop, post (nI s, en, pl, ct, kn, K.1, a1, a2, a3, a4, a5, a6, a7, a8, K.2.1, K.2.2.1, K.2.2.2.1, K.2.2.2.2, a13, a14, a15, a16) → wpX_arrive post (nI s, en, pl, ct, kn, mv, a1, a2, a3, a4, a5, a6, a7, a8, a9, a10, a11, a12, a13, a14, a15, a16) (nI t) := by
  obtain ⟨r, hr, hp⟩ := @rg_possible (nI s) en pl ct kn mv a1 a2 a3 a4 a5 a6 a7 a8 a9 a10 a11 a12 a13 a14 a15 a16
  by_cases h1 : s ≤ t
  · refine ⟨(mv, a9, a10, a11, a12), rg_Up_refl hA, fun v _ hts => absurd hts (by omega), fun post hpost => ?_⟩
    unfold wpX_arrive
    exact hp _ (pk_le s t (fun _ => hpost) (fun z => absurd z (by omega)))
  have hts : t < s := by omega
  by_cases h2 : r = 0
  · refine ⟨(mv, a9, a10, a11, a12), rg_Up_refl hA, fun v hv _ => absurd (fun x hx => Int32.le_trans (hv x hx).1 (hv x hx).2) (hr.mp h2), fun post hpost => ?_⟩
    unfold wpX_arrive
    exact hp _ (pk_le s t (fun z => absurd z (by omega)) (fun _ => br_t h2 hpost))
  have hpos : ∀ x, x < 4 → a15 x ≤ a16 x := Classical.byContradiction (fun z => h2 (hr.mpr z))
  have ht14 : t < 14 := by omega
  obtain ⟨q1, q2, q3, q4⟩ := hA t ht14
  dsimp only at q1 q2 q3 q4
  have hw1 := rg_w1 q2 (by omega)
  by_cases h9 : a9 t = 0
  · obtain ⟨⟨b10, b11⟩, ⟨hv, ho⟩, hw⟩ := @rg_arr0 (nI s) en pl ct kn mv a1 a2 a3 a4 a5 a6 a7 a8 a9 a10 a11 a12 a13 a14 a15 a16 t (if a12 t ≤ 4 then 0 else 1) ht14 h9
    dsimp only at hv ho hw
    refine ⟨(1, upd a9 t 1, b10, b11, upd a12 t (a12 t + 1)), rg_chg hs hts hA ho ?_ ?_ (fun z => absurd h9 z), ?_, fun post hpost => rg_arrW hs hts hpos rfl (rg_33a ht14 h9 (hw post hpost))⟩
    · have e1 : rg_mu a1 a2 (mv, a9, a10, a11, a12) t = 13 := if_pos h9
      rw [e1, rg_mu_r (show upd a9 t 1 t ≠ 0 by rw [pk_us]; decide)]
      dsimp only
      rw [pk_us, hw1]
      have := rg_sum_c (f := rg_nx a1 a2 b10 b11 t) (c := 2) 4 (fun j _ => rg_nx2 _ _ _ _ _ _)
      omega
    · intro x hx
      rw [(hv x hx).1, (hv x hx).2]
      exact ⟨(hb x hx).1, hpos x hx, (hb x hx).2⟩
    · intro v hbv _
      dsimp only
      rw [pk_us]
      refine ⟨by decide, fun x hx => ?_⟩
      rw [(hv x hx).1, (hv x hx).2]
      exact hbv x hx
  · obtain ⟨⟨c, b10, b11⟩, hL, hw⟩ := @rg_arr1 (nI s) en pl ct kn mv a1 a2 a3 a4 a5 a6 a7 a8 a9 a10 a11 a12 a13 a14 a15 a16 t (if a12 t ≤ 4 then 0 else 1) ht14 h9 hb (fun x hx => ⟨(q4 h9 x hx).1, (q4 h9 x hx).2.2⟩)
    dsimp only at hL hw
    obtain ⟨ho, hj, hc, hn⟩ := hL
    by_cases h0 : c = 0
    · obtain ⟨e10, e11⟩ := hc h0
      have e9 : upd a9 t 1 = a9 := by
        rcases q1 with z | z
        · exact absurd z h9
        · rw [← z]; exact rg_self a9 t
      refine ⟨(mv, a9, a10, a11, a12), rg_Up_refl hA, ?_, fun post hpost => rg_arrW hs hts hpos rfl (rg_33b ht14 h9 (hw post ?_))⟩
      · intro v hbv _
        refine ⟨h9, fun x hx => ?_⟩
        obtain ⟨g, _⟩ := hj x hx
        rw [e10, e11] at g
        exact ⟨Int32.le_trans g.1 (hbv x hx).1, Int32.le_trans (hbv x hx).2 g.2⟩
      · rw [if_pos h0, e9, e10, e11]
        exact hpost
    · refine ⟨(1, upd a9 t 1, b10, b11, upd a12 t (a12 t + 1)), rg_chg hs hts hA ho ?_ ?_ (fun _ x hx => (hj x hx).2.2), ?_, fun post hpost => rg_arrW hs hts hpos rfl (rg_33b ht14 h9 (hw post ?_))⟩
      · rw [rg_mu_r (K := (mv, a9, a10, a11, a12)) h9, rg_mu_r (show upd a9 t 1 t ≠ 0 by rw [pk_us]; decide)]
        dsimp only
        rw [pk_us, hw1]
        by_cases g : a12 t ≤ 4
        · have g' := g
          rw [rg_le, rg_t4] at g'
          have := rg_sum_le (f := rg_nx a1 a2 a10 a11 t) (g := rg_nx a1 a2 b10 b11 t) 4 (fun x hx => rg_nxle (hj x hx).2.2.1 (hj x hx).2.2.2)
          omega
        · obtain ⟨x, hx, hl⟩ := hn h0 (by rw [if_neg g]; decide)
          have := rg_sum_lt (f := rg_nx a1 a2 a10 a11 t) (g := rg_nx a1 a2 b10 b11 t) 4 (fun x hx => rg_nxle (hj x hx).2.2.1 (hj x hx).2.2.2) hx hl
          omega
      · intro x hx
        obtain ⟨g, g2, g3⟩ := hj x hx
        exact ⟨g2.1, Int32.le_trans g.1 (Int32.le_trans (hpos x hx) g.2), g2.2⟩
      · intro v hbv _
        dsimp only
        rw [pk_us]
        refine ⟨by decide, fun x hx => ?_⟩
        obtain ⟨g, _⟩ := hj x hx
        exact ⟨Int32.le_trans g.1 (hbv x hx).1, Int32.le_trans (hbv x hx).2 g.2⟩
      · rw [if_neg h0]
        exact hpost
end
end
section
/-! get, use, followMask -/
section
variable {sz en pl ct kn mv : Int32} {a1 a2 a3 a4 a5 a6 a7 a8 a9 a10 a11 a12 a13 a14 a15 a16 : Nat → Int32}
theorem rg_g57 {post : St1 → Prop} {x : Nat} {to z : Int32} (hx : x < 4) (h : post (sz, en, pl, ct, kn, mv, a1, a2, a3, a4, a5, a6, a7, a8, a9, a10, a11, a12, a13, a14, upd a15 x z, upd a16 x (if a2 x ≤ to then a2 x else to))) : wX_get_57 post (nI x) to z (nI x) sz en pl ct kn mv a1 a2 a3 a4 a5 a6 a7 a8 a9 a10 a11 a12 a13 a14 a15 a16 := by
  unfold wX_get_57
  rw [nI_clamp (show x < 2 ^ 31 by omega)]
  refine ⟨pk_in x 4 hx, nm_e ⟨pk_in x 4 hx, br_c (fun g => ?_) (fun g => ?_)⟩⟩
  · rw [if_pos g] at h
    exact ⟨pk_in x 4 hx, pk_in x 4 hx, nm_e h⟩
  · rw [if_neg g] at h
    exact ⟨pk_in x 4 hx, nm_e h⟩
theorem rg_g31 {post : St1 → Prop} {i x : Nat} {fr to z : Int32} (hi : i < 14) (hx : x < 4) (h : post (sz, en, pl, ct, kn, mv, a1, a2, a3, a4, a5, a6, a7, a8, a9, a10, a11, a12, upd a13 i (vp_nar .boolean z), a14, upd a15 x (if fr ≤ a1 x then a1 x else fr), upd a16 x (if a2 x ≤ to then a2 x else to))) : wX_get_31 post (nI x) fr to z (nI i) sz en pl ct kn mv a1 a2 a3 a4 a5 a6 a7 a8 a9 a10 a11 a12 a13 a14 a15 a16 := by
  unfold wX_get_31
  rw [nI_clamp (show x < 2 ^ 31 by omega), nI_clamp (show i < 2 ^ 31 by omega)]
  refine ⟨pk_in i 14 hi, nm_e ⟨pk_in x 4 hx, br_c (fun g => ?_) (fun g => ?_)⟩⟩
  · rw [if_pos g] at h
    exact ⟨pk_in x 4 hx, rg_g57 hx h⟩
  · rw [if_neg g] at h
    exact rg_g57 hx h
theorem rg_get {i x : Nat} (hi : i < 14) (hx : x < 4) (fr to : Int32) : ∃ f : Int32, (f ≠ 0 → a1 x ≤ fr ∧ to ≤ a2 x) ∧ ∀ post : St1 → Prop, post (sz, en, pl, ct, kn, mv, a1, a2, a3, a4, a5, a6, a7, a8, a9, a10, a11, a12, upd a13 i f, a14, upd a15 x (if fr ≤ a1 x then a1 x else fr), upd a16 x (if a2 x ≤ to then a2 x else to)) → wpX_get post (sz, en, pl, ct, kn, mv, a1, a2, a3, a4, a5, a6, a7, a8, a9, a10, a11, a12, a13, a14, a15, a16) (nI i) (nI x) fr to := by
  by_cases c1 : fr < a1 x
  · refine ⟨vp_nar .boolean 0, fun z => absurd rfl z, fun post h => ?_⟩
    unfold wpX_get
    dsimp only
    rw [nI_clamp (show x < 2 ^ 31 by omega)]
    exact ⟨pk_in x 4 hx, br_t c1 (rg_g31 hi hx h)⟩
  by_cases c2 : a2 x < to
  · refine ⟨vp_nar .boolean 0, fun z => absurd rfl z, fun post h => ?_⟩
    unfold wpX_get
    dsimp only
    rw [nI_clamp (show x < 2 ^ 31 by omega)]
    exact ⟨pk_in x 4 hx, br_f c1 ⟨pk_in x 4 hx, br_t c2 (rg_g31 hi hx h)⟩⟩
  · refine ⟨vp_nar .boolean 1, fun _ => ⟨Int32.not_lt.mp c1, Int32.not_lt.mp c2⟩, fun post h => ?_⟩
    unfold wpX_get
    dsimp only
    rw [nI_clamp (show x < 2 ^ 31 by omega)]
    exact ⟨pk_in x 4 hx, br_f c1 ⟨pk_in x 4 hx, br_f c2 (rg_g31 hi hx h)⟩⟩
theorem rg_u62 {post : St1 → Prop} {y : Nat} {k z : Int32} (hy : y < 4) (h : post (sz, en, pl, ct, kn, mv, a1, a2, a3, a4, a5, a6, a7, a8, a9, a10, a11, a12, a13, a14, upd a15 y z, upd a16 y (if a16 y ≤ 7 - k then a16 y else 7 - k))) : wX_use_62 post (nI y) k z (nI y) sz en pl ct kn mv a1 a2 a3 a4 a5 a6 a7 a8 a9 a10 a11 a12 a13 a14 a15 a16 := by
  unfold wX_use_62
  rw [nI_clamp (show y < 2 ^ 31 by omega)]
  refine ⟨pk_in y 4 hy, nm_e ⟨pk_in y 4 hy, br_c (fun g => ?_) (fun g => ?_)⟩⟩
  · rw [if_pos g] at h
    exact ⟨pk_in y 4 hy, pk_in y 4 hy, nm_e h⟩
  · rw [if_neg g] at h
    exact ⟨pk_in y 4 hy, nm_e h⟩
theorem rg_u34 {post : St1 → Prop} {i y : Nat} {k z : Int32} (hi : i < 14) (hy : y < 4) (h : post (sz, en, pl, ct, kn, mv, a1, a2, a3, a4, a5, a6, a7, a8, a9, a10, a11, a12, a13, upd a14 i (vp_nar .boolean z), upd a15 y (if -k ≤ a15 y then a15 y else -k), upd a16 y (if a16 y ≤ 7 - k then a16 y else 7 - k))) : wX_use_34 post (nI y) k z (nI i) sz en pl ct kn mv a1 a2 a3 a4 a5 a6 a7 a8 a9 a10 a11 a12 a13 a14 a15 a16 := by
  unfold wX_use_34
  rw [nI_clamp (show y < 2 ^ 31 by omega), nI_clamp (show i < 2 ^ 31 by omega)]
  refine ⟨pk_in i 14 hi, nm_e ⟨pk_in y 4 hy, br_c (fun g => ?_) (fun g => ?_)⟩⟩
  · rw [if_pos g] at h
    exact ⟨pk_in y 4 hy, rg_u62 hy h⟩
  · rw [if_neg g] at h
    exact rg_u62 hy h
theorem rg_use {i y : Nat} (hi : i < 14) (hy : y < 4) (k : Int32) : ∃ f : Int32, (f ≠ 0 → ¬ a15 y + k < 0 ∧ ¬ 7 < a16 y + k) ∧ ∀ post : St1 → Prop, post (sz, en, pl, ct, kn, mv, a1, a2, a3, a4, a5, a6, a7, a8, a9, a10, a11, a12, a13, upd a14 i f, upd a15 y (if -k ≤ a15 y then a15 y else -k), upd a16 y (if a16 y ≤ 7 - k then a16 y else 7 - k)) → wpX_use post (sz, en, pl, ct, kn, mv, a1, a2, a3, a4, a5, a6, a7, a8, a9, a10, a11, a12, a13, a14, a15, a16) (nI i) (nI y) k := by
  by_cases c1 : a15 y + k < 0
  · refine ⟨vp_nar .boolean 0, fun z => absurd rfl z, fun post h => ?_⟩
    unfold wpX_use
    dsimp only
    rw [nI_clamp (show y < 2 ^ 31 by omega)]
    exact ⟨pk_in y 4 hy, br_t c1 (rg_u34 hi hy h)⟩
  by_cases c2 : 7 < a16 y + k
  · refine ⟨vp_nar .boolean 0, fun z => absurd rfl z, fun post h => ?_⟩
    unfold wpX_use
    dsimp only
    rw [nI_clamp (show y < 2 ^ 31 by omega)]
    exact ⟨pk_in y 4 hy, br_f c1 ⟨pk_in y 4 hy, br_t c2 (rg_u34 hi hy h)⟩⟩
  · refine ⟨vp_nar .boolean 1, fun _ => ⟨c1, c2⟩, fun post h => ?_⟩
    unfold wpX_use
    dsimp only
    rw [nI_clamp (show y < 2 ^ 31 by omega)]
    exact ⟨pk_in y 4 hy, br_f c1 ⟨pk_in y 4 hy, br_f c2 (rg_u34 hi hy h)⟩⟩
theorem rg_anti {a b : Int32} (h : a ≤ b) (h' : b ≤ a) : a = b := by
  rw [rg_le] at h h'
  rw [rg_eq]
  omega
theorem rg_mask {i x y k : Nat} (hi : i < 14) (hx : x < 4) (hy : y < 4) (hk : k ≤ 100) : ∃ fr to : Int32, (∀ v : Int32, a15 y ≤ v → v ≤ a16 y → fr ≤ v &&& nI k ∧ v &&& nI k ≤ to) ∧ ∀ post : St1 → Prop, wpX_get post (sz, en, pl, ct, kn, mv, a1, a2, a3, a4, a5, a6, a7, a8, a9, a10, a11, a12, a13, a14, a15, a16) (nI i) (nI x) fr to → wpX_followMask post (sz, en, pl, ct, kn, mv, a1, a2, a3, a4, a5, a6, a7, a8, a9, a10, a11, a12, a13, a14, a15, a16) (nI i) (nI x) (nI y) (nI k) := by
  by_cases c0 : a15 y = a16 y
  · refine ⟨a15 y &&& nI k, a15 y &&& nI k, fun v h1 h2 => ?_, fun post h => ?_⟩
    · rw [← c0] at h2
      rw [rg_anti h1 h2]
      exact ⟨Int32.le_refl _, Int32.le_refl _⟩
    · unfold wpX_followMask
      dsimp only
      rw [nI_clamp (show y < 2 ^ 31 by omega)]
      exact ⟨pk_in y 4 hy, pk_in y 4 hy, br_t c0 ⟨pk_in y 4 hy, nm_e h⟩⟩
  by_cases c1 : a15 y < 0
  · refine ⟨0, nI k, fun v h1 h2 => ?_, fun post h => ?_⟩
    · obtain ⟨m, m1, m2, m3⟩ := rg_and v (k := k) (by omega)
      rw [m2]
      exact ⟨nI_pos' (by omega), nI_le m1 (by omega)⟩
    · unfold wpX_followMask
      dsimp only
      rw [nI_clamp (show y < 2 ^ 31 by omega)]
      exact ⟨pk_in y 4 hy, pk_in y 4 hy, br_f c0 ⟨pk_in y 4 hy, br_t c1 (br_t rfl h)⟩⟩
  by_cases c2 : nI k ≤ a16 y
  · refine ⟨0, nI k, fun v h1 h2 => ?_, fun post h => ?_⟩
    · obtain ⟨m, m1, m2, m3⟩ := rg_and v (k := k) (by omega)
      rw [m2]
      exact ⟨nI_pos' (by omega), nI_le m1 (by omega)⟩
    · unfold wpX_followMask
      dsimp only
      rw [nI_clamp (show y < 2 ^ 31 by omega)]
      exact ⟨pk_in y 4 hy, pk_in y 4 hy, br_f c0 ⟨pk_in y 4 hy, br_f c1 ⟨pk_in y 4 hy, br_t c2 (br_t rfl h)⟩⟩⟩
  · refine ⟨0, a16 y, fun v h1 h2 => ?_, fun post h => ?_⟩
    · obtain ⟨m, m1, m2, m3⟩ := rg_and v (k := k) (by omega)
      rw [m2]
      refine ⟨nI_pos' (by omega), ?_⟩
      rw [rg_le] at h1 h2 ⊢
      rw [rg_lt, rg_t0] at c1
      rw [nI_toInt (by omega)]
      have := m3 (by omega)
      omega
    · unfold wpX_followMask
      dsimp only
      rw [nI_clamp (show y < 2 ^ 31 by omega)]
      refine ⟨pk_in y 4 hy, pk_in y 4 hy, br_f c0 ⟨pk_in y 4 hy, br_f c1 ⟨pk_in y 4 hy, br_f c2 (br_f (by decide) ⟨pk_in y 4 hy, ?_⟩)⟩⟩⟩
      rw [nI_clamp (show y < 2 ^ 31 by omega)]
      exact h
/-! what they do to boxes -/
theorem rg_giv_get {s i x : Nat} {b13 l h v : Nat → Int32} {fr to w : Int32} (hbox : rg_box l h v) (hw1 : fr ≤ w) (hw2 : w ≤ to) (hf : b13 i ≠ 0 → a1 x ≤ fr ∧ to ≤ a2 x)
    (hin : ∀ v, rg_box (upd l x (if fr ≤ a1 x then a1 x else fr)) (upd h x (if a2 x ≤ to then a2 x else to)) v → rg_in s a9 a10 a11 (i + 1) v) : rg_giv s a1 a2 a9 a10 a11 b13 i v x w := by
  refine ⟨fun z => ⟨Int32.le_trans (hf z).1 hw1, Int32.le_trans hw2 (hf z).2⟩, fun g1 g2 => hin _ (fun j hj => ?_)⟩
  by_cases e : j = x
  · subst e
    rw [pk_us, pk_us, pk_us]
    constructor
    · split
      · exact g1
      · exact hw1
    · split
      · exact g2
      · exact hw2
  · rw [pk_un e, pk_un e, pk_un e]
    exact hbox j hj
theorem rg_get_b {x : Nat} {l h : Nat → Int32} {fr to : Int32} (hb : ∀ j, j < 4 → a1 j ≤ l j ∧ h j ≤ a2 j) : ∀ j, j < 4 → a1 j ≤ upd l x (if fr ≤ a1 x then a1 x else fr) j ∧ upd h x (if a2 x ≤ to then a2 x else to) j ≤ a2 j := by
  intro j hj
  by_cases e : j = x
  · subst e
    rw [pk_us, pk_us]
    constructor
    · split
      · exact Int32.le_refl _
      · exact rg_ltle (rg_nle ‹_›)
    · split
      · exact Int32.le_refl _
      · exact rg_ltle (rg_nle ‹_›)
  · rw [pk_un e, pk_un e]
    exact hb j hj
theorem rg_use_b {y : Nat} {l h : Nat → Int32} {k : Int32} (hb : ∀ j, j < 4 → a1 j ≤ l j ∧ h j ≤ a2 j) : ∀ j, j < 4 → a1 j ≤ upd l y (if -k ≤ l y then l y else -k) j ∧ upd h y (if h y ≤ 7 - k then h y else 7 - k) j ≤ a2 j := by
  intro j hj
  by_cases e : j = y
  · subst e
    rw [pk_us, pk_us]
    constructor
    · split
      · exact (hb j hj).1
      · exact Int32.le_trans (hb j hj).1 (rg_ltle (rg_nle ‹_›))
    · split
      · exact (hb j hj).2
      · exact Int32.le_trans (rg_ltle (rg_nle ‹_›)) (hb j hj).2
  · rw [pk_un e, pk_un e]
    exact hb j hj
theorem rg_use_v {y : Nat} {l h v : Nat → Int32} {k : Int32} (hk1 : -100 ≤ k.toInt) (hk2 : k.toInt ≤ 100) (hv1 : -100 ≤ (v y).toInt) (hv2 : (v y).toInt ≤ 100) (hbox : rg_box l h v) (g1 : ¬ v y + k < 0) (g2 : v y + k ≤ 7) :
    rg_box (upd l y (if -k ≤ l y then l y else -k)) (upd h y (if h y ≤ 7 - k then h y else 7 - k)) v := by
  intro j hj
  by_cases e : j = y
  · subst e
    rw [pk_us, pk_us]
    rw [rg_lt, rg_t0, rg_ad (by omega) (by omega)] at g1
    rw [rg_le, rg_t7, rg_ad (by omega) (by omega)] at g2
    constructor
    · split
      · exact (hbox j hj).1
      · rw [rg_le, rg_ng (by omega) (by omega)]; omega
    · split
      · exact (hbox j hj).2
      · rw [rg_le, rg_sb (by rw [rg_t7]; omega) (by rw [rg_t7]; omega), rg_t7]; omega
  · rw [pk_un e, pk_un e]
    exact hbox j hj
theorem rg_use_in {l h v k : Int32} (hk1 : -100 ≤ k.toInt) (hk2 : k.toInt ≤ 100) (hl : -100 ≤ l.toInt) (hh : h.toInt ≤ 100) (b1 : l ≤ v) (b2 : v ≤ h) (g1 : ¬ l + k < 0) (g2 : ¬ 7 < h + k) : ¬ v + k < 0 ∧ v + k ≤ 7 := by
  rw [rg_le] at b1 b2
  rw [rg_lt, rg_t0, rg_ad (by omega) (by omega)] at g1
  rw [rg_lt, rg_t7, rg_ad (by omega) (by omega)] at g2
  rw [rg_lt, rg_t0, rg_ad (by omega) (by omega), rg_le, rg_t7, rg_ad (by omega) (by omega)]
  omega
end
end
section
/-! followLess -/
section
variable {sz en pl ct kn mv : Int32} {a1 a2 a3 a4 a5 a6 a7 a8 a9 a10 a11 a12 a13 a14 a15 a16 : Nat → Int32}
theorem rg_168 {s i : Nat} (hs : s ≤ 14) (hi : i < s) (hA : rg_A a1 a2 (mv, a9, a10, a11, a12)) (hb : ∀ x, x < 4 → a1 x ≤ a15 x ∧ a16 x ≤ a2 x) :
    ∃ K : rg_K, rg_Up s a1 a2 (mv, a9, a10, a11, a12) K ∧ (∀ v, rg_box a15 a16 v → rg_in s K.2.1 K.2.2.1 K.2.2.2.1 (i + 1) v) ∧ ∀ post : St1 → Prop, post (nI s, en, pl, ct, kn, K.1, a1, a2, a3, a4, a5, a6, a7, a8, K.2.1, K.2.2.1, K.2.2.2.1, K.2.2.2.2, a13, a14, a15, a16) → wX_followLess_168 post (nI i) (nI s) en pl ct kn mv a1 a2 a3 a4 a5 a6 a7 a8 a9 a10 a11 a12 a13 a14 a15 a16 := by
  obtain ⟨K, h1, h2, h3⟩ := @rg_arrive en pl ct kn mv a1 a2 a3 a4 a5 a6 a7 a8 a9 a10 a11 a12 a13 a14 a15 a16 s (i + 1) hs (by omega) hA hb
  refine ⟨K, h1, h2, fun post hp => ?_⟩
  unfold wX_followLess_168
  rw [nI_1]
  exact h3 _ hp
theorem rg_213 {s i : Nat} (hs : s ≤ 14) (hi : i < s) (hA : rg_A a1 a2 (mv, a9, a10, a11, a12)) (hb : ∀ x, x < 4 → a1 x ≤ a15 x ∧ a16 x ≤ a2 x) :
    ∃ K : rg_K, rg_Up s a1 a2 (mv, a9, a10, a11, a12) K ∧ (∀ v, rg_box a15 a16 v → rg_in s K.2.1 K.2.2.1 K.2.2.2.1 (i + 1) v) ∧ ∀ post : St1 → Prop, post (nI s, en, pl, ct, kn, K.1, a1, a2, a3, a4, a5, a6, a7, a8, K.2.1, K.2.2.1, K.2.2.2.1, K.2.2.2.2, a13, a14, a15, a16) → wX_followOne_213 post (nI i) (nI s) en pl ct kn mv a1 a2 a3 a4 a5 a6 a7 a8 a9 a10 a11 a12 a13 a14 a15 a16 := by
  obtain ⟨K, h1, h2, h3⟩ := @rg_arrive en pl ct kn mv a1 a2 a3 a4 a5 a6 a7 a8 a9 a10 a11 a12 a13 a14 a15 a16 s (i + 1) hs (by omega) hA hb
  refine ⟨K, h1, h2, fun post hp => ?_⟩
  unfold wX_followOne_213
  rw [nI_1]
  exact h3 _ hp
theorem rg_131 {post : St1 → Prop} {i x y : Nat} {z : Int32} (hx : x < 4) (hy : y < 4) (h : wX_followLess_168 post (nI i) sz en pl ct kn mv a1 a2 a3 a4 a5 a6 a7 a8 a9 a10 a11 a12 a13 a14 (upd a15 x z) (upd a16 y (if a16 x ≤ a16 y then a16 x else a16 y))) : wX_followLess_131 post (nI i) (nI x) (nI y) z (nI x) sz en pl ct kn mv a1 a2 a3 a4 a5 a6 a7 a8 a9 a10 a11 a12 a13 a14 a15 a16 := by
  unfold wX_followLess_131
  rw [nI_clamp (show x < 2 ^ 31 by omega), nI_clamp (show y < 2 ^ 31 by omega)]
  refine ⟨pk_in x 4 hx, nm_e ⟨pk_in y 4 hy, pk_in x 4 hx, br_c (fun g => ⟨pk_in x 4 hx, ?_⟩) (fun g => ⟨pk_in y 4 hy, ?_⟩)⟩⟩
  · rw [if_pos g] at h
    unfold wX_followLess_167
    rw [nI_clamp (show y < 2 ^ 31 by omega)]
    exact ⟨pk_in y 4 hy, nm_e h⟩
  · rw [if_neg g] at h
    unfold wX_followLess_167
    rw [nI_clamp (show y < 2 ^ 31 by omega)]
    exact ⟨pk_in y 4 hy, nm_e h⟩
/-- the lower bound of y, when x is below y -/
theorem rg_lt1 {s : Nat} {x y : Nat} {v : Nat → Int32} (hx : x < 4) (hy : y < 4) (hne : x ≠ y) (h1 : -100 ≤ (a15 x).toInt) (h2 : (a16 y).toInt ≤ 100) (hv : rg_box a15 a16 v) (hlt : ¬ v y ≤ v x) :
    rg_box (upd a15 y (if a15 y ≤ a15 x + 1 then a15 x + 1 else a15 y)) (upd a16 x (if a16 y - 1 ≤ a16 x then a16 y - 1 else a16 x)) v := by
  have b1 := hv x hx
  have b2 := hv y hy
  rw [rg_le, rg_le] at b1 b2
  rw [rg_le] at hlt
  intro j hj
  have b := hv j hj
  constructor
  · by_cases e : j = y
    · subst e
      rw [pk_us]
      split
      · rw [rg_le, rg_ad (by rw [rg_t1]; omega) (by rw [rg_t1]; omega), rg_t1]
        omega
      · exact b.1
    · rw [pk_un e]
      exact b.1
  · by_cases e : j = x
    · subst e
      rw [pk_us]
      split
      · rw [rg_le, rg_sb (by rw [rg_t1]; omega) (by rw [rg_t1]; omega), rg_t1]
        omega
      · exact b.2
    · rw [pk_un e]
      exact b.2
theorem rg_lt1b {x y : Nat} (hx : x < 4) (hy : y < 4) (hb : ∀ x, x < 4 → a1 x ≤ a15 x ∧ a16 x ≤ a2 x) : ∀ j, j < 4 → a1 j ≤ upd a15 y (if a15 y ≤ a15 x + 1 then a15 x + 1 else a15 y) j ∧ upd a16 x (if a16 y - 1 ≤ a16 x then a16 y - 1 else a16 x) j ≤ a2 j := by
  intro j hj
  have b := hb j hj
  constructor
  · by_cases e : j = y
    · subst e
      rw [pk_us]
      split
      · exact Int32.le_trans b.1 ‹_›
      · exact b.1
    · rw [pk_un e]
      exact b.1
  · by_cases e : j = x
    · subst e
      rw [pk_us]
      split
      · exact Int32.le_trans ‹_› b.2
      · exact b.2
    · rw [pk_un e]
      exact b.2
theorem rg_ge1 {x y : Nat} {v : Nat → Int32} (hx : x < 4) (hy : y < 4) (hv : rg_box a15 a16 v) (hle : v y ≤ v x) :
    rg_box (upd a15 x (if a15 x ≤ a15 y then a15 y else a15 x)) (upd a16 y (if a16 x ≤ a16 y then a16 x else a16 y)) v := by
  have b1 := hv x hx
  have b2 := hv y hy
  intro j hj
  have b := hv j hj
  constructor
  · by_cases e : j = x
    · subst e
      rw [pk_us]
      split
      · exact Int32.le_trans b2.1 hle
      · exact b.1
    · rw [pk_un e]
      exact b.1
  · by_cases e : j = y
    · subst e
      rw [pk_us]
      split
      · exact Int32.le_trans hle b1.2
      · exact b.2
    · rw [pk_un e]
      exact b.2
theorem rg_ge1b {x y : Nat} (hx : x < 4) (hy : y < 4) (hb : ∀ x, x < 4 → a1 x ≤ a15 x ∧ a16 x ≤ a2 x) : ∀ j, j < 4 → a1 j ≤ upd a15 x (if a15 x ≤ a15 y then a15 y else a15 x) j ∧ upd a16 y (if a16 x ≤ a16 y then a16 x else a16 y) j ≤ a2 j := by
  intro j hj
  have b := hb j hj
  constructor
  · by_cases e : j = x
    · subst e
      rw [pk_us]
      split
      · exact Int32.le_trans b.1 ‹_›
      · exact b.1
    · rw [pk_un e]
      exact b.1
  · by_cases e : j = y
    · subst e
      rw [pk_us]
      split
      · exact Int32.le_trans ‹_› b.2
      · exact b.2
    · rw [pk_un e]
      exact b.2
theorem rg_less {s i x y t : Nat} (hs : s ≤ 14) (hi : i < s) (hx : x < 4) (hy : y < 4) (ht : t ≤ 14) (hR : ∀ x, x < 4 → -100 ≤ (a1 x).toInt ∧ (a2 x).toInt ≤ 100)
    (hA : rg_A a1 a2 (mv, a9, a10, a11, a12)) (hr : a9 i ≠ 0) (hl : ∀ x, x < 4 → a15 x = a10 (i * 4 + x) ∧ a16 x = a11 (i * 4 + x)) :
    ∃ (K : rg_K) (b15 b16 : Nat → Int32), rg_Up s a1 a2 (mv, a9, a10, a11, a12) K ∧
      (K = (mv, a9, a10, a11, a12) → ∀ v, rg_box a15 a16 v → (v y ≤ v x → rg_in s a9 a10 a11 (i + 1) v) ∧ (¬ v y ≤ v x → rg_in s a9 a10 a11 t v)) ∧
      ∀ post : St1 → Prop, post (nI s, en, pl, ct, kn, K.1, a1, a2, a3, a4, a5, a6, a7, a8, K.2.1, K.2.2.1, K.2.2.2.1, K.2.2.2.2, a13, a14, b15, b16) → wpX_followLess post (nI s, en, pl, ct, kn, mv, a1, a2, a3, a4, a5, a6, a7, a8, a9, a10, a11, a12, a13, a14, a15, a16) (nI i) (nI x) (nI y) (nI t) := by
  have hb : ∀ x, x < 4 → a1 x ≤ a15 x ∧ a16 x ≤ a2 x := by
    intro j hj
    have q := (hA i (by omega)).2.2.2 hr j hj
    rw [(hl j hj).1, (hl j hj).2]
    exact ⟨q.1, q.2.2⟩
  by_cases e : x = y
  · subst e
    obtain ⟨K, h1, h2, h3⟩ := @rg_168 en pl ct kn mv a1 a2 a3 a4 a5 a6 a7 a8 a9 a10 a11 a12 a13 a14 a15 a16 s i hs hi hA hb
    refine ⟨K, a15, a16, h1, fun eK v hv => ?_, fun post hp => ?_⟩
    · subst eK
      exact ⟨fun _ => h2 v hv, fun z => absurd (Int32.le_refl _) z⟩
    · unfold wpX_followLess
      exact br_t rfl (h3 post hp)
  · have hne : ¬ nI x = nI y := fun z => e ((nI_eq (by omega) (by omega)).mp z)
    obtain ⟨K1, u1, n1, w1⟩ := @rg_arrive en pl ct kn mv a1 a2 a3 a4 a5 a6 a7 a8 a9 a10 a11 a12 a13 a14 (upd a15 y (if a15 y ≤ a15 x + 1 then a15 x + 1 else a15 y)) (upd a16 x (if a16 y - 1 ≤ a16 x then a16 y - 1 else a16 x)) s t hs ht hA (rg_lt1b hx hy hb)
    obtain ⟨⟨b15, b16⟩, hbb, w2⟩ := @rg_take (nI s) en pl ct kn K1.1 a1 a2 a3 a4 a5 a6 a7 a8 K1.2.1 K1.2.2.1 K1.2.2.2.1 K1.2.2.2.2 a13 a14 (upd a15 y (if a15 y ≤ a15 x + 1 then a15 x + 1 else a15 y)) (upd a16 x (if a16 y - 1 ≤ a16 x then a16 y - 1 else a16 x)) i (by omega)
    dsimp only at hbb w2
    have hr1 := (u1.2.1 i (by omega) hr).1
    have hb1 : ∀ x, x < 4 → a1 x ≤ b15 x ∧ b16 x ≤ a2 x := by
      intro j hj
      have q := (u1.1 i (by omega)).2.2.2 hr1 j hj
      rw [(hbb j hj).1, (hbb j hj).2]
      exact ⟨q.1, q.2.2⟩
    obtain ⟨K2, u2, n2, w3⟩ := @rg_168 en pl ct kn K1.1 a1 a2 a3 a4 a5 a6 a7 a8 K1.2.1 K1.2.2.1 K1.2.2.2.1 K1.2.2.2.2 a13 a14 (upd b15 x (if b15 x ≤ b15 y then b15 y else b15 x)) (upd b16 y (if b16 x ≤ b16 y then b16 x else b16 y)) s i hs hi u1.1 (rg_ge1b hx hy hb1)
    refine ⟨K2, upd b15 x (if b15 x ≤ b15 y then b15 y else b15 x), upd b16 y (if b16 x ≤ b16 y then b16 x else b16 y), rg_Up_trans u1 u2, fun eK v hv => ?_, fun post hp => ?_⟩
    · have eK1 : K1 = (mv, a9, a10, a11, a12) := rg_Up_same u1 u2 eK
      subst eK
      subst eK1
      dsimp only at hbb n1 n2
      refine ⟨fun g => n2 v (rg_ge1 hx hy (fun j hj => ?_) g), fun g => n1 v (rg_lt1 (s := s) hx hy e ?_ ?_ hv g)⟩
      · rw [(hbb j hj).1, (hbb j hj).2, ← (hl j hj).1, ← (hl j hj).2]
        exact hv j hj
      · have := (hb x hx).1
        rw [rg_le] at this
        have := (hR x hx).1
        omega
      · have := (hb y hy).2
        rw [rg_le] at this
        have := (hR y hy).2
        omega
    · unfold wpX_followLess
      dsimp only
      rw [nI_clamp (show x < 2 ^ 31 by omega), nI_clamp (show y < 2 ^ 31 by omega)]
      have core : wX_followLess_44 post (nI i) (nI x) (nI y) (nI t) (if a16 y - 1 ≤ a16 x then a16 y - 1 else a16 x) (nI x) (nI s) en pl ct kn mv a1 a2 a3 a4 a5 a6 a7 a8 a9 a10 a11 a12 a13 a14 a15 a16 := by
        unfold wX_followLess_44
        rw [nI_clamp (show x < 2 ^ 31 by omega), nI_clamp (show y < 2 ^ 31 by omega)]
        have core2 : wX_followLess_84 post (nI i) (nI x) (nI y) (nI t) (if a15 y ≤ a15 x + 1 then a15 x + 1 else a15 y) (nI y) (nI s) en pl ct kn mv a1 a2 a3 a4 a5 a6 a7 a8 a9 a10 a11 a12 a13 a14 a15 (upd a16 x (if a16 y - 1 ≤ a16 x then a16 y - 1 else a16 x)) := by
          unfold wX_followLess_84
          rw [nI_clamp (show y < 2 ^ 31 by omega)]
          refine ⟨pk_in y 4 hy, nm_e (w1 _ (w2 _ ?_))⟩
          dsimp only
          rw [nI_clamp (show x < 2 ^ 31 by omega)]
          have core3 := rg_131 (z := if b15 x ≤ b15 y then b15 y else b15 x) hx hy (w3 post hp)
          refine ⟨pk_in x 4 hx, pk_in y 4 hy, br_c (fun g => ⟨pk_in y 4 hy, ?_⟩) (fun g => ⟨pk_in x 4 hx, ?_⟩)⟩
          · rw [if_pos g] at core3
            exact core3
          · rw [if_neg g] at core3
            exact core3
        refine ⟨pk_in x 4 hx, nm_e ⟨pk_in y 4 hy, pk_in x 4 hx, br_c (fun g => ⟨pk_in x 4 hx, ?_⟩) (fun g => ⟨pk_in y 4 hy, ?_⟩)⟩⟩
        · rw [if_pos g] at core2
          exact core2
        · rw [if_neg g] at core2
          exact core2
      refine br_f hne ⟨pk_in x 4 hx, pk_in y 4 hy, br_c (fun g => ⟨pk_in y 4 hy, ?_⟩) (fun g => ⟨pk_in x 4 hx, ?_⟩)⟩
      · rw [if_pos g] at core
        exact core
      · rw [if_neg g] at core
        exact core
end
end
section
/-! followOne -/
section
variable {sz en pl ct kn mv : Int32} {a1 a2 a3 a4 a5 a6 a7 a8 a9 a10 a11 a12 a13 a14 a15 a16 : Nat → Int32}
theorem rg_getarr {s i x : Nat} (hs : s ≤ 14) (hi : i < s) (hx : x < 4) (hA : rg_A a1 a2 (mv, a9, a10, a11, a12)) (hb : ∀ x, x < 4 → a1 x ≤ a15 x ∧ a16 x ≤ a2 x) (fr to : Int32) :
    ∃ (K : rg_K) (f : Int32) (b15 b16 : Nat → Int32), rg_Up s a1 a2 (mv, a9, a10, a11, a12) K ∧ (∀ v w, rg_box a15 a16 v → fr ≤ w → w ≤ to → rg_giv s a1 a2 K.2.1 K.2.2.1 K.2.2.2.1 (upd a13 i f) i v x w) ∧
      ∀ post G : St1 → Prop, post (nI s, en, pl, ct, kn, K.1, a1, a2, a3, a4, a5, a6, a7, a8, K.2.1, K.2.2.1, K.2.2.2.1, K.2.2.2.2, upd a13 i f, a14, b15, b16) → (wX_followOne_213 post (nI i) (nI s) en pl ct kn mv a1 a2 a3 a4 a5 a6 a7 a8 a9 a10 a11 a12 (upd a13 i f) a14 b15 b16 → G (nI s, en, pl, ct, kn, mv, a1, a2, a3, a4, a5, a6, a7, a8, a9, a10, a11, a12, upd a13 i f, a14, b15, b16)) → wpX_get G (nI s, en, pl, ct, kn, mv, a1, a2, a3, a4, a5, a6, a7, a8, a9, a10, a11, a12, a13, a14, a15, a16) (nI i) (nI x) fr to := by
  obtain ⟨f, hf, hg⟩ := @rg_get (nI s) en pl ct kn mv a1 a2 a3 a4 a5 a6 a7 a8 a9 a10 a11 a12 a13 a14 a15 a16 i x (by omega) hx fr to
  obtain ⟨K, u, n, w⟩ := @rg_213 en pl ct kn mv a1 a2 a3 a4 a5 a6 a7 a8 a9 a10 a11 a12 (upd a13 i f) a14 (upd a15 x (if fr ≤ a1 x then a1 x else fr)) (upd a16 x (if a2 x ≤ to then a2 x else to)) s i hs hi hA (rg_get_b hb)
  refine ⟨K, f, upd a15 x (if fr ≤ a1 x then a1 x else fr), upd a16 x (if a2 x ≤ to then a2 x else to), u, fun v w' hv h1 h2 => rg_giv_get hv h1 h2 (fun z => hf (by rw [pk_us] at z; exact z)) n, fun post G hp hG => hg G (hG (w post hp))⟩
theorem rg_am {l v k m : Int32} (h1 : l ≤ v) (h2 : k ≤ m) (b1 : -100 ≤ l.toInt) (b2 : v.toInt ≤ 100) (b3 : -100 ≤ k.toInt) (b4 : m.toInt ≤ 100) : l + k ≤ v + m := by
  rw [rg_le] at h1 h2
  rw [rg_le, rg_ad (by omega) (by omega), rg_ad (by omega) (by omega)]
  omega
theorem rg_followOne {s i : Nat} (hs : s ≤ 14) (hi : i < s) (hwf : rg_wf a3 a4 a5 a6 i) (hR : ∀ x, x < 4 → -100 ≤ (a1 x).toInt ∧ (a2 x).toInt ≤ 100) (hA : rg_A a1 a2 (mv, a9, a10, a11, a12)) (hr : a9 i ≠ 0) :
    ∃ (K : rg_K) (b13 b14 b15 b16 : Nat → Int32), rg_Up s a1 a2 (mv, a9, a10, a11, a12) K ∧ (∀ j, j ≠ i → b13 j = a13 j ∧ b14 j = a14 j) ∧
      (K = (mv, a9, a10, a11, a12) → rg_cert s a1 a2 a3 a4 a5 a6 a9 a10 a11 b13 b14 i) ∧
      ∀ post : St1 → Prop, post (nI s, en, pl, ct, kn, K.1, a1, a2, a3, a4, a5, a6, a7, a8, K.2.1, K.2.2.1, K.2.2.2.1, K.2.2.2.2, b13, b14, b15, b16) → wpX_followOne post (nI s, en, pl, ct, kn, mv, a1, a2, a3, a4, a5, a6, a7, a8, a9, a10, a11, a12, a13, a14, a15, a16) (nI i) := by
  obtain ⟨o, x, y, e3, e4, e5, ho, hx, hy, k1, k2, k3, k4, k5⟩ := hwf
  obtain ⟨⟨l, h⟩, hl, w0⟩ := @rg_take (nI s) en pl ct kn mv a1 a2 a3 a4 a5 a6 a7 a8 a9 a10 a11 a12 a13 a14 a15 a16 i (by omega)
  dsimp only at hl w0
  have hq := (hA i (by omega)).2.2.2 hr
  dsimp only at hq
  have hb : ∀ x, x < 4 → a1 x ≤ l x ∧ h x ≤ a2 x := by
    intro j hj
    rw [(hl j hj).1, (hl j hj).2]
    exact ⟨(hq j hj).1, (hq j hj).2.2⟩
  have hB : ∀ v, (∀ x, x < 4 → a10 (i * 4 + x) ≤ v x ∧ v x ≤ a11 (i * 4 + x)) → rg_box l h v := by
    intro v hv j hj
    rw [(hl j hj).1, (hl j hj).2]
    exact hv j hj
  have hl1 : ∀ j, j < 4 → -100 ≤ (l j).toInt := by
    intro j hj
    have := (hb j hj).1
    rw [rg_le] at this
    have := (hR j hj).1
    omega
  have hh1 : ∀ j, j < 4 → (h j).toInt ≤ 100 := by
    intro j hj
    have := (hb j hj).2
    rw [rg_le] at this
    have := (hR j hj).2
    omega
  have hv1 : ∀ v, rg_box l h v → ∀ j, j < 4 → -100 ≤ (v j).toInt ∧ (v j).toInt ≤ 100 := by
    intro v hv j hj
    have q := hv j hj
    rw [rg_le, rg_le] at q
    have := hl1 j hj
    have := hh1 j hj
    omega
  have c4 : (a4 i).toNatClampNeg = x := by rw [e4]; exact nI_clamp (by omega)
  have c5 : (a5 i).toNatClampNeg = y := by rw [e5]; exact nI_clamp (by omega)
  rcases (show o = 0 ∨ o = 1 ∨ o = 2 ∨ o = 3 ∨ o = 4 ∨ o = 5 ∨ o = 6 ∨ o = 7 by omega) with rfl | rfl | rfl | rfl | rfl | rfl | rfl | rfl
  · obtain ⟨K, f, b15, b16, u, g, w⟩ := @rg_getarr en pl ct kn mv a1 a2 a3 a4 a5 a6 a7 a8 a9 a10 a11 a12 a13 a14 l h s i x hs hi hx hA hb (a6 i) (a6 i)
    refine ⟨K, upd a13 i f, a14, b15, b16, u, fun j hj => ⟨pk_un hj, rfl⟩, fun eK v hv => ?_, fun post hp => ?_⟩
    · subst eK
      have hv' := hv1 v (hB v hv)
      rw [e3, c4, c5]
      exact rg_cv0 (g v (a6 i) (hB v hv) (Int32.le_refl _) (Int32.le_refl _))
    · unfold wpX_followOne
      refine w0 _ ?_
      dsimp only
      rw [nI_clamp (show i < 2 ^ 31 by omega)]
      refine ⟨pk_in i 14 (by omega), nm_r e3 ⟨pk_in i 14 (by omega), nm_r e4 ⟨pk_in i 14 (by omega), nm_r e5 ⟨pk_in i 14 (by omega), nm_e ?_⟩⟩⟩⟩
      exact br_f (by decide) (br_t (by decide) (br_t (by decide) (w post _ hp (fun z => z))))
  · obtain ⟨K, f, b15, b16, u, g, w⟩ := @rg_getarr en pl ct kn mv a1 a2 a3 a4 a5 a6 a7 a8 a9 a10 a11 a12 a13 a14 l h s i x hs hi hx hA hb (l y + a6 i) (h y + a6 i)
    refine ⟨K, upd a13 i f, a14, b15, b16, u, fun j hj => ⟨pk_un hj, rfl⟩, fun eK v hv => ?_, fun post hp => ?_⟩
    · subst eK
      have hv' := hv1 v (hB v hv)
      rw [e3, c4, c5]
      exact rg_cv1 (g v (v y + a6 i) (hB v hv) (rg_am (hB v hv y hy).1 (Int32.le_refl _) (hl1 y hy) (hv' y hy).2 k1 k2) (rg_am (hB v hv y hy).2 (Int32.le_refl _) (hv' y hy).1 (hh1 y hy) k1 k2))
    · unfold wpX_followOne
      refine w0 _ ?_
      dsimp only
      rw [nI_clamp (show i < 2 ^ 31 by omega)]
      refine ⟨pk_in i 14 (by omega), nm_r e3 ⟨pk_in i 14 (by omega), nm_r e4 ⟨pk_in i 14 (by omega), nm_r e5 ⟨pk_in i 14 (by omega), nm_e ?_⟩⟩⟩⟩
      refine br_f (by decide) (br_t (by decide) (br_f (by decide) (br_t (by decide) ⟨pk_in y 4 hy, pk_in y 4 hy, ?_⟩)))
      rw [nI_clamp (show y < 2 ^ 31 by omega)]
      exact w post _ hp (fun z => z)
  · obtain ⟨z, hz, e6⟩ := k3 rfl
    have c6 : (a6 i).toNatClampNeg = z := by rw [e6]; exact nI_clamp (by omega)
    obtain ⟨K, f, b15, b16, u, g, w⟩ := @rg_getarr en pl ct kn mv a1 a2 a3 a4 a5 a6 a7 a8 a9 a10 a11 a12 a13 a14 l h s i x hs hi hx hA hb (l y + l z) (h y + h z)
    refine ⟨K, upd a13 i f, a14, b15, b16, u, fun j hj => ⟨pk_un hj, rfl⟩, fun eK v hv => ?_, fun post hp => ?_⟩
    · subst eK
      have hv' := hv1 v (hB v hv)
      rw [e3, c4, c5]
      refine rg_cv2 ?_
      rw [c6]
      exact g v (v y + v z) (hB v hv) (rg_am (hB v hv y hy).1 (hB v hv z hz).1 (hl1 y hy) (hv' y hy).2 (hl1 z hz) (hv' z hz).2) (rg_am (hB v hv y hy).2 (hB v hv z hz).2 (hv' y hy).1 (hh1 y hy) (hv' z hz).1 (hh1 z hz))
    · unfold wpX_followOne
      refine w0 _ ?_
      dsimp only
      rw [nI_clamp (show i < 2 ^ 31 by omega)]
      refine ⟨pk_in i 14 (by omega), nm_r e3 ⟨pk_in i 14 (by omega), nm_r e4 ⟨pk_in i 14 (by omega), nm_r e5 ⟨pk_in i 14 (by omega), nm_e ?_⟩⟩⟩⟩
      refine br_f (by decide) (br_t (by decide) (br_f (by decide) (br_f (by decide) (br_t (by decide) ⟨pk_in y 4 hy, pk_in z 4 hz e6, pk_in y 4 hy, pk_in z 4 hz e6, ?_⟩))))
      rw [nI_clamp (show y < 2 ^ 31 by omega), c6]
      exact w post _ hp (fun z => z)
  · have hk0 := k4 rfl
    obtain ⟨k, hk, e6⟩ := nI_of (x := a6 i) (fun z => by rw [rg_lt, rg_t0] at z; omega)
    have hk100 : k ≤ 100 := by
      rw [e6, nI_toInt hk] at k2
      omega
    obtain ⟨fr, to, hm, wm⟩ := @rg_mask (nI s) en pl ct kn mv a1 a2 a3 a4 a5 a6 a7 a8 a9 a10 a11 a12 a13 a14 l h i x y k (by omega) hx hy hk100
    obtain ⟨K, f, b15, b16, u, g, w⟩ := @rg_getarr en pl ct kn mv a1 a2 a3 a4 a5 a6 a7 a8 a9 a10 a11 a12 a13 a14 l h s i x hs hi hx hA hb fr to
    refine ⟨K, upd a13 i f, a14, b15, b16, u, fun j hj => ⟨pk_un hj, rfl⟩, fun eK v hv => ?_, fun post hp => ?_⟩
    · subst eK
      rw [e3, c4, c5]
      refine rg_cv3 ?_
      rw [e6]
      have q := hm (v y) (hB v hv y hy).1 (hB v hv y hy).2
      exact g v _ (hB v hv) q.1 q.2
    · unfold wpX_followOne
      refine w0 _ ?_
      dsimp only
      rw [nI_clamp (show i < 2 ^ 31 by omega)]
      refine ⟨pk_in i 14 (by omega), nm_r e3 ⟨pk_in i 14 (by omega), nm_r e4 ⟨pk_in i 14 (by omega), nm_r e5 ⟨pk_in i 14 (by omega), nm_e ?_⟩⟩⟩⟩
      rw [e6]
      exact br_f (by decide) (br_t (by decide) (br_f (by decide) (br_f (by decide) (br_f (by decide) (br_t (by decide) (wm _ (w post _ hp (fun z => z))))))))
  · obtain ⟨f, hf, wu⟩ := @rg_use (nI s) en pl ct kn mv a1 a2 a3 a4 a5 a6 a7 a8 a9 a10 a11 a12 a13 a14 l h i y (by omega) hy (a6 i)
    have hub := rg_use_b (y := y) (k := a6 i) hb
    obtain ⟨r, hr0, wp⟩ := @rg_possible (nI s) en pl ct kn mv a1 a2 a3 a4 a5 a6 a7 a8 a9 a10 a11 a12 a13 (upd a14 i f) (upd l y (if -a6 i ≤ l y then l y else -a6 i)) (upd h y (if h y ≤ 7 - a6 i then h y else 7 - a6 i))
    by_cases h0 : r = 0
    · obtain ⟨K, u, n, w⟩ := @rg_213 en pl ct kn mv a1 a2 a3 a4 a5 a6 a7 a8 a9 a10 a11 a12 a13 (upd a14 i f) (upd l y (if -a6 i ≤ l y then l y else -a6 i)) (upd h y (if h y ≤ 7 - a6 i then h y else 7 - a6 i)) s i hs hi hA hub
      refine ⟨K, a13, upd a14 i f, upd l y (if -a6 i ≤ l y then l y else -a6 i), upd h y (if h y ≤ 7 - a6 i then h y else 7 - a6 i), u, fun j hj => ⟨rfl, pk_un hj⟩, fun eK v hv => ?_, fun post hp => ?_⟩
      · have hv' := hv1 v (hB v hv)
        rw [e3, c4, c5]
        refine rg_cv4 ⟨fun z => ?_, fun g1 g2 => ?_⟩
        · rw [pk_us] at z
          exact rg_use_in k1 k2 (hl1 y hy) (hh1 y hy) (hB v hv y hy).1 (hB v hv y hy).2 (hf z).1 (hf z).2
        · have q := rg_use_v k1 k2 (hv' y hy).1 (hv' y hy).2 (hB v hv) g1 g2
          exact absurd (fun x hx => Int32.le_trans (q x hx).1 (q x hx).2) (hr0.mp h0)
      · unfold wpX_followOne
        refine w0 _ ?_
        dsimp only
        rw [nI_clamp (show i < 2 ^ 31 by omega)]
        refine ⟨pk_in i 14 (by omega), nm_r e3 ⟨pk_in i 14 (by omega), nm_r e4 ⟨pk_in i 14 (by omega), nm_r e5 ⟨pk_in i 14 (by omega), nm_e ?_⟩⟩⟩⟩
        exact br_f (by decide) (br_t (by decide) (br_f (by decide) (br_f (by decide) (br_f (by decide) (br_f (by decide) (wu _ (wp _ (br_t (by decide) (br_t h0 (w post hp))))))))))
    · obtain ⟨K, f2, b15, b16, u, g, w⟩ := @rg_getarr en pl ct kn mv a1 a2 a3 a4 a5 a6 a7 a8 a9 a10 a11 a12 a13 (upd a14 i f) (upd l y (if -a6 i ≤ l y then l y else -a6 i)) (upd h y (if h y ≤ 7 - a6 i then h y else 7 - a6 i)) s i x hs hi hx hA hub (-100) 100
      refine ⟨K, upd a13 i f2, upd a14 i f, b15, b16, u, fun j hj => ⟨pk_un hj, pk_un hj⟩, fun eK v hv => ?_, fun post hp => ?_⟩
      · subst eK
        have hv' := hv1 v (hB v hv)
        rw [e3, c4, c5]
        refine rg_cv4 ⟨fun z => ?_, fun g1 g2 c hc1 hc2 => ?_⟩
        · rw [pk_us] at z
          exact rg_use_in k1 k2 (hl1 y hy) (hh1 y hy) (hB v hv y hy).1 (hB v hv y hy).2 (hf z).1 (hf z).2
        · exact g v c (rg_use_v k1 k2 (hv' y hy).1 (hv' y hy).2 (hB v hv) g1 g2) hc1 hc2
      · unfold wpX_followOne
        refine w0 _ ?_
        dsimp only
        rw [nI_clamp (show i < 2 ^ 31 by omega)]
        refine ⟨pk_in i 14 (by omega), nm_r e3 ⟨pk_in i 14 (by omega), nm_r e4 ⟨pk_in i 14 (by omega), nm_r e5 ⟨pk_in i 14 (by omega), nm_e ?_⟩⟩⟩⟩
        exact br_f (by decide) (br_t (by decide) (br_f (by decide) (br_f (by decide) (br_f (by decide) (br_f (by decide) (wu _ (wp _ (br_t (by decide) (br_f h0 (w post _ hp (fun z => z)))))))))))
  · obtain ⟨f, hf, wu⟩ := @rg_use (nI s) en pl ct kn mv a1 a2 a3 a4 a5 a6 a7 a8 a9 a10 a11 a12 a13 a14 l h i y (by omega) hy (a6 i)
    have hub := rg_use_b (y := y) (k := a6 i) hb
    obtain ⟨r, hr0, wp⟩ := @rg_possible (nI s) en pl ct kn mv a1 a2 a3 a4 a5 a6 a7 a8 a9 a10 a11 a12 a13 (upd a14 i f) (upd l y (if -a6 i ≤ l y then l y else -a6 i)) (upd h y (if h y ≤ 7 - a6 i then h y else 7 - a6 i))
    obtain ⟨K, u, n, w⟩ := @rg_213 en pl ct kn mv a1 a2 a3 a4 a5 a6 a7 a8 a9 a10 a11 a12 a13 (upd a14 i f) (upd l y (if -a6 i ≤ l y then l y else -a6 i)) (upd h y (if h y ≤ 7 - a6 i then h y else 7 - a6 i)) s i hs hi hA hub
    refine ⟨K, a13, upd a14 i f, upd l y (if -a6 i ≤ l y then l y else -a6 i), upd h y (if h y ≤ 7 - a6 i then h y else 7 - a6 i), u, fun j hj => ⟨rfl, pk_un hj⟩, fun eK v hv => ?_, fun post hp => ?_⟩
    · subst eK
      have hv' := hv1 v (hB v hv)
      rw [e3, c4, c5]
      refine rg_cv5 ⟨fun z => ?_, fun g1 g2 => ?_⟩
      · rw [pk_us] at z
        exact rg_use_in k1 k2 (hl1 y hy) (hh1 y hy) (hB v hv y hy).1 (hB v hv y hy).2 (hf z).1 (hf z).2
      · exact n v (rg_use_v k1 k2 (hv' y hy).1 (hv' y hy).2 (hB v hv) g1 g2)
    · unfold wpX_followOne
      refine w0 _ ?_
      dsimp only
      rw [nI_clamp (show i < 2 ^ 31 by omega)]
      refine ⟨pk_in i 14 (by omega), nm_r e3 ⟨pk_in i 14 (by omega), nm_r e4 ⟨pk_in i 14 (by omega), nm_r e5 ⟨pk_in i 14 (by omega), nm_e ?_⟩⟩⟩⟩
      exact br_f (by decide) (br_t (by decide) (br_f (by decide) (br_f (by decide) (br_f (by decide) (br_f (by decide) (wu _ (wp _ (br_f (by decide) (w post hp)))))))))
  · obtain ⟨t, ht, e6⟩ := k5 (by omega)
    obtain ⟨K, b15, b16, u, g, w⟩ := @rg_less en pl ct kn mv a1 a2 a3 a4 a5 a6 a7 a8 a9 a10 a11 a12 a13 a14 l h s i x y t hs hi hx hy ht hR hA hr hl
    refine ⟨K, a13, a14, b15, b16, u, fun j hj => ⟨rfl, rfl⟩, fun eK v hv => ?_, fun post hp => ?_⟩
    · rw [e3, c4, c5]
      refine rg_cv6 ?_
      rw [e6, nI_clamp (show t < 2 ^ 31 by omega)]
      exact g eK v (hB v hv)
    · unfold wpX_followOne
      refine w0 _ ?_
      dsimp only
      rw [nI_clamp (show i < 2 ^ 31 by omega)]
      refine ⟨pk_in i 14 (by omega), nm_r e3 ⟨pk_in i 14 (by omega), nm_r e4 ⟨pk_in i 14 (by omega), nm_r e5 ⟨pk_in i 14 (by omega), nm_e ?_⟩⟩⟩⟩
      rw [e6]
      exact br_t (by decide) (w _ hp)
  · obtain ⟨t, ht, e6⟩ := k5 (by omega)
    obtain ⟨K, u, n, w⟩ := @rg_arrive en pl ct kn mv a1 a2 a3 a4 a5 a6 a7 a8 a9 a10 a11 a12 a13 a14 l h s t hs ht hA hb
    refine ⟨K, a13, a14, l, h, u, fun j hj => ⟨rfl, rfl⟩, fun eK v hv => ?_, fun post hp => ?_⟩
    · subst eK
      rw [e3, c4, c5]
      refine rg_cv7 ?_
      rw [e6, nI_clamp (show t < 2 ^ 31 by omega)]
      exact n v (hB v hv)
    · unfold wpX_followOne
      refine w0 _ ?_
      dsimp only
      rw [nI_clamp (show i < 2 ^ 31 by omega)]
      refine ⟨pk_in i 14 (by omega), nm_r e3 ⟨pk_in i 14 (by omega), nm_r e4 ⟨pk_in i 14 (by omega), nm_r e5 ⟨pk_in i 14 (by omega), nm_e ?_⟩⟩⟩⟩
      rw [e6]
      exact br_f (by decide) (br_f (by decide) (w _ hp))
end
end
section
/-! a round of the analysis; the analysis -/
def rg_nz (l h : Int32) : Int32 := if l ≤ 0 then (if 0 ≤ h then 0 else h) else l
/-- what holds once the analysis is done -/
def rg_kn (s : Nat) (a1 a2 a3 a4 a5 a6 a9 a10 a11 a13 a14 : Nat → Int32) : Prop :=
  (∀ v : Nat → Int32, (∀ x, x < 4 → v x = rg_nz (a1 x) (a2 x)) → rg_in s a9 a10 a11 0 v) ∧ (∀ j, j < s → a9 j ≠ 0 → rg_cert s a1 a2 a3 a4 a5 a6 a9 a10 a11 a13 a14 j)
def rg_fill (n : Nat) (f g : Nat → Int32) : Nat → Int32 := fun j => if j < n then f j else g j
theorem rg_fill_0 (f g : Nat → Int32) : rg_fill 0 f g = g := by
  funext j
  exact if_neg (by omega)
theorem rg_fill_s (i : Nat) (f g : Nat → Int32) : upd (rg_fill i f g) i (f i) = rg_fill (i + 1) f g := by
  funext j
  unfold rg_fill upd
  by_cases e : j = i
  · rw [if_pos e, if_pos (by omega), e]
  · rw [if_neg e]
    dsimp only
    by_cases h : j < i
    · rw [if_pos h, if_pos (by omega)]
    · rw [if_neg h, if_neg (by omega)]
theorem rg_fill_in {n j : Nat} {f g : Nat → Int32} (h : j < n) : rg_fill n f g j = f j := if_pos h
section
variable {sz en pl ct kn mv : Int32} {a1 a2 a3 a4 a5 a6 a7 a8 a9 a10 a11 a12 a13 a14 a15 a16 : Nat → Int32}
theorem rg_nzw {post : Int32 → Prop} {x : Nat} (hx : x < 4) (h : post (rg_nz (a1 x) (a2 x))) : wpX_nearestToZero post (sz, en, pl, ct, kn, mv, a1, a2, a3, a4, a5, a6, a7, a8, a9, a10, a11, a12, a13, a14, a15, a16) (nI x) := by
  unfold wpX_nearestToZero
  dsimp only
  rw [nI_clamp (show x < 2 ^ 31 by omega)]
  unfold rg_nz at h
  refine ⟨pk_in x 4 hx, br_c (fun g => ⟨pk_in x 4 hx, br_c (fun g' => ?_) (fun g' => ⟨pk_in x 4 hx, ?_⟩)⟩) (fun g => ⟨pk_in x 4 hx, ?_⟩)⟩
  · rw [if_pos g, if_pos g'] at h
    exact h
  · rw [if_pos g, if_neg g'] at h
    exact h
  · rw [if_neg g] at h
    exact h
theorem rg_cert_cg {s j : Nat} {b13 b14 : Nat → Int32} (h1 : b13 j = a13 j) (h2 : b14 j = a14 j) (h : rg_cert s a1 a2 a3 a4 a5 a6 a9 a10 a11 a13 a14 j) : rg_cert s a1 a2 a3 a4 a5 a6 a9 a10 a11 b13 b14 j := by
  intro v hv
  have q := h v hv
  unfold rg_cv rg_giv at q ⊢
  rw [h1, h2]
  exact q
theorem rg_round {s : Nat} (x1 : Int32) (hs : s ≤ 14) (hwf : ∀ i, i < s → rg_wf a3 a4 a5 a6 i) (hR : ∀ x, x < 4 → -100 ≤ (a1 x).toInt ∧ (a2 x).toInt ≤ 100) (hA : rg_A a1 a2 (0, a9, a10, a11, a12)) :
    ∃ b : rg_K × (Nat → Int32) × (Nat → Int32) × (Nat → Int32) × (Nat → Int32), (rg_Up s a1 a2 (0, a9, a10, a11, a12) b.1 ∧ (b.1 = (0, a9, a10, a11, a12) → ∀ j, j < s → a9 j ≠ 0 → rg_cert s a1 a2 a3 a4 a5 a6 a9 a10 a11 b.2.1 b.2.2.1 j)) ∧
      ∀ J : Int32 × St1 → Prop, J (x1 + 1, (nI s, en, pl, ct, kn, b.1.1, a1, a2, a3, a4, a5, a6, a7, a8, b.1.2.1, b.1.2.2.1, b.1.2.2.2.1, b.1.2.2.2.2, b.2.1, b.2.2.1, b.2.2.2.1, b.2.2.2.2)) → ∃ n, ∀ post : St1 → Prop, wX_analyse_102 post (fun x sz en pl ct kn mv a1 a2 a3 a4 a5 a6 a7 a8 a9 a10 a11 a12 a13 a14 a15 a16 => J (x, (sz, en, pl, ct, kn, mv, a1, a2, a3, a4, a5, a6, a7, a8, a9, a10, a11, a12, a13, a14, a15, a16))) x1 n 0 (nI s) en pl ct kn 0 a1 a2 a3 a4 a5 a6 a7 a8 a9 a10 a11 a12 a13 a14 a15 a16 := by
  refine rg_loop (fun (J : Int32 × St1 → Prop) n (b : Nat × rg_K × (Nat → Int32) × (Nat → Int32) × (Nat → Int32) × (Nat → Int32)) => ∀ post : St1 → Prop, wX_analyse_102 post (fun x sz en pl ct kn mv a1 a2 a3 a4 a5 a6 a7 a8 a9 a10 a11 a12 a13 a14 a15 a16 => J (x, (sz, en, pl, ct, kn, mv, a1, a2, a3, a4, a5, a6, a7, a8, a9, a10, a11, a12, a13, a14, a15, a16))) x1 n (nI b.1) (nI s) en pl ct kn b.2.1.1 a1 a2 a3 a4 a5 a6 a7 a8 b.2.1.2.1 b.2.1.2.2.1 b.2.1.2.2.2.1 b.2.1.2.2.2.2 b.2.2.1 b.2.2.2.1 b.2.2.2.2.1 b.2.2.2.2.2)
    (fun (b : rg_K × (Nat → Int32) × (Nat → Int32) × (Nat → Int32) × (Nat → Int32)) => (x1 + 1, (nI s, en, pl, ct, kn, b.1.1, a1, a2, a3, a4, a5, a6, a7, a8, b.1.2.1, b.1.2.2.1, b.1.2.2.2.1, b.1.2.2.2.2, b.2.1, b.2.2.1, b.2.2.2.1, b.2.2.2.2)))
    (fun b => b.1 ≤ s ∧ rg_Up s a1 a2 (0, a9, a10, a11, a12) b.2.1 ∧ (b.2.1 = (0, a9, a10, a11, a12) → ∀ j, j < b.1 → a9 j ≠ 0 → rg_cert s a1 a2 a3 a4 a5 a6 a9 a10 a11 b.2.2.1 b.2.2.2.1 j))
    (fun b => rg_Up s a1 a2 (0, a9, a10, a11, a12) b.1 ∧ (b.1 = (0, a9, a10, a11, a12) → ∀ j, j < s → a9 j ≠ 0 → rg_cert s a1 a2 a3 a4 a5 a6 a9 a10 a11 b.2.1 b.2.2.1 j))
    (fun b => s - b.1) ?_ (0, (0, a9, a10, a11, a12), a13, a14, a15, a16) ⟨Nat.zero_le _, rg_Up_refl hA, fun _ j h => absurd h (by show ¬ j < 0; omega)⟩
  rintro ⟨i, K, b13, b14, b15, b16⟩ ⟨hi, hU, hc⟩
  dsimp only at hi hU hc ⊢
  by_cases h4 : i = s
  · subst h4
    exact Or.inl ⟨(K, b13, b14, b15, b16), ⟨hU, hc⟩, fun n post hp post' => pk_le i i (fun _ => nm_e hp) (fun z => absurd z (by omega))⟩
  have his : i < s := by omega
  by_cases h9 : K.2.1 i = 0
  · refine Or.inr ⟨(i + 1, K, b13, b14, b15, b16), ⟨his, hU, fun eK j hj hr => ?_⟩, by show s - (i + 1) < s - i; omega, fun n post hw post' => pk_le s i (fun z => absurd z (by omega)) (fun _ => ⟨pk_in i 15 (by omega), br_t (by rw [nI_clamp (by omega)]; exact h9) (nm_r (nI_1 i) (hw post'))⟩)⟩
    dsimp only at eK hj ⊢
    by_cases e : j = i
    · subst e
      rw [eK] at h9
      exact absurd h9 hr
    · exact hc eK j (by omega) hr
  · obtain ⟨K', c13, c14, c15, c16, u, fr, ce, w⟩ := @rg_followOne en pl ct kn K.1 a1 a2 a3 a4 a5 a6 a7 a8 K.2.1 K.2.2.1 K.2.2.2.1 K.2.2.2.2 b13 b14 b15 b16 s i hs his (hwf i his) hR hU.1 h9
    refine Or.inr ⟨(i + 1, K', c13, c14, c15, c16), ⟨his, rg_Up_trans hU u, fun eK j hj hr => ?_⟩, by show s - (i + 1) < s - i; omega, fun n post hw post' => pk_le s i (fun z => absurd z (by omega)) (fun _ => ⟨pk_in i 15 (by omega), br_f (by rw [nI_clamp (by omega)]; exact h9) (w _ (nm_r (nI_1 i) (hw post')))⟩)⟩
    dsimp only at eK hj ⊢
    have eK0 : K = (0, a9, a10, a11, a12) := rg_Up_same hU u eK
    subst eK0
    by_cases e : j = i
    · subst e
      exact ce eK
    · exact rg_cert_cg (fr j e).1 (fr j e).2 (hc rfl j (by omega) hr)
theorem rg_rounds {s : Nat} (hs : s ≤ 14) (hwf : ∀ i, i < s → rg_wf a3 a4 a5 a6 i) (hR : ∀ x, x < 4 → -100 ≤ (a1 x).toInt ∧ (a2 x).toInt ≤ 100) (hA : rg_A a1 a2 (mv, a9, a10, a11, a12))
    (hi0 : ∀ v : Nat → Int32, (∀ x, x < 4 → v x = rg_nz (a1 x) (a2 x)) → rg_in s a9 a10 a11 0 v) (h0 : (mv = 0 ∧ s = 0) ∨ mv = 1) :
    ∃ b : rg_K × (Nat → Int32) × (Nat → Int32) × (Nat → Int32) × (Nat → Int32), rg_kn s a1 a2 a3 a4 a5 a6 b.1.2.1 b.1.2.2.1 b.1.2.2.2.1 b.2.1 b.2.2.1 ∧
      ∀ post : St1 → Prop, post (nI s, en, pl, ct, 1, b.1.1, a1, a2, a3, a4, a5, a6, a7, a8, b.1.2.1, b.1.2.2.1, b.1.2.2.2.1, b.1.2.2.2.2, b.2.1, b.2.2.1, b.2.2.2.1, b.2.2.2.2) → ∃ n, wX_analyse_81 post n 0 (nI s) en pl ct kn mv a1 a2 a3 a4 a5 a6 a7 a8 a9 a10 a11 a12 a13 a14 a15 a16 := by
  refine rg_loop (fun (post : St1 → Prop) n (b : Nat × rg_K × (Nat → Int32) × (Nat → Int32) × (Nat → Int32) × (Nat → Int32)) => wX_analyse_81 post n (nI b.1) (nI s) en pl ct kn b.2.1.1 a1 a2 a3 a4 a5 a6 a7 a8 b.2.1.2.1 b.2.1.2.2.1 b.2.1.2.2.2.1 b.2.1.2.2.2.2 b.2.2.1 b.2.2.2.1 b.2.2.2.2.1 b.2.2.2.2.2)
    (fun (b : rg_K × (Nat → Int32) × (Nat → Int32) × (Nat → Int32) × (Nat → Int32)) => (nI s, en, pl, ct, 1, b.1.1, a1, a2, a3, a4, a5, a6, a7, a8, b.1.2.1, b.1.2.2.1, b.1.2.2.2.1, b.1.2.2.2.2, b.2.1, b.2.2.1, b.2.2.2.1, b.2.2.2.2))
    (fun b => b.1 ≤ 200 ∧ rg_A a1 a2 b.2.1 ∧ (∀ v : Nat → Int32, (∀ x, x < 4 → v x = rg_nz (a1 x) (a2 x)) → rg_in s b.2.1.2.1 b.2.1.2.2.1 b.2.1.2.2.2.1 0 v) ∧
      ((b.2.1.1 = 0 ∧ ∀ j, j < s → b.2.1.2.1 j ≠ 0 → rg_cert s a1 a2 a3 a4 a5 a6 b.2.1.2.1 b.2.1.2.2.1 b.2.1.2.2.2.1 b.2.2.1 b.2.2.2.1 j) ∨ (b.2.1.1 = 1 ∧ rg_ph s a1 a2 b.2.1 + b.1 ≤ 182)))
    (fun b => rg_kn s a1 a2 a3 a4 a5 a6 b.1.2.1 b.1.2.2.1 b.1.2.2.2.1 b.2.1 b.2.2.1)
    (fun b => 200 - b.1) ?_ (0, (mv, a9, a10, a11, a12), a13, a14, a15, a16) ⟨Nat.zero_le _, hA, hi0, ?_⟩
  rotate_left
  · rcases h0 with ⟨e, e'⟩ | e
    · exact Or.inl ⟨e, fun j hj => absurd hj (by omega)⟩
    · exact Or.inr ⟨e, rg_ph182 hs _ _ _⟩
  rintro ⟨r, K, b13, b14, b15, b16⟩ ⟨hr, hA', hi', h⟩
  dsimp only at hr hA' hi' h ⊢
  rcases h with ⟨e, hc⟩ | ⟨e, hp⟩
  · refine Or.inl ⟨(K, b13, b14, b15, b16), ⟨hi', hc⟩, fun n post hp => br_c (fun _ => hp) (fun _ => br_t e hp)⟩
  · obtain ⟨⟨K', c13, c14, c15, c16⟩, ⟨hU, hcc⟩, w⟩ := @rg_round en pl ct kn a1 a2 a3 a4 a5 a6 a7 a8 K.2.1 K.2.2.1 K.2.2.2.1 K.2.2.2.2 b13 b14 b15 b16 s (nI r) hs hwf hR hA'
    dsimp only at hU hcc w
    refine Or.inr ⟨(r + 1, K', c13, c14, c15, c16), ⟨by show r + 1 ≤ 200; omega, hU.1, fun v hv => rg_Up_in hs hU (hi' v hv), ?_⟩, by show 200 - (r + 1) < 200 - r; omega, fun n post hw => pk_le 200 r (fun z => absurd z (by omega)) (fun _ => br_f (by rw [e]; decide) ?_)⟩
    · dsimp only
      rcases hU.2.2 with q | ⟨q1, q2⟩
      · subst q
        exact Or.inl ⟨rfl, hcc rfl⟩
      · refine Or.inr ⟨q1, ?_⟩
        have q3 : rg_ph s a1 a2 (0, K.2.1, K.2.2.1, K.2.2.2.1, K.2.2.2.2) = rg_ph s a1 a2 K := rfl
        omega
    · obtain ⟨m, hm⟩ := w (fun p => wX_analyse_81 post n p.1 p.2.1 p.2.2.1 p.2.2.2.1 p.2.2.2.2.1 p.2.2.2.2.2.1 p.2.2.2.2.2.2.1 p.2.2.2.2.2.2.2.1 p.2.2.2.2.2.2.2.2.1 p.2.2.2.2.2.2.2.2.2.1 p.2.2.2.2.2.2.2.2.2.2.1 p.2.2.2.2.2.2.2.2.2.2.2.1 p.2.2.2.2.2.2.2.2.2.2.2.2.1 p.2.2.2.2.2.2.2.2.2.2.2.2.2.1 p.2.2.2.2.2.2.2.2.2.2.2.2.2.2.1 p.2.2.2.2.2.2.2.2.2.2.2.2.2.2.2.1 p.2.2.2.2.2.2.2.2.2.2.2.2.2.2.2.2.1 p.2.2.2.2.2.2.2.2.2.2.2.2.2.2.2.2.2.1 p.2.2.2.2.2.2.2.2.2.2.2.2.2.2.2.2.2.2.1 p.2.2.2.2.2.2.2.2.2.2.2.2.2.2.2.2.2.2.2.1 p.2.2.2.2.2.2.2.2.2.2.2.2.2.2.2.2.2.2.2.2.1 p.2.2.2.2.2.2.2.2.2.2.2.2.2.2.2.2.2.2.2.2.2.1 p.2.2.2.2.2.2.2.2.2.2.2.2.2.2.2.2.2.2.2.2.2.2) (by dsimp only; rw [nI_1]; exact hw)
      exact ⟨m, hm post⟩
theorem rg_an38 {post : St1 → Prop} (h : ∀ n, wX_analyse_38 post sz en pl ct kn mv (n + 1) (nI 4) a1 a2 a3 a4 a5 a6 a7 a8 a9 a10 a11 a12 a13 a14 (rg_fill 4 (fun x => rg_nz (a1 x) (a2 x)) a15) (rg_fill 4 (fun x => rg_nz (a1 x) (a2 x)) a16)) : ∃ n, wX_analyse_38 post sz en pl ct kn mv n 0 a1 a2 a3 a4 a5 a6 a7 a8 a9 a10 a11 a12 a13 a14 a15 a16 := by
  have q := pk_loop (σ := Unit) (fun n i _ => wX_analyse_38 post sz en pl ct kn mv n (nI i) a1 a2 a3 a4 a5 a6 a7 a8 a9 a10 a11 a12 a13 a14 (rg_fill i (fun x => rg_nz (a1 x) (a2 x)) a15) (rg_fill i (fun x => rg_nz (a1 x) (a2 x)) a16)) (fun _ _ => True) 4 0 () (by omega) trivial (fun n _ _ => h n)
    (fun n i _ hi _ hw => pk_le 4 i (fun z => absurd z (by omega)) (fun _ => rg_nzw hi ⟨pk_in i 4 hi, nm_r (by rw [nI_clamp (by omega), ← rg_fill_s]) ⟨pk_in i 4 hi, nm_r (by rw [nI_clamp (by omega), ← rg_fill_s]) (nm_r (nI_1 i) (hw () trivial))⟩⟩))
  rw [rg_fill_0, rg_fill_0] at q
  exact q
theorem rg_an10 {post : St1 → Prop} (h : ∀ n, wX_analyse_10 post sz en pl ct kn mv (n + 1) (nI 15) a1 a2 a3 a4 a5 a6 a7 a8 (rg_fill 15 (fun _ => 0) a9) a10 a11 (rg_fill 15 (fun _ => 0) a12) a13 a14 a15 a16) : ∃ n, wX_analyse_10 post sz en pl ct kn mv n 0 a1 a2 a3 a4 a5 a6 a7 a8 a9 a10 a11 a12 a13 a14 a15 a16 := by
  have q := pk_loop (σ := Unit) (fun n i _ => wX_analyse_10 post sz en pl ct kn mv n (nI i) a1 a2 a3 a4 a5 a6 a7 a8 (rg_fill i (fun _ => 0) a9) a10 a11 (rg_fill i (fun _ => 0) a12) a13 a14 a15 a16) (fun _ _ => True) 15 0 () (by omega) trivial (fun n _ _ => h n)
    (fun n i _ hi _ hw => pk_le 15 i (fun z => absurd z (by omega)) (fun _ => ⟨pk_in i 15 hi, nm_r (by rw [nI_clamp (by omega), ← rg_fill_s]) ⟨pk_in i 15 hi, nm_r (by rw [nI_clamp (by omega), ← rg_fill_s]) (nm_r (nI_1 i) (hw () trivial))⟩⟩))
  rw [rg_fill_0, rg_fill_0] at q
  exact q
theorem rg_nzb {l h : Int32} (hl : l ≤ h) : l ≤ rg_nz l h ∧ rg_nz l h ≤ h := by
  unfold rg_nz
  by_cases g : l ≤ 0
  · rw [if_pos g]
    by_cases g' : 0 ≤ h
    · rw [if_pos g']; exact ⟨g, g'⟩
    · rw [if_neg g']; exact ⟨hl, Int32.le_refl _⟩
  · rw [if_neg g]; exact ⟨Int32.le_refl _, hl⟩
theorem rg_analyse {s : Nat} (hs : s ≤ 14) (hwf : ∀ i, i < s → rg_wf a3 a4 a5 a6 i) (hR : ∀ x, x < 4 → -100 ≤ (a1 x).toInt ∧ (a2 x).toInt ≤ 100) (hRl : ∀ x, x < 4 → a1 x ≤ a2 x)
    (hk : kn ≠ 0 → rg_kn s a1 a2 a3 a4 a5 a6 a9 a10 a11 a13 a14) :
    ∃ (kn' : Int32) (K : rg_K) (b13 b14 b15 b16 : Nat → Int32), rg_kn s a1 a2 a3 a4 a5 a6 K.2.1 K.2.2.1 K.2.2.2.1 b13 b14 ∧
      ∀ post : St1 → Prop, post (nI s, en, pl, ct, kn', K.1, a1, a2, a3, a4, a5, a6, a7, a8, K.2.1, K.2.2.1, K.2.2.2.1, K.2.2.2.2, b13, b14, b15, b16) → wpX_analyse post (nI s, en, pl, ct, kn, mv, a1, a2, a3, a4, a5, a6, a7, a8, a9, a10, a11, a12, a13, a14, a15, a16) := by
  by_cases h0 : kn = 0
  · have hA0 : rg_A a1 a2 (0, rg_fill 15 (fun _ => 0) a9, a10, a11, rg_fill 15 (fun _ => 0) a12) := by
      intro t ht
      dsimp only
      rw [rg_fill_in (by omega), rg_fill_in (by omega)]
      have e : rg_mu a1 a2 (0, rg_fill 15 (fun _ => 0) a9, a10, a11, rg_fill 15 (fun _ => 0) a12) t = 13 := rg_mu_n (rg_fill_in (n := 15) (j := t) (f := fun _ => 0) (g := a9) (by omega))
      rw [e, rg_t0]
      exact ⟨Or.inl rfl, by omega, by omega, fun z => absurd rfl z⟩
    obtain ⟨K, hU, hI, w⟩ := @rg_arrive en pl ct kn 0 a1 a2 a3 a4 a5 a6 a7 a8 (rg_fill 15 (fun _ => 0) a9) a10 a11 (rg_fill 15 (fun _ => 0) a12) a13 a14 (rg_fill 4 (fun x => rg_nz (a1 x) (a2 x)) a15) (rg_fill 4 (fun x => rg_nz (a1 x) (a2 x)) a16) s 0 hs (by omega) hA0 (fun x hx => by
      rw [rg_fill_in hx, rg_fill_in hx]
      exact rg_nzb (hRl x hx))
    have hin : ∀ v : Nat → Int32, (∀ x, x < 4 → v x = rg_nz (a1 x) (a2 x)) → rg_in s K.2.1 K.2.2.1 K.2.2.2.1 0 v := fun v hv => hI v (fun x hx => by
      rw [rg_fill_in hx, rg_fill_in hx, hv x hx]
      exact ⟨Int32.le_refl _, Int32.le_refl _⟩)
    obtain ⟨⟨K', b13, b14, b15, b16⟩, hkn, w'⟩ := @rg_rounds en pl ct kn K.1 a1 a2 a3 a4 a5 a6 a7 a8 K.2.1 K.2.2.1 K.2.2.2.1 K.2.2.2.2 a13 a14 (rg_fill 4 (fun x => rg_nz (a1 x) (a2 x)) a15) (rg_fill 4 (fun x => rg_nz (a1 x) (a2 x)) a16) s hs hwf hR hU.1 hin (by
      rcases hU.2.2 with e | ⟨e, _⟩
      · left
        refine ⟨by rw [e], ?_⟩
        by_cases hs0 : s = 0
        · exact hs0
        · have q := (hin (fun x => rg_nz (a1 x) (a2 x)) (fun _ _ => rfl) (by omega)).1
          rw [e] at q
          exact absurd (rg_fill_in (n := 15) (j := 0) (f := fun _ => 0) (g := a9) (by omega)) q
      · exact Or.inr e)
    dsimp only at hkn w'
    refine ⟨1, K', b13, b14, b15, b16, hkn, fun post hp => ?_⟩
    unfold wpX_analyse
    refine br_t h0 (rg_an10 (fun n => pk_le 15 15 (fun _ => rg_an38 (fun m => pk_le 4 4 (fun _ => w _ (w' post hp)) (fun z => absurd z (by omega)))) (fun z => absurd z (by omega))))
  · refine ⟨kn, (mv, a9, a10, a11, a12), a13, a14, a15, a16, hk h0, fun post hp => ?_⟩
    unfold wpX_analyse
    exact br_f h0 hp
end
end
section
/-! the checked interpreter; give, reach, work -/
def rg_gv (a1 a2 : Nat → Int32) (i x : Nat) (w : Int32) (a7 a8 : Nat → Int32) : Int32 × Int32 × (Nat → Int32) × (Nat → Int32) :=
  if a1 x ≤ w ∧ w ≤ a2 x then (nI (i + 1), 0, a7, upd a8 x w) else (-1, 2, a7, a8)
def rg_st (a1 a2 : Nat → Int32) (o : Int32) (x y : Nat) (k : Int32) (i : Nat) (a7 a8 : Nat → Int32) : Int32 × Int32 × (Nat → Int32) × (Nat → Int32) :=
  if o = 6 then ((if a8 y ≤ a8 x then nI (i + 1) else k), 0, a7, a8)
  else if o = 7 then (k, 0, a7, a8)
  else if o = 0 then rg_gv a1 a2 i x k a7 a8
  else if o = 1 then rg_gv a1 a2 i x (a8 y + k) a7 a8
  else if o = 2 then rg_gv a1 a2 i x (a8 y + a8 k.toNatClampNeg) a7 a8
  else if o = 3 then rg_gv a1 a2 i x (a8 y &&& k) a7 a8
  else if ¬ a8 y + k < 0 ∧ a8 y + k ≤ 7 then
    (if o = 4 then rg_gv a1 a2 i x (a7 ((a8 y + k) &&& 7).toNatClampNeg) a7 a8 else (nI (i + 1), 0, upd a7 ((a8 y + k) &&& 7).toNatClampNeg (a8 x), a8))
  else (-1, 3, a7, a8)
section
variable {a1 a2 a7 a8 : Nat → Int32} {x y i : Nat} {k : Int32}
theorem rg_st0 : rg_st a1 a2 (nI 0) x y k i a7 a8 = rg_gv a1 a2 i x k a7 a8 := by
  unfold rg_st
  rw [if_neg (by decide), if_neg (by decide), if_pos (by decide)]
theorem rg_st1 : rg_st a1 a2 (nI 1) x y k i a7 a8 = rg_gv a1 a2 i x (a8 y + k) a7 a8 := by
  unfold rg_st
  rw [if_neg (by decide), if_neg (by decide), if_neg (by decide), if_pos (by decide)]
theorem rg_st2 : rg_st a1 a2 (nI 2) x y k i a7 a8 = rg_gv a1 a2 i x (a8 y + a8 k.toNatClampNeg) a7 a8 := by
  unfold rg_st
  rw [if_neg (by decide), if_neg (by decide), if_neg (by decide), if_neg (by decide), if_pos (by decide)]
theorem rg_st3 : rg_st a1 a2 (nI 3) x y k i a7 a8 = rg_gv a1 a2 i x (a8 y &&& k) a7 a8 := by
  unfold rg_st
  rw [if_neg (by decide), if_neg (by decide), if_neg (by decide), if_neg (by decide), if_neg (by decide), if_pos (by decide)]
theorem rg_st4 : rg_st a1 a2 (nI 4) x y k i a7 a8 = if ¬ a8 y + k < 0 ∧ a8 y + k ≤ 7 then rg_gv a1 a2 i x (a7 ((a8 y + k) &&& 7).toNatClampNeg) a7 a8 else (-1, 3, a7, a8) := by
  unfold rg_st
  rw [if_neg (by decide), if_neg (by decide), if_neg (by decide), if_neg (by decide), if_neg (by decide), if_neg (by decide)]
  rw [if_pos (show nI 4 = 4 by decide)]
theorem rg_st5 : rg_st a1 a2 (nI 5) x y k i a7 a8 = if ¬ a8 y + k < 0 ∧ a8 y + k ≤ 7 then (nI (i + 1), 0, upd a7 ((a8 y + k) &&& 7).toNatClampNeg (a8 x), a8) else (-1, 3, a7, a8) := by
  unfold rg_st
  rw [if_neg (by decide), if_neg (by decide), if_neg (by decide), if_neg (by decide), if_neg (by decide), if_neg (by decide)]
  rw [if_neg (show ¬ nI 5 = 4 by decide)]
theorem rg_st6 : rg_st a1 a2 (nI 6) x y k i a7 a8 = ((if a8 y ≤ a8 x then nI (i + 1) else k), 0, a7, a8) := by
  unfold rg_st
  rw [if_pos (by decide)]
theorem rg_st7 : rg_st a1 a2 (nI 7) x y k i a7 a8 = (k, 0, a7, a8) := by
  unfold rg_st
  rw [if_neg (by decide), if_pos (by decide)]
end
section
variable {sz en pl ct kn mv : Int32} {a1 a2 a3 a4 a5 a6 a7 a8 a9 a10 a11 a12 a13 a14 a15 a16 : Nat → Int32}
theorem rg_give {i x : Nat} {w : Int32} (hi : i < 14) (hx : x < 4) (hc : a13 i ≠ 0 → a1 x ≤ w ∧ w ≤ a2 x) (post : Int32 → St1 → Prop)
    (h1 : a1 x ≤ w ∧ w ≤ a2 x → post 1 (sz, en, pl, ct, kn, mv, a1, a2, a3, a4, a5, a6, a7, upd a8 x w, a9, a10, a11, a12, a13, a14, a15, a16)) (h0 : ¬ (a1 x ≤ w ∧ w ≤ a2 x) → post 0 (sz, 2, nI i, ct, kn, mv, a1, a2, a3, a4, a5, a6, a7, a8, a9, a10, a11, a12, a13, a14, a15, a16)) : wpX_give post (sz, en, pl, ct, kn, mv, a1, a2, a3, a4, a5, a6, a7, a8, a9, a10, a11, a12, a13, a14, a15, a16) (nI i) (nI x) w := by
  unfold wpX_give
  dsimp only
  rw [nI_clamp (show i < 2 ^ 31 by omega), nI_clamp (show x < 2 ^ 31 by omega)]
  refine ⟨pk_in i 14 hi, br_c (fun _ => ⟨pk_in x 4 hx, br_c (fun g => h0 (fun z => ?_)) (fun g => ⟨pk_in x 4 hx, br_c (fun g' => ⟨pk_in x 4 hx, nm_e (h1 ⟨Int32.not_lt.mp g, g'⟩)⟩) (fun g' => h0 (fun z => g' z.2))⟩)⟩) (fun g => ⟨pk_in x 4 hx, nm_e (h1 (hc g))⟩)⟩
  exact absurd g (Int32.not_lt.mpr z.1)
theorem rg_reach {i : Nat} {w : Int32} (hi : i < 14) (hc : a14 i ≠ 0 → ¬ w < 0 ∧ w ≤ 7) (post : Int32 → St1 → Prop)
    (h1 : ¬ w < 0 ∧ w ≤ 7 → post 1 (sz, en, pl, ct, kn, mv, a1, a2, a3, a4, a5, a6, a7, a8, a9, a10, a11, a12, a13, a14, a15, a16)) (h0 : ¬ (¬ w < 0 ∧ w ≤ 7) → post 0 (sz, 3, nI i, ct, kn, mv, a1, a2, a3, a4, a5, a6, a7, a8, a9, a10, a11, a12, a13, a14, a15, a16)) : wpX_reach post (sz, en, pl, ct, kn, mv, a1, a2, a3, a4, a5, a6, a7, a8, a9, a10, a11, a12, a13, a14, a15, a16) (nI i) w := by
  unfold wpX_reach
  dsimp only
  rw [nI_clamp (show i < 2 ^ 31 by omega)]
  exact ⟨pk_in i 14 hi, br_c (fun _ => br_c (fun g => h0 (fun z => z.1 g)) (fun g => br_c (fun g' => h1 ⟨g, g'⟩) (fun g' => h0 (fun z => g' z.2)))) (fun g => h1 (hc g))⟩
theorem rg_gvw {i x : Nat} {w : Int32} (hi : i < 14) (hx : x < 4) (hc : a13 i ≠ 0 → a1 x ≤ w ∧ w ≤ a2 x) {post : Int32 → St1 → Prop}
    (h : post (rg_gv a1 a2 i x w a7 a8).1 (sz, if (rg_gv a1 a2 i x w a7 a8).2.1 = 0 then en else (rg_gv a1 a2 i x w a7 a8).2.1, if (rg_gv a1 a2 i x w a7 a8).2.1 = 0 then pl else nI i, ct, kn, mv, a1, a2, a3, a4, a5, a6, (rg_gv a1 a2 i x w a7 a8).2.2.1, (rg_gv a1 a2 i x w a7 a8).2.2.2, a9, a10, a11, a12, a13, a14, a15, a16))
    (G : Int32 → St1 → Prop) (hG : ∀ (r en pl : Int32) (a8 : Nat → Int32), wX_work_246 post (nI i) r sz en pl ct kn mv a1 a2 a3 a4 a5 a6 a7 a8 a9 a10 a11 a12 a13 a14 a15 a16 → G r (sz, en, pl, ct, kn, mv, a1, a2, a3, a4, a5, a6, a7, a8, a9, a10, a11, a12, a13, a14, a15, a16)) : wpX_give G (sz, en, pl, ct, kn, mv, a1, a2, a3, a4, a5, a6, a7, a8, a9, a10, a11, a12, a13, a14, a15, a16) (nI i) (nI x) w := by
  refine rg_give hi hx hc G (fun g => hG _ _ _ _ ?_) (fun g => hG _ _ _ _ ?_)
  · unfold rg_gv at h
    rw [if_pos g] at h
    unfold wX_work_246
    rw [nI_1]
    exact br_f (by decide) h
  · unfold rg_gv at h
    rw [if_neg g] at h
    unfold wX_work_246
    exact br_t rfl h
theorem rg_work {s i : Nat} (hi : i < 14) (hwf : rg_wf a3 a4 a5 a6 i)
    (hc : rg_cv s a1 a2 a9 a10 a11 a13 a14 (a3 i) (a4 i).toNatClampNeg (a5 i).toNatClampNeg (a6 i) i a8) (h7 : ∀ j, j < 8 → -100 ≤ a7 j ∧ a7 j ≤ 100) {r : Int32 × Int32 × (Nat → Int32) × (Nat → Int32)}
    (hr : r = rg_st a1 a2 (a3 i) (a4 i).toNatClampNeg (a5 i).toNatClampNeg (a6 i) i a7 a8) {post : Int32 → St1 → Prop}
    (h : post r.1 (sz, if r.2.1 = 0 then en else r.2.1, if r.2.1 = 0 then pl else nI i, ct, kn, mv, a1, a2, a3, a4, a5, a6, r.2.2.1, r.2.2.2, a9, a10, a11, a12, a13, a14, a15, a16)) : wpX_work post (sz, en, pl, ct, kn, mv, a1, a2, a3, a4, a5, a6, a7, a8, a9, a10, a11, a12, a13, a14, a15, a16) (nI i) := by
  obtain ⟨o, x, y, e3, e4, e5, ho, hx, hy, k1, k2, k3, k4, k5⟩ := hwf
  have c4 : (a4 i).toNatClampNeg = x := by rw [e4]; exact nI_clamp (by omega)
  have c5 : (a5 i).toNatClampNeg = y := by rw [e5]; exact nI_clamp (by omega)
  rw [e3, c4, c5] at hc hr
  unfold wpX_work
  dsimp only
  rw [nI_clamp (show i < 2 ^ 31 by omega)]
  refine ⟨pk_in i 14 hi, nm_r e3 ⟨pk_in i 14 hi, nm_r e4 ⟨pk_in i 14 hi, nm_r e5 ⟨pk_in i 14 hi, nm_e ?_⟩⟩⟩⟩
  rw [nI_clamp (show x < 2 ^ 31 by omega), nI_clamp (show y < 2 ^ 31 by omega)]
  obtain ⟨q6, q7, q0, q1, q2, q3, q4, q5⟩ := hc
  rcases (show o = 0 ∨ o = 1 ∨ o = 2 ∨ o = 3 ∨ o = 4 ∨ o = 5 ∨ o = 6 ∨ o = 7 by omega) with rfl | rfl | rfl | rfl | rfl | rfl | rfl | rfl
  · rw [rg_st0] at hr
    subst hr
    exact br_f (by decide) (br_t (by decide) (br_t (by decide) (rg_gvw hi hx (q0 (by decide)).1 h _ (fun _ _ _ _ z => z))))
  · rw [rg_st1] at hr
    subst hr
    exact br_f (by decide) (br_t (by decide) (br_f (by decide) (br_t (by decide) ⟨pk_in y 4 hy, rg_gvw hi hx (q1 (by decide)).1 h _ (fun _ _ _ _ z => z)⟩)))
  · obtain ⟨z, hz, e6⟩ := k3 rfl
    rw [rg_st2] at hr
    subst hr
    exact br_f (by decide) (br_t (by decide) (br_f (by decide) (br_f (by decide) (br_t (by decide) ⟨pk_in y 4 hy, pk_in z 4 hz e6, rg_gvw hi hx (q2 (by decide)).1 h _ (fun _ _ _ _ z => z)⟩))))
  · rw [rg_st3] at hr
    subst hr
    exact br_f (by decide) (br_t (by decide) (br_f (by decide) (br_f (by decide) (br_f (by decide) (br_t (by decide) ⟨pk_in y 4 hy, rg_gvw hi hx (q3 (by decide)).1 h _ (fun _ _ _ _ z => z)⟩)))))
  · rw [rg_st4] at hr
    obtain ⟨p1, p2⟩ := q4 (by decide)
    have p7 : vp_in ((a8 y + a6 i) &&& 7) 8 := pk_andIn (a8 y + a6 i) (m := 7) 3 (by decide) (by omega)
    refine br_f (by decide) (br_t (by decide) (br_f (by decide) (br_f (by decide) (br_f (by decide) (br_f (by decide) ⟨pk_in y 4 hy, nm_e (rg_reach hi p1 _ (fun g => ?_) (fun g => ?_))⟩)))))
    · rw [if_pos g] at hr
      subst hr
      obtain ⟨j, hj, ej⟩ := vp_in_of p7 (by omega)
      have h7' := h7 j hj
      refine br_f (by decide) (br_t (by decide) ⟨p7, rg_gvw hi hx (p2 g.1 g.2 _ ?_ ?_).1 h _ (fun _ _ _ _ z => z)⟩)
      · rw [ej, nI_clamp (by omega)]; exact h7'.1
      · rw [ej, nI_clamp (by omega)]; exact h7'.2
    · rw [if_neg g] at hr
      subst hr
      exact br_t rfl (br_t rfl (br_t rfl h))
  · rw [rg_st5] at hr
    obtain ⟨p1, p2⟩ := q5 (by decide)
    have p7 : vp_in ((a8 y + a6 i) &&& 7) 8 := pk_andIn (a8 y + a6 i) (m := 7) 3 (by decide) (by omega)
    refine br_f (by decide) (br_t (by decide) (br_f (by decide) (br_f (by decide) (br_f (by decide) (br_f (by decide) ⟨pk_in y 4 hy, nm_e (rg_reach hi p1 _ (fun g => ?_) (fun g => ?_))⟩)))))
    · rw [if_pos g] at hr
      subst hr
      refine br_f (by decide) (br_f (by decide) (br_f (by decide) ⟨pk_in x 4 hx, p7, nm_e (br_f (by decide) ?_)⟩))
      rw [nI_clamp (show x < 2 ^ 31 by omega), nI_1]
      exact h
    · rw [if_neg g] at hr
      subst hr
      exact br_t rfl (br_t rfl (br_t rfl h))
  · rw [rg_st6] at hr
    refine br_t (by decide) ⟨pk_in x 4 hx, pk_in y 4 hy, br_c (fun g => ?_) (fun g => ?_)⟩
    · rw [if_pos g] at hr
      subst hr
      rw [nI_1]
      exact h
    · rw [if_neg g] at hr
      subst hr
      exact h
  · rw [rg_st7] at hr
    subst hr
    exact br_f (by decide) (br_f (by decide) h)
end
end
section
/-! the run: z = (next, end, place, count, cells, values) -/
abbrev rg_Z : Type := Int32 × Int32 × Int32 × Int32 × (Nat → Int32) × (Nat → Int32)
def rg_sr (a1 a2 a3 a4 a5 a6 : Nat → Int32) (z : rg_Z) : Int32 × Int32 × (Nat → Int32) × (Nat → Int32) :=
  rg_st a1 a2 (a3 z.1.toNatClampNeg) (a4 z.1.toNatClampNeg).toNatClampNeg (a5 z.1.toNatClampNeg).toNatClampNeg (a6 z.1.toNatClampNeg) z.1.toNatClampNeg z.2.2.2.2.1 z.2.2.2.2.2
def rg_stz (a1 a2 a3 a4 a5 a6 : Nat → Int32) (z : rg_Z) : rg_Z :=
  ((rg_sr a1 a2 a3 a4 a5 a6 z).1, (if (rg_sr a1 a2 a3 a4 a5 a6 z).2.1 = 0 then z.2.1 else (rg_sr a1 a2 a3 a4 a5 a6 z).2.1), (if (rg_sr a1 a2 a3 a4 a5 a6 z).2.1 = 0 then z.2.2.1 else z.1), z.2.2.2.1 + 1, (rg_sr a1 a2 a3 a4 a5 a6 z).2.2.1, (rg_sr a1 a2 a3 a4 a5 a6 z).2.2.2)
def rg_ex (sz : Int32) (a1 a2 a3 a4 a5 a6 : Nat → Int32) : Nat → rg_Z → rg_Z
  | 0, z => z
  | n + 1, z => if z.1 < 0 ∨ sz ≤ z.1 then z else rg_ex sz a1 a2 a3 a4 a5 a6 n (rg_stz a1 a2 a3 a4 a5 a6 z)
def rg_fin (sz : Int32) (z : rg_Z) : Int32 × Int32 := if z.1 < sz then (if z.1 < 0 then (z.2.1, z.2.2.1) else (4, -1)) else (1, -1)
/-- what holds of z all along -/
def rg_zi (s : Nat) (a1 a2 a9 a10 a11 : Nat → Int32) (z : rg_Z) : Prop :=
  ((z.1 = -1 ∧ (z.2.1 = 2 ∨ z.2.1 = 3) ∧ ¬ z.2.2.1 < 0) ∨ (∃ j, j ≤ 14 ∧ z.1 = nI j ∧ rg_in s a9 a10 a11 j z.2.2.2.2.2)) ∧
  (∀ x, x < 4 → a1 x ≤ z.2.2.2.2.2 x ∧ z.2.2.2.2.2 x ≤ a2 x) ∧ (∀ j, j < 8 → -100 ≤ z.2.2.2.2.1 j ∧ z.2.2.2.2.1 j ≤ 100)
section
variable {sz en pl ct kn mv : Int32} {a1 a2 a3 a4 a5 a6 a7 a8 a9 a10 a11 a12 a13 a14 a15 a16 : Nat → Int32}
theorem rg_gvz {s i x : Nat} {w e p c : Int32} {r : Int32 × Int32 × (Nat → Int32) × (Nat → Int32)} (hr : r = rg_gv a1 a2 i x w a7 a8) (hi : i < 14) (hg : rg_giv s a1 a2 a9 a10 a11 a13 i a8 x w)
    (h8 : ∀ x, x < 4 → a1 x ≤ a8 x ∧ a8 x ≤ a2 x) (h7 : ∀ j, j < 8 → -100 ≤ a7 j ∧ a7 j ≤ 100) :
    rg_zi s a1 a2 a9 a10 a11 (r.1, (if r.2.1 = 0 then e else r.2.1), (if r.2.1 = 0 then p else nI i), c, r.2.2.1, r.2.2.2) := by
  unfold rg_gv at hr
  by_cases g : a1 x ≤ w ∧ w ≤ a2 x
  · rw [if_pos g] at hr
    subst hr
    refine ⟨Or.inr ⟨i + 1, by omega, rfl, hg.2 g.1 g.2⟩, fun j hj => ?_, h7⟩
    dsimp only
    by_cases e : j = x
    · subst e
      rw [pk_us]
      exact g
    · rw [pk_un e]
      exact h8 j hj
  · rw [if_neg g] at hr
    subst hr
    exact ⟨Or.inl ⟨rfl, Or.inl rfl, nI_pos (by omega)⟩, h8, h7⟩
theorem rg_b100 {w l h : Int32} (h1 : -100 ≤ l.toInt) (h2 : h.toInt ≤ 100) (g1 : l ≤ w) (g2 : w ≤ h) : -100 ≤ w ∧ w ≤ 100 := by
  rw [rg_le] at g1 g2
  rw [rg_le, rg_le, rg_t100, rg_tm100]
  omega
theorem rg_stz_zi {s i : Nat} (hs : s ≤ 14) (hi : i < s) (hwf : rg_wf a3 a4 a5 a6 i) (hR : ∀ x, x < 4 → -100 ≤ (a1 x).toInt ∧ (a2 x).toInt ≤ 100)
    (hc : rg_cv s a1 a2 a9 a10 a11 a13 a14 (a3 i) (a4 i).toNatClampNeg (a5 i).toNatClampNeg (a6 i) i a8) (h8 : ∀ x, x < 4 → a1 x ≤ a8 x ∧ a8 x ≤ a2 x) (h7 : ∀ j, j < 8 → -100 ≤ a7 j ∧ a7 j ≤ 100) :
    rg_zi s a1 a2 a9 a10 a11 (rg_stz a1 a2 a3 a4 a5 a6 (nI i, en, pl, ct, a7, a8)) := by
  obtain ⟨o, x, y, e3, e4, e5, ho, hx, hy, k1, k2, k3, k4, k5⟩ := hwf
  have c4 : (a4 i).toNatClampNeg = x := by rw [e4]; exact nI_clamp (by omega)
  have c5 : (a5 i).toNatClampNeg = y := by rw [e5]; exact nI_clamp (by omega)
  have hr : rg_sr a1 a2 a3 a4 a5 a6 (nI i, en, pl, ct, a7, a8) = rg_st a1 a2 (nI o) x y (a6 i) i a7 a8 := by
    unfold rg_sr
    dsimp only
    rw [nI_clamp (show i < 2 ^ 31 by omega), e3, c4, c5]
  unfold rg_stz
  dsimp only
  rw [e3, c4, c5] at hc
  obtain ⟨q6, q7, q0, q1, q2, q3, q4, q5⟩ := hc
  have go : ∀ w, rg_sr a1 a2 a3 a4 a5 a6 (nI i, en, pl, ct, a7, a8) = rg_gv a1 a2 i x w a7 a8 → rg_giv s a1 a2 a9 a10 a11 a13 i a8 x w → rg_zi s a1 a2 a9 a10 a11 ((rg_sr a1 a2 a3 a4 a5 a6 (nI i, en, pl, ct, a7, a8)).1, (if (rg_sr a1 a2 a3 a4 a5 a6 (nI i, en, pl, ct, a7, a8)).2.1 = 0 then en else (rg_sr a1 a2 a3 a4 a5 a6 (nI i, en, pl, ct, a7, a8)).2.1), (if (rg_sr a1 a2 a3 a4 a5 a6 (nI i, en, pl, ct, a7, a8)).2.1 = 0 then pl else nI i), ct + 1, (rg_sr a1 a2 a3 a4 a5 a6 (nI i, en, pl, ct, a7, a8)).2.2.1, (rg_sr a1 a2 a3 a4 a5 a6 (nI i, en, pl, ct, a7, a8)).2.2.2) :=
    fun w e g => rg_gvz e (by omega) g h8 h7
  rcases (show o = 0 ∨ o = 1 ∨ o = 2 ∨ o = 3 ∨ o = 4 ∨ o = 5 ∨ o = 6 ∨ o = 7 by omega) with rfl | rfl | rfl | rfl | rfl | rfl | rfl | rfl
  · rw [rg_st0] at hr
    exact go _ hr (q0 (by decide))
  · rw [rg_st1] at hr
    exact go _ hr (q1 (by decide))
  · rw [rg_st2] at hr
    exact go _ hr (q2 (by decide))
  · rw [rg_st3] at hr
    exact go _ hr (q3 (by decide))
  · rw [rg_st4] at hr
    by_cases g : ¬ a8 y + a6 i < 0 ∧ a8 y + a6 i ≤ 7
    · rw [if_pos g] at hr
      obtain ⟨j, hj, ej⟩ := vp_in_of (pk_andIn (a8 y + a6 i) (m := 7) 3 (by decide) (by omega)) (by omega)
      refine go _ hr ((q4 (by decide)).2 g.1 g.2 _ ?_ ?_)
      · rw [ej, nI_clamp (by omega)]; exact (h7 j hj).1
      · rw [ej, nI_clamp (by omega)]; exact (h7 j hj).2
    · rw [if_neg g] at hr
      rw [hr]
      exact ⟨Or.inl ⟨rfl, Or.inr rfl, nI_pos (by omega)⟩, h8, h7⟩
  · rw [rg_st5] at hr
    by_cases g : ¬ a8 y + a6 i < 0 ∧ a8 y + a6 i ≤ 7
    · rw [if_pos g] at hr
      rw [hr]
      refine ⟨Or.inr ⟨i + 1, by omega, rfl, (q5 (by decide)).2 g.1 g.2⟩, h8, fun j hj => ?_⟩
      dsimp only
      by_cases e : j = ((a8 y + a6 i) &&& 7).toNatClampNeg
      · rw [← e, pk_us]
        exact rg_b100 (hR x hx).1 (hR x hx).2 (h8 x hx).1 (h8 x hx).2
      · rw [pk_un e]
        exact h7 j hj
    · rw [if_neg g] at hr
      rw [hr]
      exact ⟨Or.inl ⟨rfl, Or.inr rfl, nI_pos (by omega)⟩, h8, h7⟩
  · obtain ⟨t, ht, e6⟩ := k5 (by omega)
    rw [rg_st6] at hr
    rw [hr]
    refine ⟨Or.inr ?_, h8, h7⟩
    dsimp only
    by_cases g : a8 y ≤ a8 x
    · rw [if_pos g]
      exact ⟨i + 1, by omega, rfl, (q6 (by decide)).1 g⟩
    · rw [if_neg g]
      refine ⟨t, ht, e6, ?_⟩
      have q := (q6 (by decide)).2 g
      rw [e6, nI_clamp (by omega)] at q
      exact q
  · obtain ⟨t, ht, e6⟩ := k5 (by omega)
    rw [rg_st7] at hr
    rw [hr]
    refine ⟨Or.inr ⟨t, ht, e6, ?_⟩, h8, h7⟩
    have q := q7 (by decide)
    rw [e6, nI_clamp (by omega)] at q
    exact q
/-- the step of a state that goes on -/
theorem rg_zi_s {s : Nat} (hs : s ≤ 14) (hwf : ∀ i, i < s → rg_wf a3 a4 a5 a6 i) (hR : ∀ x, x < 4 → -100 ≤ (a1 x).toInt ∧ (a2 x).toInt ≤ 100) (hk : rg_kn s a1 a2 a3 a4 a5 a6 a9 a10 a11 a13 a14)
    {z : rg_Z} (hz : rg_zi s a1 a2 a9 a10 a11 z) (hg : ¬ (z.1 < 0 ∨ nI s ≤ z.1)) :
    ∃ i, i < s ∧ z.1 = nI i ∧ rg_cv s a1 a2 a9 a10 a11 a13 a14 (a3 i) (a4 i).toNatClampNeg (a5 i).toNatClampNeg (a6 i) i z.2.2.2.2.2 ∧ rg_zi s a1 a2 a9 a10 a11 (rg_stz a1 a2 a3 a4 a5 a6 z) := by
  obtain ⟨z1, e, p, c, b7, b8⟩ := z
  obtain ⟨q, h8, h7⟩ := hz
  dsimp only at q h8 h7 hg ⊢
  rcases q with ⟨q, _⟩ | ⟨j, hj, ej, hin⟩
  · subst q
    exact absurd (Or.inl (by decide)) hg
  · subst ej
    have hjs : j < s := Nat.lt_of_not_le (fun z => hg (Or.inr (nI_le z (by omega))))
    obtain ⟨hr, hb⟩ := hin hjs
    have hc := hk.2 j hjs hr b8 hb
    exact ⟨j, hjs, rfl, hc, rg_stz_zi hs hjs (hwf j hjs) hR hc h8 h7⟩
theorem rg_ex_zi {s : Nat} (hs : s ≤ 14) (hwf : ∀ i, i < s → rg_wf a3 a4 a5 a6 i) (hR : ∀ x, x < 4 → -100 ≤ (a1 x).toInt ∧ (a2 x).toInt ≤ 100) (hk : rg_kn s a1 a2 a3 a4 a5 a6 a9 a10 a11 a13 a14) :
    ∀ (n : Nat) (z : rg_Z), rg_zi s a1 a2 a9 a10 a11 z → rg_zi s a1 a2 a9 a10 a11 (rg_ex (nI s) a1 a2 a3 a4 a5 a6 n z) := by
  intro n
  induction n with
  | zero => exact fun z h => h
  | succ n ih =>
    intro z h
    unfold rg_ex
    by_cases g : z.1 < 0 ∨ nI s ≤ z.1
    · rw [if_pos g]; exact h
    · rw [if_neg g]
      obtain ⟨i, _, _, _, q⟩ := rg_zi_s hs hwf hR hk h g
      exact ih _ q
theorem rg_run77 {post : Int32 → St1 → Prop} {x1 : Int32} (h : post (rg_fin sz (x1, en, pl, ct, a7, a8)).1 (sz, (rg_fin sz (x1, en, pl, ct, a7, a8)).1, (rg_fin sz (x1, en, pl, ct, a7, a8)).2, ct, kn, mv, a1, a2, a3, a4, a5, a6, a7, a8, a9, a10, a11, a12, a13, a14, a15, a16)) : wX_run_77 post x1 sz en pl ct kn mv a1 a2 a3 a4 a5 a6 a7 a8 a9 a10 a11 a12 a13 a14 a15 a16 := by
  unfold rg_fin at h
  dsimp only at h
  unfold wX_run_77
  refine br_c (fun g => br_c (fun g' => ?_) (fun g' => ?_)) (fun g => ?_)
  · rw [if_pos g, if_pos g'] at h
    exact h
  · rw [if_pos g, if_neg g'] at h
    exact h
  · rw [if_neg g] at h
    exact h
theorem rg_run37 {s : Nat} (hs : s ≤ 14) (hwf : ∀ i, i < s → rg_wf a3 a4 a5 a6 i) (hR : ∀ x, x < 4 → -100 ≤ (a1 x).toInt ∧ (a2 x).toInt ≤ 100) (hk : rg_kn s a1 a2 a3 a4 a5 a6 a9 a10 a11 a13 a14) {post : Int32 → St1 → Prop} :
    ∀ (n c : Nat) (z : rg_Z), c + n = 120 → rg_zi s a1 a2 a9 a10 a11 z →
      post (rg_fin (nI s) (rg_ex (nI s) a1 a2 a3 a4 a5 a6 n z)).1 (nI s, (rg_fin (nI s) (rg_ex (nI s) a1 a2 a3 a4 a5 a6 n z)).1, (rg_fin (nI s) (rg_ex (nI s) a1 a2 a3 a4 a5 a6 n z)).2, (rg_ex (nI s) a1 a2 a3 a4 a5 a6 n z).2.2.2.1, kn, mv, a1, a2, a3, a4, a5, a6, (rg_ex (nI s) a1 a2 a3 a4 a5 a6 n z).2.2.2.2.1, (rg_ex (nI s) a1 a2 a3 a4 a5 a6 n z).2.2.2.2.2, a9, a10, a11, a12, a13, a14, a15, a16) →
      ∃ fu, wX_run_37 post fu z.1 (nI c) (nI s) z.2.1 z.2.2.1 z.2.2.2.1 kn mv a1 a2 a3 a4 a5 a6 z.2.2.2.2.1 z.2.2.2.2.2 a9 a10 a11 a12 a13 a14 a15 a16 := by
  intro n
  induction n with
  | zero =>
    intro c z hc hz h
    have hc : c = 120 := by omega
    subst hc
    exact ⟨1, pk_le 120 120 (fun _ => rg_run77 h) (fun z => absurd z (by omega))⟩
  | succ n ih =>
    intro c z hc hz h
    by_cases g : z.1 < 0 ∨ nI s ≤ z.1
    · unfold rg_ex at h
      rw [if_pos g] at h
      exact ⟨1, pk_le 120 c (fun z => absurd z (by omega)) (fun _ => br_c (fun _ => rg_run77 h) (fun g1 => br_c (fun _ => rg_run77 h) (fun g2 => absurd g (fun q => q.elim g1 g2))))⟩
    · unfold rg_ex at h
      rw [if_neg g] at h
      obtain ⟨i, his, ei, hcv, hzi⟩ := rg_zi_s hs hwf hR hk hz g
      obtain ⟨fu, hf⟩ := ih (c + 1) _ (by omega) hzi h
      refine ⟨fu + 1, pk_le 120 c (fun z => absurd z (by omega)) (fun _ => br_f (fun q => g (Or.inl q)) (br_f (fun q => g (Or.inr q)) (nm_e ?_)))⟩
      have hsr : rg_sr a1 a2 a3 a4 a5 a6 z = rg_st a1 a2 (a3 i) (a4 i).toNatClampNeg (a5 i).toNatClampNeg (a6 i) i z.2.2.2.2.1 z.2.2.2.2.2 := by
        unfold rg_sr
        rw [ei, nI_clamp (show i < 2 ^ 31 by omega)]
      unfold rg_stz at hf
      dsimp only at hf
      rw [ei] at hf ⊢
      exact rg_work (by omega) (hwf i his) hcv hz.2.2 hsr (nm_r (nI_1 c) hf)
theorem rg_run6 {post : Int32 → St1 → Prop} (h : ∀ n, wX_run_6 post sz en pl ct kn mv (n + 1) (nI 4) a1 a2 a3 a4 a5 a6 a7 (rg_fill 4 (fun x => rg_nz (a1 x) (a2 x)) a8) a9 a10 a11 a12 a13 a14 a15 a16) : ∃ n, wX_run_6 post sz en pl ct kn mv n 0 a1 a2 a3 a4 a5 a6 a7 a8 a9 a10 a11 a12 a13 a14 a15 a16 := by
  have q := pk_loop (σ := Unit) (fun n i _ => wX_run_6 post sz en pl ct kn mv n (nI i) a1 a2 a3 a4 a5 a6 a7 (rg_fill i (fun x => rg_nz (a1 x) (a2 x)) a8) a9 a10 a11 a12 a13 a14 a15 a16) (fun _ _ => True) 4 0 () (by omega) trivial (fun n _ _ => h n)
    (fun n i _ hi _ hw => pk_le 4 i (fun z => absurd z (by omega)) (fun _ => rg_nzw hi ⟨pk_in i 4 hi, nm_r (by rw [nI_clamp (by omega), ← rg_fill_s]) (nm_r (nI_1 i) (hw () trivial))⟩))
  rw [rg_fill_0] at q
  exact q
/-- what the run comes to -/
def rg_rz (s : Nat) (a1 a2 a3 a4 a5 a6 : Nat → Int32) (en pl : Int32) (a7 a8 : Nat → Int32) : rg_Z :=
  rg_ex (nI s) a1 a2 a3 a4 a5 a6 120 (0, en, pl, 0, a7, rg_fill 4 (fun x => rg_nz (a1 x) (a2 x)) a8)
theorem rg_run {s : Nat} (hs : s ≤ 14) (hwf : ∀ i, i < s → rg_wf a3 a4 a5 a6 i) (hR : ∀ x, x < 4 → -100 ≤ (a1 x).toInt ∧ (a2 x).toInt ≤ 100) (hRl : ∀ x, x < 4 → a1 x ≤ a2 x) (h7 : ∀ j, j < 8 → -100 ≤ a7 j ∧ a7 j ≤ 100)
    (hk : kn ≠ 0 → rg_kn s a1 a2 a3 a4 a5 a6 a9 a10 a11 a13 a14) :
    ∃ (kn' : Int32) (K : rg_K) (b13 b14 b15 b16 : Nat → Int32), rg_kn s a1 a2 a3 a4 a5 a6 K.2.1 K.2.2.1 K.2.2.2.1 b13 b14 ∧ rg_zi s a1 a2 K.2.1 K.2.2.1 K.2.2.2.1 (rg_rz s a1 a2 a3 a4 a5 a6 en pl a7 a8) ∧
      ∀ post : Int32 → St1 → Prop, post (rg_fin (nI s) (rg_rz s a1 a2 a3 a4 a5 a6 en pl a7 a8)).1 (nI s, (rg_fin (nI s) (rg_rz s a1 a2 a3 a4 a5 a6 en pl a7 a8)).1, (rg_fin (nI s) (rg_rz s a1 a2 a3 a4 a5 a6 en pl a7 a8)).2, (rg_rz s a1 a2 a3 a4 a5 a6 en pl a7 a8).2.2.2.1, kn', K.1, a1, a2, a3, a4, a5, a6, (rg_rz s a1 a2 a3 a4 a5 a6 en pl a7 a8).2.2.2.2.1, (rg_rz s a1 a2 a3 a4 a5 a6 en pl a7 a8).2.2.2.2.2, K.2.1, K.2.2.1, K.2.2.2.1, K.2.2.2.2, b13, b14, b15, b16) → wpX_run post (nI s, en, pl, ct, kn, mv, a1, a2, a3, a4, a5, a6, a7, a8, a9, a10, a11, a12, a13, a14, a15, a16) := by
  obtain ⟨kn', K, b13, b14, b15, b16, hkn, w⟩ := @rg_analyse en pl ct kn mv a1 a2 a3 a4 a5 a6 a7 a8 a9 a10 a11 a12 a13 a14 a15 a16 s hs hwf hR hRl hk
  have h0 : rg_zi s a1 a2 K.2.1 K.2.2.1 K.2.2.2.1 (0, en, pl, 0, a7, rg_fill 4 (fun x => rg_nz (a1 x) (a2 x)) a8) :=
    ⟨Or.inr ⟨0, by omega, rfl, hkn.1 _ (fun x hx => rg_fill_in (n := 4) (j := x) (f := fun x => rg_nz (a1 x) (a2 x)) (g := a8) hx)⟩, fun x hx => by
      dsimp only
      rw [rg_fill_in hx]
      exact rg_nzb (hRl x hx), h7⟩
  refine ⟨kn', K, b13, b14, b15, b16, hkn, rg_ex_zi hs hwf hR hkn 120 _ h0, fun post hp => ?_⟩
  unfold wpX_run
  refine w _ (rg_run6 (fun n => pk_le 4 4 (fun _ => rg_run37 hs hwf hR hkn 120 0 _ (by omega) h0 hp) (fun z => absurd z (by omega))))
end
end
section
/-! what holds between the law's turns; the methods that a turn calls -/
def rg_inv (s : Nat) (en pl kn : Int32) (a1 a2 a3 a4 a5 a6 a7 a9 a10 a11 a13 a14 : Nat → Int32) : Prop :=
  s ≤ 14 ∧ (∀ i, i < s → rg_wf a3 a4 a5 a6 i) ∧ (∀ x, x < 4 → -100 ≤ (a1 x).toInt ∧ (a2 x).toInt ≤ 100) ∧ (∀ x, x < 4 → a1 x ≤ a2 x) ∧ (∀ j, j < 8 → -100 ≤ a7 j ∧ a7 j ≤ 100) ∧
  (pl = -1 ↔ (en = 0 ∨ en = 1 ∨ en = 4)) ∧ (kn ≠ 0 → rg_kn s a1 a2 a3 a4 a5 a6 a9 a10 a11 a13 a14)
def rg_Inv (u : St1) : Prop := match u with
  | (sz, en, pl, ct, kn, mv, a1, a2, a3, a4, a5, a6, a7, a8, a9, a10, a11, a12, a13, a14, a15, a16) => ∃ s : Nat, sz = nI s ∧ rg_inv s en pl kn a1 a2 a3 a4 a5 a6 a7 a9 a10 a11 a13 a14
def rg_lw (u : St1) : Nat → Int32 := match u with
  | (sz, en, pl, ct, kn, mv, a1, a2, a3, a4, a5, a6, a7, a8, a9, a10, a11, a12, a13, a14, a15, a16) => a1
def rg_hg (u : St1) : Nat → Int32 := match u with
  | (sz, en, pl, ct, kn, mv, a1, a2, a3, a4, a5, a6, a7, a8, a9, a10, a11, a12, a13, a14, a15, a16) => a2
/-- a call that ends, its end one and the same for all posts -/
def rg_ran (w : (Int32 → St1 → Prop) → Prop) (Q : Int32 → St1 → Prop) : Prop := ∃ r u, Q r u ∧ ∀ post, post r u → w post
def rg_Q (l h : Nat → Int32) (_ : Int32) (u : St1) : Prop := rg_Inv u ∧ rg_lw u = l ∧ rg_hg u = h
section
variable {sz en pl ct kn mv : Int32} {a1 a2 a3 a4 a5 a6 a7 a8 a9 a10 a11 a12 a13 a14 a15 a16 : Nat → Int32}
theorem rg_bad {post : Int32 → Prop} {x : Nat} (hx : x < 4) (h : post 0) : wpX_bad post (sz, en, pl, ct, kn, mv, a1, a2, a3, a4, a5, a6, a7, a8, a9, a10, a11, a12, a13, a14, a15, a16) (nI x) := by
  unfold wpX_bad
  exact br_f (nI_pos (by omega)) (br_t (nI_le (a := x) (b := 3) (by omega) (by omega)) h)
theorem rg_badN {post : Int32 → Prop} {k : Int32} (h1 : -100 ≤ k.toInt) (h2 : k.toInt ≤ 100) (h : post 0) : wpX_badNumber post (sz, en, pl, ct, kn, mv, a1, a2, a3, a4, a5, a6, a7, a8, a9, a10, a11, a12, a13, a14, a15, a16) k := by
  unfold wpX_badNumber
  exact br_f (by rw [rg_lt, rg_tm100]; omega) (br_t (by rw [rg_le, rg_t100]; omega) h)
theorem rg_append {s o x y : Nat} {k : Int32} (hI : rg_inv s en pl kn a1 a2 a3 a4 a5 a6 a7 a9 a10 a11 a13 a14) (ho : o ≤ 7) (hx : x < 4) (hy : y < 4) (k1 : -100 ≤ k.toInt) (k2 : k.toInt ≤ 100)
    (k3 : o = 2 → ∃ z, z < 4 ∧ k = nI z) (k4 : o = 3 → 0 ≤ k.toInt) (k5 : 6 ≤ o → ∃ t, t ≤ 14 ∧ k = nI t) : rg_ran (fun post => wpX_append post (nI s, en, pl, ct, kn, mv, a1, a2, a3, a4, a5, a6, a7, a8, a9, a10, a11, a12, a13, a14, a15, a16) (nI o) (nI x) (nI y) k) (rg_Q a1 a2) := by
  have hI' := hI
  obtain ⟨hs, hwf, hR, hRl, h7, hp, hk⟩ := hI'
  by_cases h14 : s = 14
  · subst h14
    refine ⟨-2, (nI 14, en, pl, ct, kn, mv, a1, a2, a3, a4, a5, a6, a7, a8, a9, a10, a11, a12, a13, a14, a15, a16), ⟨⟨14, rfl, hI⟩, rfl, rfl⟩, fun post hp => ?_⟩
    unfold wpX_append
    exact br_t rfl hp
  · refine ⟨nI (s + 1) - 1, (nI (s + 1), en, pl, ct, 0, mv, a1, a2, upd a3 s (nI o), upd a4 s (nI x), upd a5 s (nI y), upd a6 s k, a7, a8, a9, a10, a11, a12, a13, a14, a15, a16), ⟨⟨s + 1, rfl, by omega, fun i hi => ?_, hR, hRl, h7, hp, fun z => absurd rfl z⟩, rfl, rfl⟩, fun post hp => ?_⟩
    · by_cases e : i = s
      · subst e
        refine ⟨o, x, y, pk_us, pk_us, pk_us, ho, hx, hy, ?_⟩
        rw [pk_us]
        exact ⟨k1, k2, k3, k4, k5⟩
      · have q := hwf i (by omega)
        unfold rg_wf at q ⊢
        rw [pk_un e, pk_un e, pk_un e, pk_un e]
        exact q
    · unfold wpX_append
      dsimp only
      rw [nI_clamp (show s < 2 ^ 31 by omega)]
      exact br_f (fun z => h14 ((nI_eq (by omega) (by omega)).mp z)) ⟨pk_in s 14 (by omega), nm_e ⟨pk_in s 14 (by omega), nm_e ⟨pk_in s 14 (by omega), nm_e ⟨pk_in s 14 (by omega), nm_e (nm_r (nI_1 s) hp)⟩⟩⟩⟩
theorem rg_constant {s x : Nat} {k : Int32} (hI : rg_inv s en pl kn a1 a2 a3 a4 a5 a6 a7 a9 a10 a11 a13 a14) (hx : x < 4) (k1 : -100 ≤ k.toInt) (k2 : k.toInt ≤ 100) :
    rg_ran (fun post => wpX_constant post (nI s, en, pl, ct, kn, mv, a1, a2, a3, a4, a5, a6, a7, a8, a9, a10, a11, a12, a13, a14, a15, a16) (nI x) k) (rg_Q a1 a2) := by
  obtain ⟨r, ⟨v1, v2, v3, v4, v5, v6, v7, v8, v9, v10, v11, v12, v13, v14, v15, v16, v17, v18, v19, v20, v21, v22⟩, hq, w⟩ := rg_append (ct := ct) (mv := mv) (a8 := a8) (a12 := a12) (a15 := a15) (a16 := a16) (o := 0) (y := 0) hI (by omega) hx (by omega) k1 k2 (by omega) (by omega) (by omega)
  refine ⟨r, _, hq, fun post hp => ?_⟩
  unfold wpX_constant
  exact rg_bad hx (br_t rfl (rg_badN k1 k2 (br_t rfl (w _ hp))))
theorem rg_plus {s x y : Nat} {k : Int32} (hI : rg_inv s en pl kn a1 a2 a3 a4 a5 a6 a7 a9 a10 a11 a13 a14) (hx : x < 4) (hy : y < 4) (k1 : -100 ≤ k.toInt) (k2 : k.toInt ≤ 100) :
    rg_ran (fun post => wpX_plus post (nI s, en, pl, ct, kn, mv, a1, a2, a3, a4, a5, a6, a7, a8, a9, a10, a11, a12, a13, a14, a15, a16) (nI x) (nI y) k) (rg_Q a1 a2) := by
  obtain ⟨r, ⟨v1, v2, v3, v4, v5, v6, v7, v8, v9, v10, v11, v12, v13, v14, v15, v16, v17, v18, v19, v20, v21, v22⟩, hq, w⟩ := rg_append (ct := ct) (mv := mv) (a8 := a8) (a12 := a12) (a15 := a15) (a16 := a16) (o := 1) hI (by omega) hx hy k1 k2 (by omega) (by omega) (by omega)
  refine ⟨r, _, hq, fun post hp => ?_⟩
  unfold wpX_plus
  exact rg_bad hx (br_t rfl (rg_bad hy (br_t rfl (rg_badN k1 k2 (br_t rfl (w _ hp))))))
theorem rg_sumM {s x y z : Nat} (hI : rg_inv s en pl kn a1 a2 a3 a4 a5 a6 a7 a9 a10 a11 a13 a14) (hx : x < 4) (hy : y < 4) (hz : z < 4) :
    rg_ran (fun post => wpX_sum post (nI s, en, pl, ct, kn, mv, a1, a2, a3, a4, a5, a6, a7, a8, a9, a10, a11, a12, a13, a14, a15, a16) (nI x) (nI y) (nI z)) (rg_Q a1 a2) := by
  obtain ⟨r, ⟨v1, v2, v3, v4, v5, v6, v7, v8, v9, v10, v11, v12, v13, v14, v15, v16, v17, v18, v19, v20, v21, v22⟩, hq, w⟩ := rg_append (ct := ct) (mv := mv) (a8 := a8) (a12 := a12) (a15 := a15) (a16 := a16) (o := 2) (k := nI z) hI (by omega) hx hy (by rw [nI_toInt (by omega)]; omega) (by rw [nI_toInt (by omega)]; omega) (fun _ => ⟨z, hz, rfl⟩) (by omega) (by omega)
  refine ⟨r, _, hq, fun post hp => ?_⟩
  unfold wpX_sum
  exact rg_bad hx (br_t rfl (rg_bad hy (br_t rfl (rg_bad hz (br_t rfl (w _ hp))))))
theorem rg_maskM {s x y j : Nat} (hI : rg_inv s en pl kn a1 a2 a3 a4 a5 a6 a7 a9 a10 a11 a13 a14) (hx : x < 4) (hy : y < 4) (hj : j < 16) :
    rg_ran (fun post => wpX_mask post (nI s, en, pl, ct, kn, mv, a1, a2, a3, a4, a5, a6, a7, a8, a9, a10, a11, a12, a13, a14, a15, a16) (nI x) (nI y) (nI j)) (rg_Q a1 a2) := by
  obtain ⟨r, ⟨v1, v2, v3, v4, v5, v6, v7, v8, v9, v10, v11, v12, v13, v14, v15, v16, v17, v18, v19, v20, v21, v22⟩, hq, w⟩ := rg_append (ct := ct) (mv := mv) (a8 := a8) (a12 := a12) (a15 := a15) (a16 := a16) (o := 3) (k := nI j) hI (by omega) hx hy (by rw [nI_toInt (by omega)]; omega) (by rw [nI_toInt (by omega)]; omega) (by omega) (fun _ => by rw [nI_toInt (by omega)]; omega) (by omega)
  refine ⟨r, _, hq, fun post hp => ?_⟩
  unfold wpX_mask
  exact rg_bad hx (br_t rfl (rg_bad hy (br_t rfl (br_f (nI_pos (by omega)) (br_t (nI_le (a := j) (b := 63) (by omega) (by omega)) (w _ hp))))))
theorem rg_access {s o x y j : Nat} (hI : rg_inv s en pl kn a1 a2 a3 a4 a5 a6 a7 a9 a10 a11 a13 a14) (ho : o = 4 ∨ o = 5) (hx : x < 4) (hy : y < 4) (hj : j < 8) :
    rg_ran (fun post => wpX_access post (nI s, en, pl, ct, kn, mv, a1, a2, a3, a4, a5, a6, a7, a8, a9, a10, a11, a12, a13, a14, a15, a16) (nI o) (nI x) (nI y) (nI j)) (rg_Q a1 a2) := by
  obtain ⟨r, ⟨v1, v2, v3, v4, v5, v6, v7, v8, v9, v10, v11, v12, v13, v14, v15, v16, v17, v18, v19, v20, v21, v22⟩, hq, w⟩ := rg_append (ct := ct) (mv := mv) (a8 := a8) (a12 := a12) (a15 := a15) (a16 := a16) (o := o) (k := nI j) hI (by omega) hx hy (by rw [nI_toInt (by omega)]; omega) (by rw [nI_toInt (by omega)]; omega) (by omega) (by omega) (by omega)
  refine ⟨r, _, hq, fun post hp => ?_⟩
  unfold wpX_access
  exact rg_bad hx (br_t rfl (rg_bad hy (br_t rfl (br_f (by rw [rg_lt, nI_toInt (by omega), show (-8 : Int32).toInt = -8 by decide]; omega) (br_t (nI_le (a := j) (b := 8) (by omega) (by omega)) (w _ hp))))))
theorem rg_load {s x y j : Nat} (hI : rg_inv s en pl kn a1 a2 a3 a4 a5 a6 a7 a9 a10 a11 a13 a14) (hx : x < 4) (hy : y < 4) (hj : j < 8) :
    rg_ran (fun post => wpX_load post (nI s, en, pl, ct, kn, mv, a1, a2, a3, a4, a5, a6, a7, a8, a9, a10, a11, a12, a13, a14, a15, a16) (nI x) (nI y) (nI j)) (rg_Q a1 a2) := by
  obtain ⟨r, ⟨v1, v2, v3, v4, v5, v6, v7, v8, v9, v10, v11, v12, v13, v14, v15, v16, v17, v18, v19, v20, v21, v22⟩, hq, w⟩ := rg_access (ct := ct) (mv := mv) (a8 := a8) (a12 := a12) (a15 := a15) (a16 := a16) (o := 4) hI (by omega) hx hy hj
  exact ⟨r, _, hq, fun post hp => w _ hp⟩
theorem rg_store {s x y j : Nat} (hI : rg_inv s en pl kn a1 a2 a3 a4 a5 a6 a7 a9 a10 a11 a13 a14) (hx : x < 4) (hy : y < 4) (hj : j < 8) :
    rg_ran (fun post => wpX_store post (nI s, en, pl, ct, kn, mv, a1, a2, a3, a4, a5, a6, a7, a8, a9, a10, a11, a12, a13, a14, a15, a16) (nI x) (nI y) (nI j)) (rg_Q a1 a2) := by
  obtain ⟨r, ⟨v1, v2, v3, v4, v5, v6, v7, v8, v9, v10, v11, v12, v13, v14, v15, v16, v17, v18, v19, v20, v21, v22⟩, hq, w⟩ := rg_access (ct := ct) (mv := mv) (a8 := a8) (a12 := a12) (a15 := a15) (a16 := a16) (o := 5) hI (by omega) hx hy hj
  exact ⟨r, _, hq, fun post hp => w _ hp⟩
theorem rg_lessM {s x y j : Nat} (hI : rg_inv s en pl kn a1 a2 a3 a4 a5 a6 a7 a9 a10 a11 a13 a14) (hx : x < 4) (hy : y < 4) (hj : j < 16) :
    rg_ran (fun post => wpX_less post (nI s, en, pl, ct, kn, mv, a1, a2, a3, a4, a5, a6, a7, a8, a9, a10, a11, a12, a13, a14, a15, a16) (nI x) (nI y) (nI j)) (rg_Q a1 a2) := by
  by_cases h : j ≤ 14
  · obtain ⟨r, ⟨v1, v2, v3, v4, v5, v6, v7, v8, v9, v10, v11, v12, v13, v14, v15, v16, v17, v18, v19, v20, v21, v22⟩, hq, w⟩ := rg_append (ct := ct) (mv := mv) (a8 := a8) (a12 := a12) (a15 := a15) (a16 := a16) (o := 6) (k := nI j) hI (by omega) hx hy (by rw [nI_toInt (by omega)]; omega) (by rw [nI_toInt (by omega)]; omega) (by omega) (by omega) (fun _ => ⟨j, h, rfl⟩)
    refine ⟨r, _, hq, fun post hp => ?_⟩
    unfold wpX_less
    exact rg_bad hx (br_t rfl (rg_bad hy (br_t rfl (br_f (nI_pos (by omega)) (br_t (nI_le (a := j) (b := 14) (by omega) (by omega)) (w _ hp))))))
  · refine ⟨-1, (nI s, en, pl, ct, kn, mv, a1, a2, a3, a4, a5, a6, a7, a8, a9, a10, a11, a12, a13, a14, a15, a16), ⟨⟨s, rfl, hI⟩, rfl, rfl⟩, fun post hp => ?_⟩
    unfold wpX_less
    exact rg_bad hx (br_t rfl (rg_bad hy (br_t rfl (br_f (nI_pos (by omega)) (br_f (nI_ge (a := 14) (b := j) (by omega) (by omega)) hp)))))
theorem rg_jump {s j : Nat} (hI : rg_inv s en pl kn a1 a2 a3 a4 a5 a6 a7 a9 a10 a11 a13 a14) (hj : j < 16) :
    rg_ran (fun post => wpX_jump post (nI s, en, pl, ct, kn, mv, a1, a2, a3, a4, a5, a6, a7, a8, a9, a10, a11, a12, a13, a14, a15, a16) (nI j)) (rg_Q a1 a2) := by
  by_cases h : j ≤ 14
  · obtain ⟨r, ⟨v1, v2, v3, v4, v5, v6, v7, v8, v9, v10, v11, v12, v13, v14, v15, v16, v17, v18, v19, v20, v21, v22⟩, hq, w⟩ := rg_append (ct := ct) (mv := mv) (a8 := a8) (a12 := a12) (a15 := a15) (a16 := a16) (o := 7) (x := 0) (y := 0) (k := nI j) hI (by omega) (by omega) (by omega) (by rw [nI_toInt (by omega)]; omega) (by rw [nI_toInt (by omega)]; omega) (by omega) (by omega) (fun _ => ⟨j, h, rfl⟩)
    refine ⟨r, _, hq, fun post hp => ?_⟩
    unfold wpX_jump
    exact br_f (nI_pos (by omega)) (br_t (nI_le (a := j) (b := 14) (by omega) (by omega)) (w _ hp))
  · refine ⟨-1, (nI s, en, pl, ct, kn, mv, a1, a2, a3, a4, a5, a6, a7, a8, a9, a10, a11, a12, a13, a14, a15, a16), ⟨⟨s, rfl, hI⟩, rfl, rfl⟩, fun post hp => ?_⟩
    unfold wpX_jump
    exact br_f (nI_pos (by omega)) (br_f (nI_ge (a := 14) (b := j) (by omega) (by omega)) hp)
end
end
section
/-! the law's append and turn -/
def rg_tl (l o p x : Int32) : Int32 := if p &&& 3 = x then (if o = 9 then -((p >>> ((2 : Int32) &&& 31)) &&& 63) else if o = 10 then ((p >>> ((2 : Int32) &&& 31)) &&& 15) - 4 else l) else l
def rg_th (h o p x : Int32) : Int32 := if p &&& 3 = x then (if o = 9 then (p >>> ((8 : Int32) &&& 31)) &&& 63 else if o = 10 then (((p >>> ((2 : Int32) &&& 31)) &&& 15) + ((p >>> ((6 : Int32) &&& 31)) &&& 15)) - 4 else h) else h
theorem rg_tl_n {l o p x : Int32} (h1 : ¬ o = 9) (h2 : ¬ o = 10) : rg_tl l o p x = l := by
  unfold rg_tl
  rw [if_neg h1, if_neg h2]
  exact ite_self _
theorem rg_th_n {l o p x : Int32} (h1 : ¬ o = 9) (h2 : ¬ o = 10) : rg_th l o p x = l := by
  unfold rg_th
  rw [if_neg h1, if_neg h2]
  exact ite_self _
/-- the ranges after a turn -/
def rg_T (l h : Nat → Int32) (o p : Int32) (_ : Int32) (u : St1) : Prop := rg_Inv u ∧ ∀ x, x < 4 → rg_lw u x = rg_tl (l x) o p (nI x) ∧ rg_hg u x = rg_th (h x) o p (nI x)
section
variable {sz en pl ct kn mv : Int32} {a1 a2 a3 a4 a5 a6 a7 a8 a9 a10 a11 a12 a13 a14 a15 a16 : Nat → Int32}
theorem rg_T_Q {o p r : Int32} {u : St1} (h1 : ¬ o = 9) (h2 : ¬ o = 10) (h : rg_Q a1 a2 r u) : rg_T a1 a2 o p r u := by
  refine ⟨h.1, fun x _ => ?_⟩
  rw [h.2.1, h.2.2, rg_tl_n h1 h2, rg_th_n h1 h2]
  exact ⟨rfl, rfl⟩
theorem rg_k5 {j : Nat} (hj : j < 16) : -100 ≤ (nI j - 5).toInt ∧ (nI j - 5).toInt ≤ 100 := by
  have e5 : (5 : Int32).toInt = 5 := by decide
  have ej := nI_toInt (show j < 2 ^ 31 by omega)
  rw [rg_sb (by omega) (by omega)]
  omega
theorem rg_lappend {s : Nat} (p1 p2 : Int32) (hI : rg_inv s en pl kn a1 a2 a3 a4 a5 a6 a7 a9 a10 a11 a13 a14) : rg_ran (fun post => wpL_append post (nI s, en, pl, ct, kn, mv, a1, a2, a3, a4, a5, a6, a7, a8, a9, a10, a11, a12, a13, a14, a15, a16) p1 p2) (rg_Q a1 a2) := by
  obtain ⟨o, ho, eo⟩ := pk_andE p1 (m := 15) 4 (by decide)
  obtain ⟨a, ha, ea⟩ := pk_andE p2 (m := 3) 2 (by decide)
  obtain ⟨b, hb, eb⟩ := pk_andE (p2 >>> ((2 : Int32) &&& 31)) (m := 3) 2 (by decide)
  obtain ⟨c, hc, ec⟩ := pk_andE (p2 >>> ((4 : Int32) &&& 31)) (m := 3) 2 (by decide)
  obtain ⟨j, hj, ej⟩ := pk_andE (p2 >>> ((6 : Int32) &&& 31)) (m := 15) 4 (by decide)
  obtain ⟨q, hq, eq⟩ := pk_andE (p2 >>> ((6 : Int32) &&& 31)) (m := 7) 3 (by decide)
  have k5 := rg_k5 (j := j) (by omega)
  have go : ∀ w : (Int32 → St1 → Prop) → Prop, rg_ran w (rg_Q a1 a2) → (∀ post : Int32 → St1 → Prop, w (fun r u => match u with | (sz, en, pl, ct, kn, mv, a1, a2, a3, a4, a5, a6, a7, a8, a9, a10, a11, a12, a13, a14, a15, a16) => post r (sz, en, pl, ct, kn, mv, a1, a2, a3, a4, a5, a6, a7, a8, a9, a10, a11, a12, a13, a14, a15, a16)) → wpL_append post (nI s, en, pl, ct, kn, mv, a1, a2, a3, a4, a5, a6, a7, a8, a9, a10, a11, a12, a13, a14, a15, a16) p1 p2) → rg_ran (fun post => wpL_append post (nI s, en, pl, ct, kn, mv, a1, a2, a3, a4, a5, a6, a7, a8, a9, a10, a11, a12, a13, a14, a15, a16) p1 p2) (rg_Q a1 a2) := by
    intro w hw hp
    obtain ⟨r, ⟨v1, v2, v3, v4, v5, v6, v7, v8, v9, v10, v11, v12, v13, v14, v15, v16, v17, v18, v19, v20, v21, v22⟩, hQ, h⟩ := hw
    exact ⟨r, _, hQ, fun post hpost => hp post (h _ hpost)⟩
  by_cases h3 : o < 3
  · refine go _ (rg_constant (ct := ct) (mv := mv) (a8 := a8) (a12 := a12) (a15 := a15) (a16 := a16) (x := a) (k := nI j - 5) hI (by omega) k5.1 k5.2) (fun post h => ?_)
    unfold wpL_append
    dsimp only
    rw [ej, eq]
    exact nm_r eo (nm_r ea (nm_r eb (nm_r ec (nm_e (pk_le 3 o (fun z => absurd z (by omega)) (fun _ => h))))))
  by_cases h6 : o < 6
  · refine go _ (rg_plus (ct := ct) (mv := mv) (a8 := a8) (a12 := a12) (a15 := a15) (a16 := a16) (x := a) (y := b) (k := nI j - 5) hI (by omega) (by omega) k5.1 k5.2) (fun post h => ?_)
    unfold wpL_append
    dsimp only
    rw [ej, eq]
    exact nm_r eo (nm_r ea (nm_r eb (nm_r ec (nm_e (pk_le 3 o (fun _ => pk_le 6 o (fun z => absurd z (by omega)) (fun _ => h)) (fun z => absurd z (by omega)))))))
  by_cases h8 : o < 8
  · refine go _ (rg_sumM (ct := ct) (mv := mv) (a8 := a8) (a12 := a12) (a15 := a15) (a16 := a16) (x := a) (y := b) (z := c) hI (by omega) (by omega) (by omega)) (fun post h => ?_)
    unfold wpL_append
    dsimp only
    rw [ej, eq]
    exact nm_r eo (nm_r ea (nm_r eb (nm_r ec (nm_e (pk_le 3 o (fun _ => pk_le 6 o (fun _ => pk_le 8 o (fun z => absurd z (by omega)) (fun _ => h)) (fun z => absurd z (by omega))) (fun z => absurd z (by omega)))))))
  by_cases h8' : o = 8
  · refine go _ (rg_maskM (ct := ct) (mv := mv) (a8 := a8) (a12 := a12) (a15 := a15) (a16 := a16) (x := a) (y := b) (j := j) hI (by omega) (by omega) (by omega)) (fun post h => ?_)
    unfold wpL_append
    dsimp only
    rw [ej, eq]
    exact nm_r eo (nm_r ea (nm_r eb (nm_r ec (nm_e (pk_le 3 o (fun _ => pk_le 6 o (fun _ => pk_le 8 o (fun _ => pk_eq o 8 (fun _ => h) (fun z => absurd h8' z)) (fun z => absurd z (by omega))) (fun z => absurd z (by omega))) (fun z => absurd z (by omega)))))))
  by_cases h11 : o < 11
  · refine go _ (rg_load (ct := ct) (mv := mv) (a8 := a8) (a12 := a12) (a15 := a15) (a16 := a16) (x := a) (y := b) (j := q) hI (by omega) (by omega) (by omega)) (fun post h => ?_)
    unfold wpL_append
    dsimp only
    rw [ej, eq]
    exact nm_r eo (nm_r ea (nm_r eb (nm_r ec (nm_e (pk_le 3 o (fun _ => pk_le 6 o (fun _ => pk_le 8 o (fun _ => pk_eq o 8 (fun z => absurd z h8') (fun _ => pk_le 11 o (fun z => absurd z (by omega)) (fun _ => h))) (fun z => absurd z (by omega))) (fun z => absurd z (by omega))) (fun z => absurd z (by omega)))))))
  by_cases h13 : o < 13
  · refine go _ (rg_store (ct := ct) (mv := mv) (a8 := a8) (a12 := a12) (a15 := a15) (a16 := a16) (x := a) (y := b) (j := q) hI (by omega) (by omega) (by omega)) (fun post h => ?_)
    unfold wpL_append
    dsimp only
    rw [ej, eq]
    exact nm_r eo (nm_r ea (nm_r eb (nm_r ec (nm_e (pk_le 3 o (fun _ => pk_le 6 o (fun _ => pk_le 8 o (fun _ => pk_eq o 8 (fun z => absurd z h8') (fun _ => pk_le 11 o (fun _ => pk_le 13 o (fun z => absurd z (by omega)) (fun _ => h)) (fun z => absurd z (by omega)))) (fun z => absurd z (by omega))) (fun z => absurd z (by omega))) (fun z => absurd z (by omega)))))))
  by_cases h15 : o < 15
  · refine go _ (rg_lessM (ct := ct) (mv := mv) (a8 := a8) (a12 := a12) (a15 := a15) (a16 := a16) (x := a) (y := b) (j := j) hI (by omega) (by omega) (by omega)) (fun post h => ?_)
    unfold wpL_append
    dsimp only
    rw [ej, eq]
    exact nm_r eo (nm_r ea (nm_r eb (nm_r ec (nm_e (pk_le 3 o (fun _ => pk_le 6 o (fun _ => pk_le 8 o (fun _ => pk_eq o 8 (fun z => absurd z h8') (fun _ => pk_le 11 o (fun _ => pk_le 13 o (fun _ => pk_le 15 o (fun z => absurd z (by omega)) (fun _ => h)) (fun z => absurd z (by omega))) (fun z => absurd z (by omega)))) (fun z => absurd z (by omega))) (fun z => absurd z (by omega))) (fun z => absurd z (by omega)))))))
  · refine go _ (rg_jump (ct := ct) (mv := mv) (a8 := a8) (a12 := a12) (a15 := a15) (a16 := a16) (j := j) hI (by omega)) (fun post h => ?_)
    unfold wpL_append
    dsimp only
    rw [ej, eq]
    exact nm_r eo (nm_r ea (nm_r eb (nm_r ec (nm_e (pk_le 3 o (fun _ => pk_le 6 o (fun _ => pk_le 8 o (fun _ => pk_eq o 8 (fun z => absurd z h8') (fun _ => pk_le 11 o (fun _ => pk_le 13 o (fun _ => pk_le 15 o (fun _ => h) (fun z => absurd z (by omega))) (fun z => absurd z (by omega))) (fun z => absurd z (by omega)))) (fun z => absurd z (by omega))) (fun z => absurd z (by omega))) (fun z => absurd z (by omega)))))))
theorem rg_range {x : Nat} {lo hi : Int32} (hx : x < 4) (h1 : -100 ≤ lo.toInt) (h2 : hi.toInt ≤ 100) (hl : lo ≤ hi) {post : Int32 → St1 → Prop} (h : post 0 (sz, en, pl, ct, 0, mv, upd a1 x lo, upd a2 x hi, a3, a4, a5, a6, a7, a8, a9, a10, a11, a12, a13, a14, a15, a16)) : wpX_range post (sz, en, pl, ct, kn, mv, a1, a2, a3, a4, a5, a6, a7, a8, a9, a10, a11, a12, a13, a14, a15, a16) (nI x) lo hi := by
  have hl' := hl
  rw [rg_le] at hl'
  unfold wpX_range
  refine rg_bad hx (br_t rfl (rg_badN h1 (by omega) (br_t rfl (rg_badN (by omega) h2 (br_t rfl (br_t hl ⟨pk_in x 4 hx, nm_r (by rw [nI_clamp (by omega)]) ⟨pk_in x 4 hx, nm_r (by rw [nI_clamp (by omega)]) h⟩⟩))))))
theorem rg_inv_range {s x : Nat} {lo hi : Int32} (h1 : -100 ≤ lo.toInt) (h2 : hi.toInt ≤ 100) (hl : lo ≤ hi) (hI : rg_inv s en pl kn a1 a2 a3 a4 a5 a6 a7 a9 a10 a11 a13 a14) :
    rg_inv s en pl 0 (upd a1 x lo) (upd a2 x hi) a3 a4 a5 a6 a7 a9 a10 a11 a13 a14 := by
  obtain ⟨hs, hwf, hR, hRl, h7, hp, hk⟩ := hI
  refine ⟨hs, hwf, fun j hj => ?_, fun j hj => ?_, h7, hp, fun z => absurd rfl z⟩
  · by_cases e : j = x
    · subst e
      rw [pk_us, pk_us]
      exact ⟨h1, h2⟩
    · rw [pk_un e, pk_un e]
      exact hR j hj
  · by_cases e : j = x
    · subst e
      rw [pk_us, pk_us]
      exact hl
    · rw [pk_un e, pk_un e]
      exact hRl j hj
theorem rg_rangeT {s x : Nat} {o p lo hi : Int32} (hx : x < 4) (h1 : -100 ≤ lo.toInt) (h2 : hi.toInt ≤ 100) (hl : lo ≤ hi) (hI : rg_inv s en pl kn a1 a2 a3 a4 a5 a6 a7 a9 a10 a11 a13 a14)
    (ep : p &&& 3 = nI x) (el : rg_tl (a1 x) o p (nI x) = lo) (eh : rg_th (a2 x) o p (nI x) = hi) : rg_T a1 a2 o p 0 (nI s, en, pl, ct, 0, mv, upd a1 x lo, upd a2 x hi, a3, a4, a5, a6, a7, a8, a9, a10, a11, a12, a13, a14, a15, a16) := by
  refine ⟨⟨s, rfl, rg_inv_range h1 h2 hl hI⟩, fun j hj => ?_⟩
  show upd a1 x lo j = _ ∧ upd a2 x hi j = _
  by_cases e : j = x
  · subst e
    rw [pk_us, pk_us]
    exact ⟨el.symm, eh.symm⟩
  · rw [pk_un e, pk_un e]
    have hne : ¬ p &&& 3 = nI j := by
      rw [ep]
      exact fun z => e ((nI_eq (by omega) (by omega)).mp z).symm
    unfold rg_tl rg_th
    rw [if_neg hne, if_neg hne]
    exact ⟨rfl, rfl⟩
theorem rg_fin_ok {s : Nat} {z : rg_Z} (hz : rg_zi s a1 a2 a9 a10 a11 z) : (rg_fin (nI s) z).2 = -1 ↔ ((rg_fin (nI s) z).1 = 0 ∨ (rg_fin (nI s) z).1 = 1 ∨ (rg_fin (nI s) z).1 = 4) := by
  unfold rg_fin
  by_cases g : z.1 < nI s
  · rw [if_pos g]
    by_cases g' : z.1 < 0
    · rw [if_pos g']
      rcases hz.1 with ⟨_, q, q'⟩ | ⟨j, hj, ej, _⟩
      · constructor
        · intro e
          dsimp only at e
          rw [e] at q'
          exact absurd (by decide) q'
        · dsimp only
          intro e
          rcases q with q | q <;> rw [q] at e <;> exact absurd e (by decide)
      · rw [ej] at g'
        exact absurd g' (nI_pos (by omega))
    · rw [if_neg g']
      exact ⟨fun _ => Or.inr (Or.inr rfl), fun _ => rfl⟩
  · rw [if_neg g]
    exact ⟨fun _ => Or.inr (Or.inl rfl), fun _ => rfl⟩
theorem rg_runT {s : Nat} (hI : rg_inv s en pl kn a1 a2 a3 a4 a5 a6 a7 a9 a10 a11 a13 a14) : rg_ran (fun post => wpX_run post (nI s, en, pl, ct, kn, mv, a1, a2, a3, a4, a5, a6, a7, a8, a9, a10, a11, a12, a13, a14, a15, a16)) (rg_Q a1 a2) := by
  obtain ⟨hs, hwf, hR, hRl, h7, hp, hk⟩ := hI
  obtain ⟨kn', K, b13, b14, b15, b16, hkn, hz, w⟩ := @rg_run en pl ct kn mv a1 a2 a3 a4 a5 a6 a7 a8 a9 a10 a11 a12 a13 a14 a15 a16 s hs hwf hR hRl h7 hk
  generalize rg_rz s a1 a2 a3 a4 a5 a6 en pl a7 a8 = z at hz w
  exact ⟨(rg_fin (nI s) z).1, (nI s, (rg_fin (nI s) z).1, (rg_fin (nI s) z).2, z.2.2.2.1, kn', K.1, a1, a2, a3, a4, a5, a6, z.2.2.2.2.1, z.2.2.2.2.2, K.2.1, K.2.2.1, K.2.2.2.1, K.2.2.2.2, b13, b14, b15, b16), ⟨⟨s, rfl, hs, hwf, hR, hRl, hz.2.2, rg_fin_ok hz, fun _ => hkn⟩, rfl, rfl⟩, w⟩
theorem rg_setCell {s j : Nat} {k : Int32} (hI : rg_inv s en pl kn a1 a2 a3 a4 a5 a6 a7 a9 a10 a11 a13 a14) (hj : j < 8) (k1 : -100 ≤ k.toInt) (k2 : k.toInt ≤ 100) :
    rg_ran (fun post => wpX_setCell post (nI s, en, pl, ct, kn, mv, a1, a2, a3, a4, a5, a6, a7, a8, a9, a10, a11, a12, a13, a14, a15, a16) (nI j) k) (rg_Q a1 a2) := by
  obtain ⟨hs, hwf, hR, hRl, h7, hp, hk⟩ := hI
  refine ⟨a7 j, (nI s, en, pl, ct, kn, mv, a1, a2, a3, a4, a5, a6, upd a7 j k, a8, a9, a10, a11, a12, a13, a14, a15, a16), ⟨⟨s, rfl, hs, hwf, hR, hRl, fun i hi => ?_, hp, hk⟩, rfl, rfl⟩, fun post hpost => ?_⟩
  · by_cases e : i = j
    · subst e
      rw [pk_us, rg_le, rg_le, rg_t100, rg_tm100]
      exact ⟨k1, k2⟩
    · rw [pk_un e]
      exact h7 i hi
  · unfold wpX_setCell
    exact br_f (nI_pos (by omega)) (br_f (nI_nlt (a := 7) (b := j) (by omega) (by omega)) (rg_badN k1 k2 (br_t rfl ⟨pk_in j 8 hj, nm_r (by rw [nI_clamp (by omega)]) ⟨pk_in j 8 hj, nm_r (by rw [nI_clamp (by omega)]) hpost⟩⟩)))
end
end
section
/-! a turn; sound, variable, equal, the constructor -/
section
variable {sz en pl ct kn mv : Int32} {a1 a2 a3 a4 a5 a6 a7 a8 a9 a10 a11 a12 a13 a14 a15 a16 : Nat → Int32}
theorem rg_turn {s : Nat} (p1 p2 : Int32) (hI : rg_inv s en pl kn a1 a2 a3 a4 a5 a6 a7 a9 a10 a11 a13 a14) : rg_ran (fun post => wpL_turn post (nI s, en, pl, ct, kn, mv, a1, a2, a3, a4, a5, a6, a7, a8, a9, a10, a11, a12, a13, a14, a15, a16) p1 p2) (rg_T a1 a2 ((p1 >>> ((4 : Int32) &&& 31)) &&& 15) p2) := by
  obtain ⟨o, ho, eo⟩ := pk_andE (p1 >>> ((4 : Int32) &&& 31)) (m := 15) 4 (by decide)
  obtain ⟨a, ha, ea⟩ := pk_andE p2 (m := 3) 2 (by decide)
  rw [eo]
  have n9 : ∀ m, o ≠ m → m < 100 → ¬ nI o = nI m := fun m h hm z => h ((nI_eq (by omega) (by omega)).mp z)
  have go : ∀ w : (Int32 → St1 → Prop) → Prop, o ≠ 9 → o ≠ 10 → rg_ran w (rg_Q a1 a2) → (∀ post : Int32 → St1 → Prop, w (fun r u => match u with | (sz, en, pl, ct, kn, mv, a1, a2, a3, a4, a5, a6, a7, a8, a9, a10, a11, a12, a13, a14, a15, a16) => post r (sz, en, pl, ct, kn, mv, a1, a2, a3, a4, a5, a6, a7, a8, a9, a10, a11, a12, a13, a14, a15, a16)) → wpL_turn post (nI s, en, pl, ct, kn, mv, a1, a2, a3, a4, a5, a6, a7, a8, a9, a10, a11, a12, a13, a14, a15, a16) p1 p2) → rg_ran (fun post => wpL_turn post (nI s, en, pl, ct, kn, mv, a1, a2, a3, a4, a5, a6, a7, a8, a9, a10, a11, a12, a13, a14, a15, a16) p1 p2) (rg_T a1 a2 (nI o) p2) := by
    intro w h9 h10 hw hp
    obtain ⟨r, ⟨v1, v2, v3, v4, v5, v6, v7, v8, v9, v10, v11, v12, v13, v14, v15, v16, v17, v18, v19, v20, v21, v22⟩, hQ, h⟩ := hw
    exact ⟨r, _, rg_T_Q (n9 9 h9 (by omega)) (n9 10 h10 (by omega)) hQ, fun post hpost => hp post (h _ hpost)⟩
  by_cases h9 : o < 9
  · refine go _ (by omega) (by omega) (rg_lappend (ct := ct) (mv := mv) (a8 := a8) (a12 := a12) (a15 := a15) (a16 := a16) p1 p2 hI) (fun post h => ?_)
    unfold wpL_turn
    exact nm_r eo (pk_le 9 o (fun z => absurd z (by omega)) (fun _ => h))
  by_cases e9 : o = 9
  · subst e9
    obtain ⟨b, hb, eb⟩ := pk_andE (p2 >>> ((2 : Int32) &&& 31)) (m := 63) 6 (by decide)
    obtain ⟨c, hc, ec⟩ := pk_andE (p2 >>> ((8 : Int32) &&& 31)) (m := 63) 6 (by decide)
    have tb := nI_toInt (show b < 2 ^ 31 by omega)
    have tc := nI_toInt (show c < 2 ^ 31 by omega)
    have tn : (-nI b).toInt = -(b : Int) := by rw [rg_ng (by omega) (by omega), tb]
    refine ⟨0, (nI s, en, pl, ct, 0, mv, upd a1 a (-nI b), upd a2 a (nI c), a3, a4, a5, a6, a7, a8, a9, a10, a11, a12, a13, a14, a15, a16), rg_rangeT (by omega) (by omega) (by omega) (by rw [rg_le]; omega) hI ea ?_ ?_, fun post hp => ?_⟩
    · unfold rg_tl
      rw [if_pos ea, if_pos (show nI 9 = 9 from rfl), eb]
    · unfold rg_th
      rw [if_pos ea, if_pos (show nI 9 = 9 from rfl), ec]
    · unfold wpL_turn
      dsimp only
      rw [ea, eb, ec]
      exact nm_r eo (pk_le 9 9 (fun _ => br_t rfl (rg_range (by omega) (by omega) (by omega) (by rw [rg_le]; omega) hp)) (fun z => absurd z (by omega)))
  by_cases e10 : o = 10
  · subst e10
    obtain ⟨b, hb, eb⟩ := pk_andE (p2 >>> ((2 : Int32) &&& 31)) (m := 15) 4 (by decide)
    obtain ⟨c, hc, ec⟩ := pk_andE (p2 >>> ((6 : Int32) &&& 31)) (m := 15) 4 (by decide)
    have tb := nI_toInt (show b < 2 ^ 31 by omega)
    have tc := nI_toInt (show b + c < 2 ^ 31 by omega)
    have t4 := rg_t4
    have tl : (nI b - 4).toInt = (b : Int) - 4 := by rw [rg_sb (by omega) (by omega), tb, rg_t4]
    have th : (nI b + nI c - 4).toInt = (b : Int) + c - 4 := by rw [nI_add, rg_sb (by omega) (by omega), tc, rg_t4]; omega
    refine ⟨0, (nI s, en, pl, ct, 0, mv, upd a1 a (nI b - 4), upd a2 a (nI b + nI c - 4), a3, a4, a5, a6, a7, a8, a9, a10, a11, a12, a13, a14, a15, a16), rg_rangeT (by omega) (by omega) (by omega) (by rw [rg_le]; omega) hI ea ?_ ?_, fun post hp => ?_⟩
    · unfold rg_tl
      rw [if_pos ea, if_neg (show ¬ nI 10 = 9 by decide), if_pos (show nI 10 = 10 from rfl), eb]
    · unfold rg_th
      rw [if_pos ea, if_neg (show ¬ nI 10 = 9 by decide), if_pos (show nI 10 = 10 from rfl), eb, ec]
    · unfold wpL_turn
      dsimp only
      rw [ea, eb, ec]
      exact nm_r eo (pk_le 9 10 (fun _ => br_f (by decide) (br_t rfl (rg_range (by omega) (by omega) (by omega) (by rw [rg_le]; omega) hp))) (fun z => absurd z (by omega)))
  by_cases e11 : o = 11
  · subst e11
    obtain ⟨b, hb, eb⟩ := pk_andE p2 (m := 7) 3 (by decide)
    obtain ⟨c, hc, ec⟩ := pk_andE (p2 >>> ((3 : Int32) &&& 31)) (m := 31) 5 (by decide)
    have tc := nI_toInt (show c < 2 ^ 31 by omega)
    have t10 : (10 : Int32).toInt = 10 := by decide
    have tk : (nI c - 10).toInt = (c : Int) - 10 := by rw [rg_sb (by omega) (by omega), tc, t10]
    refine go _ (by omega) (by omega) (rg_setCell (ct := ct) (mv := mv) (a8 := a8) (a12 := a12) (a15 := a15) (a16 := a16) (j := b) (k := nI c - 10) hI (by omega) (by omega) (by omega)) (fun post h => ?_)
    unfold wpL_turn
    dsimp only
    rw [eb, ec]
    exact nm_r eo (pk_le 9 11 (fun _ => br_f (by decide) (br_f (by decide) (br_t rfl h))) (fun z => absurd z (by omega)))
  by_cases h15 : o < 15
  · refine go _ (by omega) (by omega) (rg_runT (ct := ct) (mv := mv) (a8 := a8) (a12 := a12) (a15 := a15) (a16 := a16) hI) (fun post h => ?_)
    unfold wpL_turn
    exact nm_r eo (pk_le 9 o (fun _ => br_f (n9 9 (by omega) (by omega)) (br_f (n9 10 (by omega) (by omega)) (br_f (n9 11 (by omega) (by omega)) (pk_le 15 o (fun z => absurd z (by omega)) (fun _ => h))))) (fun z => absurd z (by omega)))
  · have e15 : o = 15 := by omega
    subst e15
    obtain ⟨hs, hwf, hR, hRl, h7, hp, hk⟩ := hI
    by_cases h0 : p2 &&& 3 = 0
    · refine ⟨0, (0, en, pl, ct, 0, mv, a1, a2, a3, a4, a5, a6, a7, a8, a9, a10, a11, a12, a13, a14, a15, a16), rg_T_Q (n9 9 (by omega) (by omega)) (n9 10 (by omega) (by omega)) ⟨⟨0, rfl, by omega, fun i hi => absurd hi (by omega), hR, hRl, h7, hp, fun z => absurd rfl z⟩, rfl, rfl⟩, fun post hpost => ?_⟩
      unfold wpL_turn
      exact nm_r eo (pk_le 9 15 (fun _ => br_f (by decide) (br_f (by decide) (br_f (by decide) (pk_le 15 15 (fun _ => br_t h0 hpost) (fun z => absurd z (by omega)))))) (fun z => absurd z (by omega)))
    · refine ⟨0, (nI s, en, pl, ct, kn, mv, a1, a2, a3, a4, a5, a6, a7, a8, a9, a10, a11, a12, a13, a14, a15, a16), rg_T_Q (n9 9 (by omega) (by omega)) (n9 10 (by omega) (by omega)) ⟨⟨s, rfl, hs, hwf, hR, hRl, h7, hp, hk⟩, rfl, rfl⟩, fun post hpost => ?_⟩
      unfold wpL_turn
      exact nm_r eo (pk_le 9 15 (fun _ => br_f (by decide) (br_f (by decide) (br_f (by decide) (pk_le 15 15 (fun _ => br_f h0 hpost) (fun z => absurd z (by omega)))))) (fun z => absurd z (by omega)))
theorem rg_cell {j : Nat} (hj : j < 8) {post : Int32 → Prop} (h : post (a7 j)) : wpX_cell post (sz, en, pl, ct, kn, mv, a1, a2, a3, a4, a5, a6, a7, a8, a9, a10, a11, a12, a13, a14, a15, a16) (nI j) := by
  unfold wpX_cell
  exact br_f (nI_pos (by omega)) (br_t (nI_le (a := j) (b := 7) (by omega) (by omega)) ⟨pk_in j 8 hj, by rw [nI_clamp (by omega)]; exact h⟩)
theorem rg_variable {x : Nat} (hx : x < 4) {post : Int32 → Prop} (h : post (a8 x)) : wpX_variable post (sz, en, pl, ct, kn, mv, a1, a2, a3, a4, a5, a6, a7, a8, a9, a10, a11, a12, a13, a14, a15, a16) (nI x) := by
  unfold wpX_variable
  exact rg_bad hx (br_t rfl ⟨pk_in x 4 hx, by rw [nI_clamp (by omega)]; exact h⟩)
theorem rg_sound (h7 : ∀ j, j < 8 → -100 ≤ a7 j ∧ a7 j ≤ 100) (hp : pl = -1 ↔ (en = 0 ∨ en = 1 ∨ en = 4)) {post : Int32 → Prop} (h : post 1) : wpL_sound post (sz, en, pl, ct, kn, mv, a1, a2, a3, a4, a5, a6, a7, a8, a9, a10, a11, a12, a13, a14, a15, a16) := by
  unfold wpL_sound
  have key : ∃ n, wL_sound_7 post en sz en pl ct kn mv a1 a2 a3 a4 a5 a6 a7 a8 a9 a10 a11 a12 a13 a14 a15 a16 n 0 := by
    refine pk_loop (σ := Unit) (fun n i _ => wL_sound_7 post en sz en pl ct kn mv a1 a2 a3 a4 a5 a6 a7 a8 a9 a10 a11 a12 a13 a14 a15 a16 n (nI i)) (fun _ _ => True) 8 0 () (by omega) trivial (fun n _ _ => pk_le 8 8 (fun _ => ?_) (fun z => absurd z (by omega)))
      (fun n i _ hi _ hw => pk_le 8 i (fun z => absurd z (by omega)) (fun _ => rg_cell hi (br_f (Int32.not_lt.mpr (h7 i hi).1) (br_t (h7 i hi).2 (nm_r (nI_1 i) (hw () trivial))))))
    refine br_c (fun g => ?_) (fun g => ?_)
    · have q := hp.mp g
      by_cases e0 : en = 0
      · exact br_t e0 (br_t rfl h)
      by_cases e1 : en = 1
      · exact br_f e0 (br_t e1 (br_t rfl h))
      · have e4 : en = 4 := (q.resolve_left e0).resolve_left e1
        exact br_f e0 (br_f e1 (br_t e4 (br_t rfl h)))
    · have q : ¬ (en = 0 ∨ en = 1 ∨ en = 4) := fun z => g (hp.mpr z)
      exact br_f (fun z => q (Or.inl z)) (br_f (fun z => q (Or.inr (Or.inl z))) (br_f (fun z => q (Or.inr (Or.inr z))) (br_t rfl h)))
  exact key
theorem rg_equal {sz' kn' mv' : Int32} {b1 b2 b3 b4 b5 b6 b9 b10 b11 b12 b13 b14 b15 b16 : Nat → Int32} {post : Int32 → Prop} (h : post 1) :
    wpL_equal post (sz, en, pl, ct, kn, mv, a1, a2, a3, a4, a5, a6, a7, a8, a9, a10, a11, a12, a13, a14, a15, a16, sz', en, pl, ct, kn', mv', b1, b2, b3, b4, b5, b6, a7, a8, b9, b10, b11, b12, b13, b14, b15, b16) := by
  unfold wpL_equal
  have key : ∃ n, wL_equal_2 post sz en pl ct kn mv a1 a2 a3 a4 a5 a6 a7 a8 a9 a10 a11 a12 a13 a14 a15 a16 sz' en pl ct kn' mv' b1 b2 b3 b4 b5 b6 a7 a8 b9 b10 b11 b12 b13 b14 b15 b16 n 0 := by
    refine pk_loop (σ := Unit) (fun n i _ => wL_equal_2 post sz en pl ct kn mv a1 a2 a3 a4 a5 a6 a7 a8 a9 a10 a11 a12 a13 a14 a15 a16 sz' en pl ct kn' mv' b1 b2 b3 b4 b5 b6 a7 a8 b9 b10 b11 b12 b13 b14 b15 b16 n (nI i)) (fun _ _ => True) 8 0 () (by omega) trivial (fun n _ _ => pk_le 8 8 (fun _ => br_t rfl (br_t rfl (br_t rfl h))) (fun z => absurd z (by omega)))
      (fun n i _ hi _ hw => pk_le 8 i (fun z => absurd z (by omega)) (fun _ => rg_cell hi (rg_cell hi (br_t rfl ?_))))
    obtain ⟨q, hq, eq⟩ := pk_andE (nI i) (m := 3) 2 (by decide)
    rw [eq]
    exact rg_variable (by omega) (rg_variable (by omega) (br_t rfl (nm_r (nI_1 i) (hw () trivial))))
  exact key
theorem rg_init {post : St1 → Prop} (h : post (0, 0, -1, 0, 0, 0, rg_fill 4 (fun _ => -100) (fun _ => 0), rg_fill 4 (fun _ => 100) (fun _ => 0), fun _ => 0, fun _ => 0, fun _ => 0, fun _ => 0, fun _ => 0, fun _ => 0, fun _ => 0, fun _ => 0, fun _ => 0, fun _ => 0, fun _ => 0, fun _ => 0, fun _ => 0, fun _ => 0)) : wpX_init post 16 262 (0, 0, 0, 0, 0, 0) := by
  unfold wpX_init
  have key : ∃ n, wX_init_129 post 16 262 16 262 0 0 0 0 0 0 n 0 (fun _ => 0) (fun _ => 0) (fun _ => 0) (fun _ => 0) (fun _ => 0) (fun _ => 0) (fun _ => 0) (fun _ => 0) (fun _ => 0) (fun _ => 0) (fun _ => 0) (fun _ => 0) (fun _ => 0) (fun _ => 0) (fun _ => 0) (fun _ => 0) := by
    have q := pk_loop (σ := Unit) (fun n i _ => wX_init_129 post 16 262 16 262 0 0 0 0 0 0 n (nI i) (rg_fill i (fun _ => -100) (fun _ => 0)) (rg_fill i (fun _ => 100) (fun _ => 0)) (fun _ => 0) (fun _ => 0) (fun _ => 0) (fun _ => 0) (fun _ => 0) (fun _ => 0) (fun _ => 0) (fun _ => 0) (fun _ => 0) (fun _ => 0) (fun _ => 0) (fun _ => 0) (fun _ => 0) (fun _ => 0)) (fun _ _ => True) 4 0 () (by omega) trivial (fun n _ _ => pk_le 4 4 (fun _ => h) (fun z => absurd z (by omega)))
      (fun n i _ hi _ hw => pk_le 4 i (fun z => absurd z (by omega)) (fun _ => ⟨pk_in i 4 hi, nm_r (by rw [nI_clamp (by omega), ← rg_fill_s]) ⟨pk_in i 4 hi, nm_r (by rw [nI_clamp (by omega), ← rg_fill_s]) (nm_r (nI_1 i) (hw () trivial))⟩⟩))
    rw [rg_fill_0, rg_fill_0] at q
    exact q
  refine ⟨?_, ?_, ?_, ?_, ?_, ?_, ?_, ?_, ?_, ?_, ?_, ?_, ?_, ?_, ?_, ?_, ?_, ?_, ?_, ?_, ?_, ?_, ?_, ?_, ?_, ?_, ?_, ?_, ?_, ?_, ?_, ?_, key⟩ <;> omega
end
end
section
/-! wider ranges: a run that isn't stopped stays the same run -/
def rg_ag (z w : rg_Z) : Prop := z.1 = w.1 ∧ z.2.2.2.1 = w.2.2.2.1 ∧ z.2.2.2.2 = w.2.2.2.2
section
variable {sz en pl ct kn mv : Int32} {a1 a2 a3 a4 a5 a6 a7 a8 a9 a10 a11 a12 a13 a14 a15 a16 : Nat → Int32}
theorem rg_gv_sub {b1 b2 : Nat → Int32} {i x : Nat} {w : Int32} (hl : ∀ x, b1 x ≤ a1 x) (hh : ∀ x, a2 x ≤ b2 x) (h : ¬ (rg_gv a1 a2 i x w a7 a8).1 = -1) : rg_gv b1 b2 i x w a7 a8 = rg_gv a1 a2 i x w a7 a8 := by
  unfold rg_gv at h ⊢
  by_cases g : a1 x ≤ w ∧ w ≤ a2 x
  · rw [if_pos g, if_pos ⟨Int32.le_trans (hl x) g.1, Int32.le_trans g.2 (hh x)⟩]
  · rw [if_neg g] at h
    exact absurd rfl h
theorem rg_st_sub {b1 b2 : Nat → Int32} {i x y : Nat} {o k : Int32} (hl : ∀ x, b1 x ≤ a1 x) (hh : ∀ x, a2 x ≤ b2 x) (h : ¬ (rg_st a1 a2 o x y k i a7 a8).1 = -1) : rg_st b1 b2 o x y k i a7 a8 = rg_st a1 a2 o x y k i a7 a8 := by
  unfold rg_st at h ⊢
  by_cases e6 : o = 6
  · rw [if_pos e6, if_pos e6]
  rw [if_neg e6] at h
  rw [if_neg e6, if_neg e6]
  by_cases e7 : o = 7
  · rw [if_pos e7, if_pos e7]
  rw [if_neg e7] at h
  rw [if_neg e7, if_neg e7]
  by_cases e0 : o = 0
  · rw [if_pos e0] at h
    rw [if_pos e0, if_pos e0]
    exact rg_gv_sub hl hh h
  rw [if_neg e0] at h
  rw [if_neg e0, if_neg e0]
  by_cases e1 : o = 1
  · rw [if_pos e1] at h
    rw [if_pos e1, if_pos e1]
    exact rg_gv_sub hl hh h
  rw [if_neg e1] at h
  rw [if_neg e1, if_neg e1]
  by_cases e2 : o = 2
  · rw [if_pos e2] at h
    rw [if_pos e2, if_pos e2]
    exact rg_gv_sub hl hh h
  rw [if_neg e2] at h
  rw [if_neg e2, if_neg e2]
  by_cases e3 : o = 3
  · rw [if_pos e3] at h
    rw [if_pos e3, if_pos e3]
    exact rg_gv_sub hl hh h
  rw [if_neg e3] at h
  rw [if_neg e3, if_neg e3]
  by_cases g : ¬ a8 y + k < 0 ∧ a8 y + k ≤ 7
  · rw [if_pos g] at h
    rw [if_pos g, if_pos g]
    by_cases e4 : o = 4
    · rw [if_pos e4] at h
      rw [if_pos e4, if_pos e4]
      exact rg_gv_sub hl hh h
    · rw [if_neg e4, if_neg e4]
  · rw [if_neg g, if_neg g]
theorem rg_ex_neg {n : Nat} {z : rg_Z} (h : z.1 < 0) : rg_ex sz a1 a2 a3 a4 a5 a6 n z = z := by
  cases n with
  | zero => rfl
  | succ n =>
    unfold rg_ex
    rw [if_pos (Or.inl h)]
theorem rg_sim {b1 b2 : Nat → Int32} (hl : ∀ x, b1 x ≤ a1 x) (hh : ∀ x, a2 x ≤ b2 x) : ∀ (n : Nat) (z w : rg_Z), rg_ag z w → ¬ (rg_ex sz a1 a2 a3 a4 a5 a6 n z).1 < 0 → rg_ag (rg_ex sz a1 a2 a3 a4 a5 a6 n z) (rg_ex sz b1 b2 a3 a4 a5 a6 n w) := by
  intro n
  induction n with
  | zero => exact fun z w h _ => h
  | succ n ih =>
    intro z w h hn
    unfold rg_ex at hn ⊢
    by_cases g : z.1 < 0 ∨ sz ≤ z.1
    · rw [if_pos g, if_pos (by rw [← h.1]; exact g)]
      exact h
    · rw [if_neg g] at hn
      rw [if_neg g, if_neg (by rw [← h.1]; exact g)]
      refine ih _ _ ?_ hn
      have h1 : ¬ (rg_sr a1 a2 a3 a4 a5 a6 z).1 = -1 := by
        intro e
        have q : (rg_stz a1 a2 a3 a4 a5 a6 z).1 < 0 := by
          show (rg_sr a1 a2 a3 a4 a5 a6 z).1 < 0
          rw [e]
          decide
        rw [rg_ex_neg q] at hn
        exact hn q
      have h2 : rg_sr b1 b2 a3 a4 a5 a6 w = rg_sr a1 a2 a3 a4 a5 a6 z := by
        unfold rg_sr at h1 ⊢
        rw [← h.1, ← h.2.2]
        exact rg_st_sub hl hh h1
      unfold rg_stz
      rw [h2]
      refine ⟨rfl, ?_, rfl⟩
      show z.2.2.2.1 + 1 = w.2.2.2.1 + 1
      rw [h.2.1]
theorem rg_fill_cg {n : Nat} {f f' g : Nat → Int32} (h : ∀ j, j < n → f j = f' j) : rg_fill n f g = rg_fill n f' g := by
  funext j
  unfold rg_fill
  by_cases e : j < n
  · rw [if_pos e, if_pos e, h j e]
  · rw [if_neg e, if_neg e]
theorem rg_nz_eq {l h l' h' : Int32} (hl : l' ≤ l) (hl0 : ¬ l ≤ 0 → l' = l) (hh : h ≤ h') (hh0 : ¬ 0 ≤ h → h' = h) : rg_nz l h = rg_nz l' h' := by
  unfold rg_nz
  by_cases g : l ≤ 0
  · rw [if_pos g, if_pos (Int32.le_trans hl g)]
    by_cases g' : 0 ≤ h
    · rw [if_pos g', if_pos (Int32.le_trans g' hh)]
    · rw [hh0 g', if_neg g']
  · rw [hl0 g, if_neg g, if_neg g]
theorem rg_sameZ {s : Nat} {zg zh : rg_Z} (hs : s ≤ 14) (hz : rg_zi s a1 a2 a9 a10 a11 zg) (h1 : (rg_fin (nI s) zg).1 = 1) (hag : ¬ zg.1 < 0 → rg_ag zg zh) : rg_ag zg zh ∧ rg_fin (nI s) zh = rg_fin (nI s) zg := by
  have hn : ¬ zg.1 < nI s := by
    intro g
    unfold rg_fin at h1
    rw [if_pos g] at h1
    by_cases g' : zg.1 < 0
    · rw [if_pos g'] at h1
      rcases hz.1 with ⟨_, q, _⟩ | ⟨j, hj, ej, _⟩
      · dsimp only at h1
        rw [h1] at q
        exact absurd q (by decide)
      · rw [ej] at g'
        exact absurd g' (nI_pos (by omega))
    · rw [if_neg g'] at h1
      exact absurd h1 (by decide)
  have key := hag (fun g => hn (rg_ltlt g (nI_pos' (by omega))))
  refine ⟨key, ?_⟩
  unfold rg_fin
  rw [← key.1, if_neg hn, if_neg hn]
theorem rg_agN (n : Nat) {s xx : Nat} {low high : Int32} (hl : low ≤ a1 xx) (hl0 : ¬ a1 xx ≤ 0 → low = a1 xx) (hh : a2 xx ≤ high) (hh0 : ¬ 0 ≤ a2 xx → high = a2 xx)
    (hn0 : ¬ (rg_ex (nI s) a1 a2 a3 a4 a5 a6 n (0, en, pl, 0, a7, rg_fill 4 (fun x => rg_nz (a1 x) (a2 x)) a8)).1 < 0) :
    rg_ag (rg_ex (nI s) a1 a2 a3 a4 a5 a6 n (0, en, pl, 0, a7, rg_fill 4 (fun x => rg_nz (a1 x) (a2 x)) a8)) (rg_ex (nI s) (upd a1 xx low) (upd a2 xx high) a3 a4 a5 a6 n (0, en, pl, 0, a7, rg_fill 4 (fun x => rg_nz (upd a1 xx low x) (upd a2 xx high x)) a8)) := by
  have hF : rg_fill 4 (fun x => rg_nz (upd a1 xx low x) (upd a2 xx high x)) a8 = rg_fill 4 (fun x => rg_nz (a1 x) (a2 x)) a8 := by
    refine rg_fill_cg (fun j _ => ?_)
    by_cases e : j = xx
    · subst e
      rw [pk_us, pk_us]
      exact (rg_nz_eq hl hl0 hh hh0).symm
    · rw [pk_un e, pk_un e]
  rw [hF]
  generalize rg_fill 4 (fun x => rg_nz (a1 x) (a2 x)) a8 = F at hn0
  refine rg_sim (fun x => ?_) (fun x => ?_) n _ _ ⟨rfl, rfl, rfl⟩ hn0
  · by_cases e : x = xx
    · subst e
      rw [pk_us]
      exact hl
    · rw [pk_un e]
      exact Int32.le_refl _
  · by_cases e : x = xx
    · subst e
      rw [pk_us]
      exact hh
    · rw [pk_un e]
      exact Int32.le_refl _
theorem rg_322 {s xx L kc ks : Nat} {xs : Nat → Int32} {low high : Int32} (hI : rg_inv s en pl kn a1 a2 a3 a4 a5 a6 a7 a9 a10 a11 a13 a14) (hx : xx < 4) (h1 : -100 ≤ low.toInt) (h2 : high.toInt ≤ 100)
    (hl : low ≤ a1 xx) (hl0 : ¬ a1 xx ≤ 0 → low = a1 xx) (hh : a2 xx ≤ high) (hh0 : ¬ 0 ≤ a2 xx → high = a2 xx) :
    wL_law_322 (fun r => r = 1) L xs (nI xx) (a1 xx) (a2 xx) low high kc ks (nI s) en pl ct kn mv a1 a2 a3 a4 a5 a6 a7 a8 a9 a10 a11 a12 a13 a14 a15 a16 (nI s) en pl ct kn mv a1 a2 a3 a4 a5 a6 a7 a8 a9 a10 a11 a12 a13 a14 a15 a16 := by
  have hlh : low ≤ high := Int32.le_trans hl (Int32.le_trans (hI.2.2.2.1 xx hx) hh)
  have hIh := rg_inv_range (x := xx) h1 h2 hlh hI
  obtain ⟨hs, hwf, hR, hRl, h7, hp, hk⟩ := hI
  obtain ⟨_, _, hR', hRl', _, _, hk'⟩ := hIh
  obtain ⟨kg, Kg, g13, g14, g15, g16, hkg, hzg, wg⟩ := @rg_run en pl ct kn mv a1 a2 a3 a4 a5 a6 a7 a8 a9 a10 a11 a12 a13 a14 a15 a16 s hs hwf hR hRl h7 hk
  obtain ⟨kh, Kh, h13, h14, h15, h16, hkh, hzh, wh⟩ := @rg_run en pl ct 0 mv (upd a1 xx low) (upd a2 xx high) a3 a4 a5 a6 a7 a8 a9 a10 a11 a12 a13 a14 a15 a16 s hs hwf hR' hRl' h7 hk'
  have hag : ¬ (rg_rz s a1 a2 a3 a4 a5 a6 en pl a7 a8).1 < 0 → rg_ag (rg_rz s a1 a2 a3 a4 a5 a6 en pl a7 a8) (rg_rz s (upd a1 xx low) (upd a2 xx high) a3 a4 a5 a6 en pl a7 a8) := by
    unfold rg_rz
    exact rg_agN 120 hl hl0 hh hh0
  generalize rg_rz s a1 a2 a3 a4 a5 a6 en pl a7 a8 = zg at hzg wg hag
  generalize rg_rz s (upd a1 xx low) (upd a2 xx high) a3 a4 a5 a6 en pl a7 a8 = zh at hzh wh hag
  have hv := hzg.2.1 xx hx
  unfold wL_law_322
  refine rg_range hx h1 h2 hlh (br_t rfl (wg _ (wh _ (rg_variable hx (rg_sound hzg.2.2 (rg_fin_ok hzg) (br_f (by decide) (rg_sound hzh.2.2 (rg_fin_ok hzh) (br_f (by decide) (br_f (Int32.not_lt.mpr hv.1) (br_f (Int32.not_lt.mpr hv.2) (br_c (fun e => ?_) (fun e => br_f e rfl))))))))))))
  obtain ⟨ha, hf⟩ := rg_sameZ hs hzg e hag
  have e7 : zh.2.2.2.2.1 = zg.2.2.2.2.1 := by rw [ha.2.2]
  have e8 : zh.2.2.2.2.2 = zg.2.2.2.2.2 := by rw [ha.2.2]
  rw [hf, e7, e8, ← ha.2.1]
  exact br_t e (br_t e (rg_equal (br_f (by decide) rfl)))
end
end
section
/-! the law -/
section
variable {sz en pl ct kn mv : Int32} {a1 a2 a3 a4 a5 a6 a7 a8 a9 a10 a11 a12 a13 a14 a15 a16 : Nat → Int32}
theorem rg_300 {s xx L kc ks : Nat} {xs : Nat → Int32} {low more : Int32} (hI : rg_inv s en pl kn a1 a2 a3 a4 a5 a6 a7 a9 a10 a11 a13 a14) (hx : xx < 4) (h1 : -100 ≤ low.toInt)
    (hl : low ≤ a1 xx) (hl0 : ¬ a1 xx ≤ 0 → low = a1 xx) (m0 : 0 ≤ more.toInt) (m1 : more.toInt ≤ 7) (mz : ¬ 0 ≤ a2 xx → more = 0) :
    wL_law_300 (fun r => r = 1) L xs (nI xx) (a1 xx) (a2 xx) more low kc ks (nI s) en pl ct kn mv a1 a2 a3 a4 a5 a6 a7 a8 a9 a10 a11 a12 a13 a14 a15 a16 (nI s) en pl ct kn mv a1 a2 a3 a4 a5 a6 a7 a8 a9 a10 a11 a12 a13 a14 a15 a16 := by
  have r1 := (hI.2.2.1 xx hx).1
  have r2 := (hI.2.2.1 xx hx).2
  have r3 := hI.2.2.2.1 xx hx
  rw [rg_le] at r3
  have e : (a2 xx + more).toInt = (a2 xx).toInt + more.toInt := rg_ad (by omega) (by omega)
  unfold wL_law_300
  refine br_c (fun g => ?_) (fun g => ?_)
  · have g' := g
    rw [rg_le, rg_t100] at g'
    refine rg_322 hI hx h1 g' hl hl0 ?_ (fun z => ?_)
    · rw [rg_le, e]
      omega
    · rw [mz z, Int32.add_zero]
  · have g' := g
    rw [rg_le, rg_t100, e] at g'
    refine rg_322 hI hx h1 (by decide) hl hl0 ?_ (fun z => ?_)
    · rw [rg_le, rg_t100]
      omega
    · have q := mz z
      rw [q, rg_t0] at g'
      omega
theorem rg_278 {s xx L kc ks : Nat} {xs : Nat → Int32} {less more : Int32} (hI : rg_inv s en pl kn a1 a2 a3 a4 a5 a6 a7 a9 a10 a11 a13 a14) (hx : xx < 4)
    (l0 : 0 ≤ less.toInt) (l1 : less.toInt ≤ 7) (lz : ¬ a1 xx ≤ 0 → less = 0) (m0 : 0 ≤ more.toInt) (m1 : more.toInt ≤ 7) (mz : ¬ 0 ≤ a2 xx → more = 0) :
    wL_law_278 (fun r => r = 1) L xs (nI xx) (a1 xx) (a2 xx) less more kc ks (nI s) en pl ct kn mv a1 a2 a3 a4 a5 a6 a7 a8 a9 a10 a11 a12 a13 a14 a15 a16 (nI s) en pl ct kn mv a1 a2 a3 a4 a5 a6 a7 a8 a9 a10 a11 a12 a13 a14 a15 a16 := by
  have r1 := (hI.2.2.1 xx hx).1
  have r2 := (hI.2.2.1 xx hx).2
  have r3 := hI.2.2.2.1 xx hx
  rw [rg_le] at r3
  have e : (a1 xx - less).toInt = (a1 xx).toInt - less.toInt := rg_sb (by omega) (by omega)
  unfold wL_law_278
  refine br_c (fun g => ?_) (fun g => ?_)
  · have g' := g
    rw [rg_le, rg_tm100] at g'
    refine rg_300 hI hx g' ?_ (fun z => ?_) m0 m1 mz
    · rw [rg_le, e]
      omega
    · rw [lz z, Int32.sub_zero]
  · have g' := g
    rw [rg_le, rg_tm100, e] at g'
    refine rg_300 hI hx (by decide) ?_ (fun z => ?_) m0 m1 mz
    · rw [rg_le, rg_tm100]
      omega
    · have q := lz z
      rw [q, rg_t0] at g'
      omega
theorem rg_261 {s xx L kc ks : Nat} {xs : Nat → Int32} {less pick : Int32} (hI : rg_inv s en pl kn a1 a2 a3 a4 a5 a6 a7 a9 a10 a11 a13 a14) (hx : xx < 4)
    (l0 : 0 ≤ less.toInt) (l1 : less.toInt ≤ 7) (lz : ¬ a1 xx ≤ 0 → less = 0) :
    wL_law_261 (fun r => r = 1) L xs pick (nI xx) (a1 xx) (a2 xx) less kc ks (nI s) en pl ct kn mv a1 a2 a3 a4 a5 a6 a7 a8 a9 a10 a11 a12 a13 a14 a15 a16 (nI s) en pl ct kn mv a1 a2 a3 a4 a5 a6 a7 a8 a9 a10 a11 a12 a13 a14 a15 a16 := by
  obtain ⟨m, hm, em⟩ := pk_andE (pick >>> ((5 : Int32) &&& 31)) (m := 7) 3 (by decide)
  have tm := nI_toInt (show m < 2 ^ 31 by omega)
  unfold wL_law_261
  rw [em]
  exact br_c (fun g => rg_278 hI hx l0 l1 lz (by omega) (by omega) (fun z => absurd g z)) (fun g => rg_278 hI hx l0 l1 lz (by decide) (by decide) (fun _ => rfl))
theorem rg_222 {k L kc ks n : Nat} {xs : Nat → Int32} {x3 x4 lo hi r : Int32} (h7 : ∀ j, j < 8 → -100 ≤ a7 j ∧ a7 j ≤ 100) (hp : pl = -1 ↔ (en = 0 ∨ en = 1 ∨ en = 4))
    (h : wL_law_45 (fun r => r = 1) L xs x3 x4 kc ks n lo hi (nI (k + 2)) sz en pl ct kn mv a1 a2 a3 a4 a5 a6 a7 a8 a9 a10 a11 a12 a13 a14 a15 a16 sz en pl ct kn mv a1 a2 a3 a4 a5 a6 a7 a8 a9 a10 a11 a12 a13 a14 a15 a16) :
    wL_law_222 (fun r => r = 1) L xs (wL_law_45 (fun r => r = 1) L xs x3 x4 kc ks n) x3 x4 lo (nI k) r r hi kc ks sz en pl ct kn mv a1 a2 a3 a4 a5 a6 a7 a8 a9 a10 a11 a12 a13 a14 a15 a16 sz en pl ct kn mv a1 a2 a3 a4 a5 a6 a7 a8 a9 a10 a11 a12 a13 a14 a15 a16 := by
  unfold wL_law_222
  exact br_t rfl (rg_sound h7 hp (br_f (by decide) (nm_r (nI_add k 2) h)))
theorem rg_111 {k L kc ks n : Nat} {xs : Nat → Int32} {x3 x4 lo hi o p r own : Int32} (h7 : ∀ j, j < 8 → -100 ≤ a7 j ∧ a7 j ≤ 100) (hp : pl = -1 ↔ (en = 0 ∨ en = 1 ∨ en = 4))
    (h : wL_law_45 (fun r => r = 1) L xs x3 x4 kc ks n (rg_tl lo o p x4) (rg_th hi o p x4) (nI (k + 2)) sz en pl ct kn mv a1 a2 a3 a4 a5 a6 a7 a8 a9 a10 a11 a12 a13 a14 a15 a16 sz en pl ct kn mv a1 a2 a3 a4 a5 a6 a7 a8 a9 a10 a11 a12 a13 a14 a15 a16) (ho : own = if p &&& 3 = x4 then 1 else 0) :
    wL_law_111 (fun r => r = 1) L xs (wL_law_45 (fun r => r = 1) L xs x3 x4 kc ks n) x3 x4 lo hi (nI k) o p r r own kc ks sz en pl ct kn mv a1 a2 a3 a4 a5 a6 a7 a8 a9 a10 a11 a12 a13 a14 a15 a16 sz en pl ct kn mv a1 a2 a3 a4 a5 a6 a7 a8 a9 a10 a11 a12 a13 a14 a15 a16 := by
  unfold wL_law_111
  unfold rg_tl rg_th at h
  by_cases c : p &&& 3 = x4
  · rw [if_pos c] at ho
    rw [if_pos c, if_pos c] at h
    have hn : ¬ own = 0 := by rw [ho]; decide
    by_cases h9 : o = 9
    · rw [if_pos h9, if_pos h9] at h
      exact br_f hn (br_t h9 (br_f hn (br_t h9 (rg_222 h7 hp h))))
    · rw [if_neg h9, if_neg h9] at h
      by_cases h10 : o = 10
      · rw [if_pos h10, if_pos h10] at h
        exact br_f hn (br_f h9 (br_t h10 (br_f hn (br_f h9 (br_t h10 (rg_222 h7 hp h))))))
      · rw [if_neg h10, if_neg h10] at h
        exact br_f hn (br_f h9 (br_f h10 (br_f hn (br_f h9 (br_f h10 (rg_222 h7 hp h))))))
  · rw [if_neg c] at ho
    rw [if_neg c, if_neg c] at h
    exact br_t ho (br_t ho (rg_222 h7 hp h))
end
theorem rg_law45 {L : Nat} (hL : L ≤ 260) (xs : Nat → Int32) (pick : Int32) {xx : Nat} (hx : xx < 4) (kc ks : Nat) (u : St1) (hu : rg_Inv u) :
    ∃ n, wL_law_45 (fun r => r = 1) L xs pick (nI xx) kc ks n (rg_lw u xx) (rg_hg u xx) 1 u.1 u.2.1 u.2.2.1 u.2.2.2.1 u.2.2.2.2.1 u.2.2.2.2.2.1 u.2.2.2.2.2.2.1 u.2.2.2.2.2.2.2.1 u.2.2.2.2.2.2.2.2.1 u.2.2.2.2.2.2.2.2.2.1 u.2.2.2.2.2.2.2.2.2.2.1 u.2.2.2.2.2.2.2.2.2.2.2.1 u.2.2.2.2.2.2.2.2.2.2.2.2.1 u.2.2.2.2.2.2.2.2.2.2.2.2.2.1 u.2.2.2.2.2.2.2.2.2.2.2.2.2.2.1 u.2.2.2.2.2.2.2.2.2.2.2.2.2.2.2.1 u.2.2.2.2.2.2.2.2.2.2.2.2.2.2.2.2.1 u.2.2.2.2.2.2.2.2.2.2.2.2.2.2.2.2.2.1 u.2.2.2.2.2.2.2.2.2.2.2.2.2.2.2.2.2.2.1 u.2.2.2.2.2.2.2.2.2.2.2.2.2.2.2.2.2.2.2.1 u.2.2.2.2.2.2.2.2.2.2.2.2.2.2.2.2.2.2.2.2.1 u.2.2.2.2.2.2.2.2.2.2.2.2.2.2.2.2.2.2.2.2.2 u.1 u.2.1 u.2.2.1 u.2.2.2.1 u.2.2.2.2.1 u.2.2.2.2.2.1 u.2.2.2.2.2.2.1 u.2.2.2.2.2.2.2.1 u.2.2.2.2.2.2.2.2.1 u.2.2.2.2.2.2.2.2.2.1 u.2.2.2.2.2.2.2.2.2.2.1 u.2.2.2.2.2.2.2.2.2.2.2.1 u.2.2.2.2.2.2.2.2.2.2.2.2.1 u.2.2.2.2.2.2.2.2.2.2.2.2.2.1 u.2.2.2.2.2.2.2.2.2.2.2.2.2.2.1 u.2.2.2.2.2.2.2.2.2.2.2.2.2.2.2.1 u.2.2.2.2.2.2.2.2.2.2.2.2.2.2.2.2.1 u.2.2.2.2.2.2.2.2.2.2.2.2.2.2.2.2.2.1 u.2.2.2.2.2.2.2.2.2.2.2.2.2.2.2.2.2.2.1 u.2.2.2.2.2.2.2.2.2.2.2.2.2.2.2.2.2.2.2.1 u.2.2.2.2.2.2.2.2.2.2.2.2.2.2.2.2.2.2.2.2.1 u.2.2.2.2.2.2.2.2.2.2.2.2.2.2.2.2.2.2.2.2.2 := by
  refine loop_m (fun n (b : Nat × St1) => wL_law_45 (fun r => r = 1) L xs pick (nI xx) kc ks n (rg_lw b.2 xx) (rg_hg b.2 xx) (nI b.1) b.2.1 b.2.2.1 b.2.2.2.1 b.2.2.2.2.1 b.2.2.2.2.2.1 b.2.2.2.2.2.2.1 b.2.2.2.2.2.2.2.1 b.2.2.2.2.2.2.2.2.1 b.2.2.2.2.2.2.2.2.2.1 b.2.2.2.2.2.2.2.2.2.2.1 b.2.2.2.2.2.2.2.2.2.2.2.1 b.2.2.2.2.2.2.2.2.2.2.2.2.1 b.2.2.2.2.2.2.2.2.2.2.2.2.2.1 b.2.2.2.2.2.2.2.2.2.2.2.2.2.2.1 b.2.2.2.2.2.2.2.2.2.2.2.2.2.2.2.1 b.2.2.2.2.2.2.2.2.2.2.2.2.2.2.2.2.1 b.2.2.2.2.2.2.2.2.2.2.2.2.2.2.2.2.2.1 b.2.2.2.2.2.2.2.2.2.2.2.2.2.2.2.2.2.2.1 b.2.2.2.2.2.2.2.2.2.2.2.2.2.2.2.2.2.2.2.1 b.2.2.2.2.2.2.2.2.2.2.2.2.2.2.2.2.2.2.2.2.1 b.2.2.2.2.2.2.2.2.2.2.2.2.2.2.2.2.2.2.2.2.2.1 b.2.2.2.2.2.2.2.2.2.2.2.2.2.2.2.2.2.2.2.2.2.2 b.2.1 b.2.2.1 b.2.2.2.1 b.2.2.2.2.1 b.2.2.2.2.2.1 b.2.2.2.2.2.2.1 b.2.2.2.2.2.2.2.1 b.2.2.2.2.2.2.2.2.1 b.2.2.2.2.2.2.2.2.2.1 b.2.2.2.2.2.2.2.2.2.2.1 b.2.2.2.2.2.2.2.2.2.2.2.1 b.2.2.2.2.2.2.2.2.2.2.2.2.1 b.2.2.2.2.2.2.2.2.2.2.2.2.2.1 b.2.2.2.2.2.2.2.2.2.2.2.2.2.2.1 b.2.2.2.2.2.2.2.2.2.2.2.2.2.2.2.1 b.2.2.2.2.2.2.2.2.2.2.2.2.2.2.2.2.1 b.2.2.2.2.2.2.2.2.2.2.2.2.2.2.2.2.2.1 b.2.2.2.2.2.2.2.2.2.2.2.2.2.2.2.2.2.2.1 b.2.2.2.2.2.2.2.2.2.2.2.2.2.2.2.2.2.2.2.1 b.2.2.2.2.2.2.2.2.2.2.2.2.2.2.2.2.2.2.2.2.1 b.2.2.2.2.2.2.2.2.2.2.2.2.2.2.2.2.2.2.2.2.2.1 b.2.2.2.2.2.2.2.2.2.2.2.2.2.2.2.2.2.2.2.2.2.2) (fun b => b.1 ≤ L + 2 ∧ rg_Inv b.2) (fun b => L + 2 - b.1) ?_ (1, u) ⟨by show 1 ≤ L + 2; omega, hu⟩
  rintro n ⟨k, sz, en, pl, ct, kn, mv, a1, a2, a3, a4, a5, a6, a7, a8, a9, a10, a11, a12, a13, a14, a15, a16⟩ ⟨hk, s, es, hI⟩ hw
  subst es
  dsimp only at hk hw ⊢
  obtain ⟨m, hm, em⟩ := pk_andE (pick >>> ((2 : Int32) &&& 31)) (m := 7) 3 (by decide)
  have tm := nI_toInt (show m < 2 ^ 31 by omega)
  refine pk_le L (k + 1) (fun g => ?_) (fun g => ?_) rfl (nI_1 k)
  · rw [em]
    exact br_c (fun g => rg_261 hI hx (by omega) (by omega) (fun z => absurd g z)) (fun g => rg_261 hI hx (by decide) (by decide) (fun _ => rfl))
  · obtain ⟨r, ⟨v1, v2, v3, v4, v5, v6, v7, v8, v9, v10, v11, v12, v13, v14, v15, v16, v17, v18, v19, v20, v21, v22⟩, hT, w⟩ := rg_turn (ct := ct) (mv := mv) (a8 := a8) (a12 := a12) (a15 := a15) (a16 := a16) (xs k) (xs (k + 1)) hI
    obtain ⟨⟨s', es', hI'⟩, hT'⟩ := hT
    have q := hw (k + 2, v1, v2, v3, v4, v5, v6, v7, v8, v9, v10, v11, v12, v13, v14, v15, v16, v17, v18, v19, v20, v21, v22) ⟨by show k + 2 ≤ L + 2; omega, s', es', hI'⟩ (by show L + 2 - (k + 2) < L + 2 - k; omega)
    rw [(hT' xx hx).1, (hT' xx hx).2] at q
    rw [nI_clamp (show k < 2 ^ 31 by omega), nI_1, nI_clamp (show k + 1 < 2 ^ 31 by omega)]
    refine ⟨pk_in k L (by omega), nm_e ⟨pk_in (k + 1) L (by omega), nm_e ⟨pk_in k L (by omega), w _ ⟨pk_in k L (by omega), w _ (br_c (fun c => ?_) (fun c => ?_))⟩⟩⟩⟩
    · exact rg_111 hI'.2.2.2.2.1 hI'.2.2.2.2.2.1 q (by rw [if_pos c])
    · exact rg_111 hI'.2.2.2.2.1 hI'.2.2.2.2.2.1 q (by rw [if_neg c])
theorem rg_Inv0 : rg_Inv (0, 0, -1, 0, 0, 0, rg_fill 4 (fun _ => -100) (fun _ => 0), rg_fill 4 (fun _ => 100) (fun _ => 0), fun _ => 0, fun _ => 0, fun _ => 0, fun _ => 0, fun _ => 0, fun _ => 0, fun _ => 0, fun _ => 0, fun _ => 0, fun _ => 0, fun _ => 0, fun _ => 0, fun _ => 0, fun _ => 0) := by
  refine ⟨0, rfl, by omega, fun i hi => absurd hi (by omega), fun x hx => ?_, fun x hx => ?_, fun j _ => ⟨show (-100 : Int32) ≤ 0 by decide, show (0 : Int32) ≤ 100 by decide⟩, ⟨fun _ => Or.inl rfl, fun _ => rfl⟩, fun z => absurd rfl z⟩
  · rw [rg_fill_in hx, rg_fill_in hx]
    decide
  · rw [rg_fill_in hx, rg_fill_in hx]
    decide
theorem i_vc (xs : Nat → Int32) (L : Nat) (hL : L ≤ 260) : wpL_law (fun r => r = 1) L xs := by
  have key : ∀ pick : Int32, wL_law_28 (fun r => r = 1) L xs pick (1 + 16 + 1 + 16) (22 + 262 + 22 + 262) 0 0 (-1) 0 0 0 (rg_fill 4 (fun _ => -100) (fun _ => 0)) (rg_fill 4 (fun _ => 100) (fun _ => 0)) (fun _ => 0) (fun _ => 0) (fun _ => 0) (fun _ => 0) (fun _ => 0) (fun _ => 0) (fun _ => 0) (fun _ => 0) (fun _ => 0) (fun _ => 0) (fun _ => 0) (fun _ => 0) (fun _ => 0) (fun _ => 0) 0 0 (-1) 0 0 0 (rg_fill 4 (fun _ => -100) (fun _ => 0)) (rg_fill 4 (fun _ => 100) (fun _ => 0)) (fun _ => 0) (fun _ => 0) (fun _ => 0) (fun _ => 0) (fun _ => 0) (fun _ => 0) (fun _ => 0) (fun _ => 0) (fun _ => 0) (fun _ => 0) (fun _ => 0) (fun _ => 0) (fun _ => 0) (fun _ => 0) := by
    intro pick
    obtain ⟨xx, hxx, e⟩ := pk_andE pick (m := 3) 2 (by decide)
    have q := rg_law45 hL xs pick (xx := xx) (by omega) (1 + 16 + 1 + 16) (22 + 262 + 22 + 262) _ rg_Inv0
    have el : rg_lw (0, 0, -1, 0, 0, 0, rg_fill 4 (fun _ => -100) (fun _ => 0), rg_fill 4 (fun _ => 100) (fun _ => 0), fun _ => 0, fun _ => 0, fun _ => 0, fun _ => 0, fun _ => 0, fun _ => 0, fun _ => 0, fun _ => 0, fun _ => 0, fun _ => 0, fun _ => 0, fun _ => 0, fun _ => 0, fun _ => 0) xx = -100 := rg_fill_in (n := 4) (j := xx) (f := fun _ => -100) (g := fun _ => 0) (by omega)
    have eh : rg_hg (0, 0, -1, 0, 0, 0, rg_fill 4 (fun _ => -100) (fun _ => 0), rg_fill 4 (fun _ => 100) (fun _ => 0), fun _ => 0, fun _ => 0, fun _ => 0, fun _ => 0, fun _ => 0, fun _ => 0, fun _ => 0, fun _ => 0, fun _ => 0, fun _ => 0, fun _ => 0, fun _ => 0, fun _ => 0, fun _ => 0) xx = 100 := rg_fill_in (n := 4) (j := xx) (f := fun _ => 100) (g := fun _ => 0) (by omega)
    rw [el, eh] at q
    unfold wL_law_28
    exact nm_r e q
  unfold wpL_law
  refine ⟨16, 262, by omega, by omega, rg_init ⟨by omega, by omega, 16, 262, by omega, by omega, rg_init ?_⟩⟩
  exact pk_le L 0 (fun _ => key 0) (fun g => ⟨pk_in 0 L g, key _⟩)
end
