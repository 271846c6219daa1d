section
/-- the disk's page p (cells a, number b) is page p of the view V, N -/
def ae_pe (a b V N : Nat → Int32) (p : Nat) : Prop := (∀ i, i < 4 → a (4 * p + i) = V (4 * p + i)) ∧ b p = N p
/-- frame f holds page p of the view V, N -/
def ae_fr (a13 a14 V N : Nat → Int32) (f p : Nat) : Prop := (∀ i, i < 4 → a13 (4 * f + i) = V (4 * p + i)) ∧ a14 f = N p
/-- the pool is coherent with the view V, N; every page of the disk is old (V0, N0) or new (V, N) -/
def ae_CI (fc : Nat) (V0 N0 V N a1 a2 a12 a13 a14 a15 : Nat → Int32) : Prop :=
  (∀ p, p < 4 → N p = 0 ∨ N p = 1) ∧
  (∀ f, f < fc → a12 f = -1 ∨ ∃ p, p < 4 ∧ a12 f = nI p ∧ ae_fr a13 a14 V N f p ∧ (a15 f = 0 → ae_pe a1 a2 V N p)) ∧
  (∀ f g, f < fc → g < fc → a12 f = a12 g → a12 f = -1 ∨ f = g) ∧
  (∀ p, p < 4 → (∃ f, f < fc ∧ a12 f = nI p) ∨ ae_pe a1 a2 V N p) ∧
  (∀ p, p < 4 → ae_pe a1 a2 V0 N0 p ∨ ae_pe a1 a2 V N p)
/-- nothing -/
def ae_Z : Nat → Int32 := fun _ => 0
/-- what the disk and the safe log recover to: V -/
def ae_RI (V : Nat → Int32) (sE cE fC hd : Int32) (a1 a2 a3 a4 a5 a6 a7 a9 : Nat → Int32) : Prop :=
  (∃ fc h, 1 ≤ fc ∧ fc ≤ 3 ∧ h < fc ∧ fC = nI fc ∧ hd = nI h) ∧ cE = 0 ∧ (∀ i, i < 3 → a3 i = 0) ∧ (∀ i, i < 4 → a4 i = 0) ∧
  ((∃ n, n ≤ 1 ∧ sE = nI n ∧ (1 ≤ n → a5 1 = 2 ∧ ∃ t, t < 3 ∧ a6 1 = nI t) ∧ ∀ p, p < 4 → ae_pe a1 a2 V ae_Z p) ∨
   (∃ t k v, t < 3 ∧ k < 16 ∧ sE = nI 2 ∧ a5 1 = 0 ∧ a5 2 = 2 ∧ a6 1 = nI t ∧ a6 2 = nI t ∧ a7 1 = nI k ∧ a9 1 = v ∧ (∀ j, j < 16 → V j = upd ae_Z k v j) ∧
      ∀ p, p < 4 → ae_pe a1 a2 ae_Z ae_Z p ∨ ae_pe a1 a2 (upd ae_Z k v) (upd ae_Z (k / 4) 1) p))
theorem ae_ne {p : Nat} (hp : p < 4) : ¬ nI p = -1 := fun z => nI_pos (n := p) (by omega) (by rw [z]; decide)
theorem ae_inj {a b : Nat} (ha : a < 4) (hb : b < 4) (h : nI a = nI b) : a = b := (nI_eq (by omega) (by omega)).mp h
theorem ae_ix (f i : Nat) : (4 : Int32) * nI f + nI i = nI (4 * f + i) := by
  rw [show (4 : Int32) = nI 4 from rfl, pk_mul, nI_add]
theorem ae_i8 : ∀ p, p < 16 → (nI p).toInt8.toInt32 = nI p := by decide +kernel
theorem ae_pg {k : Nat} (h : k < 16) : nI k >>> ((2 : Int32) &&& 31) = nI (k / 4) := pk_shrN (by omega) _ 2 (by decide)
theorem ae_lo {k : Nat} (h : k < 16) : nI k &&& 3 = nI (k % 4) := pk_andN (by omega) 2 (by decide)
theorem ae_n01 {x : Int32} (h : x = 0 ∨ x = 1) : vp_nar .short x = x := by
  rw [vp_nar_short]
  rcases h with z | z
  · rw [z]; decide
  · rw [z]; decide
theorem ae_fill {s : Nat → Int32} {i k : Nat} {c : Int32} (hk : k = i) (h : ∀ j, j < i → s j = c) : ∀ j, j < i + 1 → upd s k c j = c := by
  intro j hj
  rw [hk]
  by_cases e : j = i
  · rw [e, pk_us]
  · rw [pk_un e]
    exact h j (by omega)
theorem ae_13 {x : Int32} (h1 : 1 ≤ x) (h2 : x ≤ 3) : ∃ j, 1 ≤ j ∧ j ≤ 3 ∧ x = nI j := by
  have h0 : ¬ x < 0 := by
    rw [Int32.lt_iff_toInt_lt]
    rw [Int32.le_iff_toInt_le] at h1
    have e1 : (1 : Int32).toInt = 1 := by decide
    have e0 : (0 : Int32).toInt = 0 := by decide
    omega
  obtain ⟨j, hj, rfl⟩ := nI_of2 (M := 3) (n := 3) (by decide) h0 h2
  refine ⟨j, ?_, hj, rfl⟩
  rcases Nat.eq_zero_or_pos j with z | z
  · subst z
    exact absurd h1 (by decide)
  · exact z
/-- an int against a literal bound: below 0, above it, or a natural -/
theorem ae_cls (x M : Int32) (n : Nat) (hM : M.toInt = n) : (x < 0 ∨ M < x) ∨ ∃ j : Nat, j ≤ n ∧ x = nI j := by
  by_cases h : x < 0
  · exact Or.inl (Or.inl h)
  · by_cases g : M < x
    · exact Or.inl (Or.inr g)
    · exact Or.inr (nI_of2 hM h (Int32.not_lt.mp g))
theorem ae_pe_tr {a b c d X Y : Nat → Int32} {p : Nat} (h : ae_pe a b c d p) (g : ae_pe c d X Y p) : ae_pe a b X Y p :=
  ⟨fun i hi => (h.1 i hi).trans (g.1 i hi), h.2.trans g.2⟩
theorem ae_CI_get {fc : Nat} {V0 N0 V N a1 a2 a12 a13 a14 a15 : Nat → Int32} (h : ae_CI fc V0 N0 V N a1 a2 a12 a13 a14 a15) {f p : Nat} (hf : f < fc) (hp : p < 4) (e : a12 f = nI p) : ae_fr a13 a14 V N f p := by
  obtain ⟨c1, c2, c3, c4, c5⟩ := h
  rcases c2 f hf with z | ⟨q, hq, eq, fr, _⟩
  · rw [e] at z
    exact absurd z (ae_ne hp)
  · have w : q = p := ae_inj hq hp (eq.symm.trans e)
    rw [← w]
    exact fr
theorem ae_CI_wr {fc : Nat} {V0 N0 V N a1 a2 a12 a13 a14 a15 b1 : Nat → Int32} (h : ae_CI fc V0 N0 V N a1 a2 a12 a13 a14 a15) {f p : Nat} (hf : f < fc) (hp : p < 4) (e : a12 f = nI p)
    (h1 : ∀ i, i < 4 → b1 (4 * p + i) = a13 (4 * f + i)) (h2 : ∀ j, (j < 4 * p ∨ 4 * p + 4 ≤ j) → b1 j = a1 j) :
    ae_CI fc V0 N0 V N b1 (upd a2 p (N p)) a12 a13 a14 (upd a15 f 0) := by
  have hfr := ae_CI_get h hf hp e
  obtain ⟨c1, c2, c3, c4, c5⟩ := h
  have hP : ae_pe b1 (upd a2 p (N p)) V N p := ⟨fun i hi => by rw [h1 i hi]; exact hfr.1 i hi, pk_us⟩
  have hQ : ∀ X Y q, q ≠ p → ae_pe a1 a2 X Y q → ae_pe b1 (upd a2 p (N p)) X Y q := by
    intro X Y q n h
    refine ⟨fun i hi => ?_, ?_⟩
    · rw [h2 _ (by omega)]
      exact h.1 i hi
    · rw [pk_un n]
      exact h.2
  have hV : ∀ q, ae_pe a1 a2 V N q → ae_pe b1 (upd a2 p (N p)) V N q := by
    intro q h
    by_cases n : q = p
    · rw [n]
      exact hP
    · exact hQ V N q n h
  refine ⟨c1, ?_, c3, ?_, ?_⟩
  · intro g hg
    rcases c2 g hg with z | ⟨q, hq, eq, fr, cl⟩
    · exact Or.inl z
    · refine Or.inr ⟨q, hq, eq, fr, fun z => ?_⟩
      by_cases n : g = f
      · have w : q = p := ae_inj hq hp (by rw [← eq, n, e])
        rw [w]
        exact hP
      · rw [pk_un n] at z
        exact hV q (cl z)
  · intro q hq
    rcases c4 q hq with z | z
    · exact Or.inl z
    · exact Or.inr (hV q z)
  · intro q hq
    by_cases n : q = p
    · rw [n]
      exact Or.inr hP
    · rcases c5 q hq with z | z
      · exact Or.inl (hQ V0 N0 q n z)
      · exact Or.inr (hV q z)
theorem ae_CI_br {fc : Nat} {V0 N0 V N a1 a2 a12 a13 a14 a15 b13 : Nat → Int32} (k : ae_CI fc V0 N0 V N a1 a2 a12 a13 a14 a15) {h p : Nat} (hh : h < fc) (hp : p < 4) (hc : a12 h = -1 ∨ a15 h = 0) (hn : ∀ f, f < fc → ¬ a12 f = nI p)
    (h1 : ∀ i, i < 4 → b13 (4 * h + i) = a1 (4 * p + i)) (h2 : ∀ j, (j < 4 * h ∨ 4 * h + 4 ≤ j) → b13 j = a13 j) :
    ae_CI fc V0 N0 V N a1 a2 (upd a12 h (nI p)) b13 (upd a14 h (a2 p)) (upd a15 h 0) := by
  obtain ⟨c1, c2, c3, c4, c5⟩ := k
  have hP : ae_pe a1 a2 V N p := by
    rcases c4 p hp with ⟨f, hf, e⟩ | z
    · exact absurd e (hn f hf)
    · exact z
  refine ⟨c1, ?_, ?_, ?_, c5⟩
  · intro g hg
    by_cases n : g = h
    · rw [n]
      refine Or.inr ⟨p, hp, pk_us, ⟨fun i hi => ?_, ?_⟩, fun _ => hP⟩
      · rw [h1 i hi]
        exact hP.1 i hi
      · rw [pk_us]
        exact hP.2
    · rw [pk_un n]
      rcases c2 g hg with z | ⟨q, hq, eq, fr, cl⟩
      · exact Or.inl z
      · refine Or.inr ⟨q, hq, eq, ⟨fun i hi => ?_, ?_⟩, fun z => ?_⟩
        · rw [h2 _ (by omega)]
          exact fr.1 i hi
        · rw [pk_un n]
          exact fr.2
        · rw [pk_un n] at z
          exact cl z
  · intro f g hf hg e
    by_cases n : f = h
    · by_cases m : g = h
      · exact Or.inr (n.trans m.symm)
      · rw [n, pk_us, pk_un m] at e
        exact absurd e.symm (hn g hg)
    · by_cases m : g = h
      · rw [m, pk_us, pk_un n] at e
        exact absurd e (hn f hf)
      · rw [pk_un n, pk_un m] at e
        rw [pk_un n]
        exact c3 f g hf hg e
  · intro q hq
    by_cases n : q = p
    · exact Or.inl ⟨h, hh, by rw [n, pk_us]⟩
    · rcases c4 q hq with ⟨f, hf, e⟩ | z
      · by_cases m : f = h
        · refine Or.inr ?_
          rw [m] at e
          rcases c2 h hh with z | ⟨r, hr, er, _, cl⟩
          · rw [z] at e
            exact absurd e.symm (ae_ne hq)
          · have w : r = q := ae_inj hr hq (er.symm.trans e)
            rw [← w]
            rcases hc with z | z
            · rw [z] at er
              exact absurd er.symm (ae_ne hr)
            · exact cl z
        · exact Or.inl ⟨f, hf, by rw [pk_un m]; exact e⟩
      · exact Or.inr z
theorem ae_CI_ap {fc : Nat} {V N a1 a2 a12 a13 a14 a15 b15 : Nat → Int32} (h : ae_CI fc V N V N a1 a2 a12 a13 a14 a15) {f k : Nat} {v : Int32} (hf : f < fc) (hk : k < 16) (e : a12 f = nI (k / 4))
    (h1 : ¬ b15 f = 0) (h2 : ∀ g, g ≠ f → b15 g = a15 g) :
    ae_CI fc V N (upd V k v) (upd N (k / 4) 1) a1 a2 a12 (upd a13 (4 * f + k % 4) v) (upd a14 f 1) b15 := by
  have hp : k / 4 < 4 := by omega
  have hfr := ae_CI_get h hf hp e
  obtain ⟨c1, c2, c3, c4, c5⟩ := h
  have hQ : ∀ q, q ≠ k / 4 → ae_pe a1 a2 V N q → ae_pe a1 a2 (upd V k v) (upd N (k / 4) 1) q := by
    intro q n z
    refine ⟨fun i hi => ?_, ?_⟩
    · rw [pk_un (by omega)]
      exact z.1 i hi
    · rw [pk_un n]
      exact z.2
  refine ⟨?_, ?_, c3, ?_, ?_⟩
  · intro p hp
    by_cases n : p = k / 4
    · rw [n, pk_us]
      exact Or.inr rfl
    · rw [pk_un n]
      exact c1 p hp
  · intro g hg
    by_cases n : g = f
    · rw [n]
      refine Or.inr ⟨k / 4, hp, e, ⟨fun i hi => ?_, ?_⟩, fun z => absurd z h1⟩
      · by_cases m : i = k % 4
        · rw [m, pk_us, show 4 * (k / 4) + k % 4 = k by omega, pk_us]
        · rw [pk_un (by omega), pk_un (by omega)]
          exact hfr.1 i hi
      · rw [pk_us, pk_us]
    · rcases c2 g hg with z | ⟨q, hq, eq, fr, cl⟩
      · exact Or.inl z
      · have nq : q ≠ k / 4 := by
          intro w
          rcases c3 g f hg hf (by rw [eq, e, w]) with z | z
          · rw [z] at eq
            exact absurd eq.symm (ae_ne hq)
          · exact n z
        refine Or.inr ⟨q, hq, eq, ⟨fun i hi => ?_, ?_⟩, fun z => ?_⟩
        · rw [pk_un (by omega), pk_un (by omega)]
          exact fr.1 i hi
        · rw [pk_un n, pk_un nq]
          exact fr.2
        · rw [h2 g n] at z
          exact hQ q nq (cl z)
  · intro q hq
    by_cases n : q = k / 4
    · exact Or.inl ⟨f, hf, by rw [n]; exact e⟩
    · rcases c4 q hq with z | z
      · exact Or.inl z
      · exact Or.inr (hQ q n z)
  · intro q hq
    rcases c5 q hq with z | z
    · exact Or.inl z
    · exact Or.inl z
/-- an empty pool -/
theorem ae_CI_0 {fc : Nat} {V N a1 a2 a12 a13 a14 a15 : Nat → Int32} (h : ∀ f, f < fc → a12 f = -1) (hN : ∀ p, p < 4 → N p = 0 ∨ N p = 1) (hd : ∀ p, p < 4 → ae_pe a1 a2 V N p) : ae_CI fc V N V N a1 a2 a12 a13 a14 a15 :=
  ⟨hN, fun f hf => Or.inl (h f hf), fun f g hf hg e => Or.inl (h f hf), fun p hp => Or.inr (hd p hp), fun p hp => Or.inl (hd p hp)⟩
/-- all frames are clean: the disk is the view -/
theorem ae_CI_all {fc : Nat} {V0 N0 V N a1 a2 a12 a13 a14 a15 : Nat → Int32} (h : ae_CI fc V0 N0 V N a1 a2 a12 a13 a14 a15) (hc : ∀ f, f < fc → a12 f = -1 ∨ a15 f = 0) : ∀ p, p < 4 → ae_pe a1 a2 V N p := by
  obtain ⟨c1, c2, c3, c4, c5⟩ := h
  intro p hp
  rcases c4 p hp with ⟨f, hf, e⟩ | z
  · rcases c2 f hf with z | ⟨q, hq, eq, fr, cl⟩
    · rw [z] at e
      exact absurd e.symm (ae_ne hp)
    · have w : q = p := ae_inj hq hp (eq.symm.trans e)
      rw [← w]
      rcases hc f hf with z | z
      · rw [z] at eq
        exact absurd eq.symm (ae_ne hq)
      · exact cl z
  · exact z
/-- all is written, the numbers are forgotten -/
theorem ae_CI_cl {fc : Nat} {V0 N0 V N a1 a2 a12 a13 a14 a15 b2 b14 b15 : Nat → Int32} (hfc : fc ≤ 3) (h : ae_CI fc V0 N0 V N a1 a2 a12 a13 a14 a15) (hc : ∀ f, f < fc → a12 f = -1 ∨ a15 f = 0)
    (h2 : ∀ p, p < 4 → b2 p = 0) (h14 : ∀ f, f < 3 → b14 f = 0) : ae_CI fc V ae_Z V ae_Z a1 b2 a12 a13 b14 b15 := by
  have hA := ae_CI_all h hc
  have hB : ∀ p, p < 4 → ae_pe a1 b2 V ae_Z p := fun p hp => ⟨(hA p hp).1, h2 p hp⟩
  obtain ⟨c1, c2, c3, c4, c5⟩ := h
  refine ⟨fun _ _ => Or.inl rfl, ?_, c3, fun p hp => Or.inr (hB p hp), fun p hp => Or.inl (hB p hp)⟩
  intro f hf
  rcases c2 f hf with z | ⟨q, hq, eq, fr, cl⟩
  · exact Or.inl z
  · exact Or.inr ⟨q, hq, eq, ⟨fr.1, h14 f (by omega)⟩, fun _ => hB q hq⟩
theorem ae_RI_pe {V : Nat → Int32} {sE cE fC hd hd' : Int32} {a1 a2 a3 a4 a5 a6 a7 a9 b1 b2 : Nat → Int32} (R : ae_RI V sE cE fC hd a1 a2 a3 a4 a5 a6 a7 a9) (hb : ∀ p, p < 4 → ae_pe b1 b2 a1 a2 p)
    (hh : ∃ fc h, 1 ≤ fc ∧ fc ≤ 3 ∧ h < fc ∧ fC = nI fc ∧ hd' = nI h) : ae_RI V sE cE fC hd' b1 b2 a3 a4 a5 a6 a7 a9 := by
  obtain ⟨_, r1, r2, r3, r4⟩ := R
  refine ⟨hh, r1, r2, r3, ?_⟩
  rcases r4 with ⟨n, n1, n2, n3, n4⟩ | ⟨t, k, v, q1, q2, q3, q4, q5, q6, q7, q8, q9, q10, q11⟩
  · exact Or.inl ⟨n, n1, n2, n3, fun p hp => ae_pe_tr (hb p hp) (n4 p hp)⟩
  · refine Or.inr ⟨t, k, v, q1, q2, q3, q4, q5, q6, q7, q8, q9, q10, fun p hp => ?_⟩
    rcases q11 p hp with z | z
    · exact Or.inl (ae_pe_tr (hb p hp) z)
    · exact Or.inr (ae_pe_tr (hb p hp) z)
/-- how many of the first n places are not 0 -/
def ae_c (a : Nat → Int32) : Nat → Nat
  | 0 => 0
  | n + 1 => ae_c a n + (if a n = 0 then 0 else 1)
theorem ae_c_le (a : Nat → Int32) (n : Nat) : ae_c a n ≤ n := by
  induction n with
  | zero => exact Nat.le_refl 0
  | succ n ih =>
    show ae_c a n + (if a n = 0 then 0 else 1) ≤ n + 1
    split <;> omega
theorem ae_c_0 {a : Nat → Int32} (h : ∀ i, i < 3 → a i = 0) : ae_c a 3 = 0 := by
  show 0 + (if a 0 = 0 then 0 else 1) + (if a 1 = 0 then 0 else 1) + (if a 2 = 0 then 0 else 1) = 0
  rw [if_pos (h 0 (by omega)), if_pos (h 1 (by omega)), if_pos (h 2 (by omega))]
theorem ae_c_1 {a : Nat → Int32} {t : Nat} (ht : t < 3) (h1 : ¬ a t = 0) (h : ∀ i, i < 3 → i ≠ t → a i = 0) : ae_c a 3 = 1 := by
  show 0 + (if a 0 = 0 then 0 else 1) + (if a 1 = 0 then 0 else 1) + (if a 2 = 0 then 0 else 1) = 1
  have ht' : t = 0 ∨ t = 1 ∨ t = 2 := by omega
  rcases ht' with z | z | z
  · subst z
    rw [if_neg h1, if_pos (h 1 (by omega) (by omega)), if_pos (h 2 (by omega) (by omega))]
  · subst z
    rw [if_pos (h 0 (by omega) (by omega)), if_neg h1, if_pos (h 2 (by omega) (by omega))]
  · subst z
    rw [if_pos (h 0 (by omega) (by omega)), if_pos (h 1 (by omega) (by omega)), if_neg h1]
end
section
section
variable {sE cE lE fC hd sL : Int32} {a1 a2 a3 a4 a5 a6 a7 a8 a9 a10 a11 a12 a13 a14 a15 a16 a17 a18 a19 a20 : Nat → Int32}
theorem ae_init {post : St2 → Prop} {mc ms : Nat} (h1 : 20 ≤ mc) (h2 : 2170 ≤ ms) (p0 : Int32)
    (H : ∀ (fc : Nat) (a12 : Nat → Int32), 1 ≤ fc → fc ≤ 3 → (∀ i, i < 3 → a12 i = -1) → post (0, 0, 0, nI fc, 0, 0, (fun _ => 0), (fun _ => 0), (fun _ => 0), (fun _ => 0), (fun _ => 0), (fun _ => 0), (fun _ => 0), (fun _ => 0), (fun _ => 0), (fun _ => 0), (fun _ => 0), a12, (fun _ => 0), (fun _ => 0), (fun _ => 0), (fun _ => 0), (fun _ => 0), (fun _ => 0), (fun _ => 0), (fun _ => 0))) :
    wpX_init post mc ms (0, 0, 0, 0, 0, 0) p0 := by
  have L : ∀ fc : Nat, 1 ≤ fc → fc ≤ 3 → ∃ n, wX_init_185 post mc ms 20 2170 0 0 0 (nI fc) 0 0 n 0 (fun _ => 0) (fun _ => 0) (fun _ => 0) (fun _ => 0) (fun _ => 0) (fun _ => 0) (fun _ => 0) (fun _ => 0) (fun _ => 0) (fun _ => 0) (fun _ => 0) (fun _ => 0) (fun _ => 0) (fun _ => 0) (fun _ => 0) (fun _ => 0) (fun _ => 0) (fun _ => 0) (fun _ => 0) (fun _ => 0) := fun fc g1 g2 =>
    pk_loop (fun n i s => wX_init_185 post mc ms 20 2170 0 0 0 (nI fc) 0 0 n (nI i) (fun _ => 0) (fun _ => 0) (fun _ => 0) (fun _ => 0) (fun _ => 0) (fun _ => 0) (fun _ => 0) (fun _ => 0) (fun _ => 0) (fun _ => 0) (fun _ => 0) s (fun _ => 0) (fun _ => 0) (fun _ => 0) (fun _ => 0) (fun _ => 0) (fun _ => 0) (fun _ => 0) (fun _ => 0)) (fun i s => ∀ j, j < i → s j = -1) 3 0 (fun _ => 0) (by omega) (fun j hj => absurd hj (by omega))
      (fun n s h => pk_le 3 3 (fun _ => H fc s g1 g2 h) (fun z => absurd z (by omega)))
      (fun n i s hi h hw => pk_le 3 i (fun z => absurd z (by omega)) (fun _ => ⟨pk_in i 3 hi, nm_e (nm_r (nI_1 i) (hw _ (ae_fill (nI_clamp (by omega)) h)))⟩))
  unfold wpX_init
  repeat (refine ⟨by omega, ?_⟩)
  refine br_c (fun g1 => br_c (fun g2 => ?_) (fun g2 => L 3 (by omega) (by omega))) (fun g1 => L 1 (by omega) (by omega))
  obtain ⟨j, j1, j2, e⟩ := ae_13 g1 g2
  rw [e]
  exact L j j1 j2
theorem ae_isT_n {post : Int32 → Prop} {p0 : Int32} (h : p0 < 0 ∨ 2 < p0) (H : post 0) : wpX_isTransaction post (sE, cE, lE, fC, hd, sL, a1, a2, a3, a4, a5, a6, a7, a8, a9, a10, a11, a12, a13, a14, a15, a16, a17, a18, a19, a20) p0 := by
  by_cases g : p0 < 0
  · exact br_t g H
  · rcases h with z | z
    · exact absurd z g
    · exact br_f g (br_t z H)
theorem ae_isT_y {post : Int32 → Prop} {t : Nat} (ht : t < 3) (H : post 1) : wpX_isTransaction post (sE, cE, lE, fC, hd, sL, a1, a2, a3, a4, a5, a6, a7, a8, a9, a10, a11, a12, a13, a14, a15, a16, a17, a18, a19, a20) (nI t) :=
  pk_lt t 0 (fun z => absurd z (by omega)) (fun _ => pk_lt 2 t (fun z => absurd z (by omega)) (fun _ => H))
theorem ae_begin_n {post : Int32 → St2 → Prop} {p0 : Int32} (h : p0 < 0 ∨ 2 < p0) (H : post (-1) (sE, cE, lE, fC, hd, sL, a1, a2, a3, a4, a5, a6, a7, a8, a9, a10, a11, a12, a13, a14, a15, a16, a17, a18, a19, a20)) : wpX_begin post (sE, cE, lE, fC, hd, sL, a1, a2, a3, a4, a5, a6, a7, a8, a9, a10, a11, a12, a13, a14, a15, a16, a17, a18, a19, a20) p0 := by
  unfold wpX_begin
  refine ae_isT_n h ?_
  exact br_t rfl H
theorem ae_begin_y {post : Int32 → St2 → Prop} {t : Nat} (ht : t < 3) (h : a16 t = 0)
    (H : post (nI t) (sE, cE, lE, fC, hd, sL, a1, a2, a3, a4, a5, a6, a7, a8, a9, a10, a11, a12, a13, a14, a15, upd a16 t 1, upd a17 t 0, upd a18 t 0, upd a19 t 0, upd a20 t 0)) : wpX_begin post (sE, cE, lE, fC, hd, sL, a1, a2, a3, a4, a5, a6, a7, a8, a9, a10, a11, a12, a13, a14, a15, a16, a17, a18, a19, a20) (nI t) := by
  have c : (nI t).toNatClampNeg = t := nI_clamp (by omega)
  have i : vp_in (nI t) 3 := pk_in t 3 ht
  unfold wpX_begin
  rw [c]
  refine ae_isT_y ht ?_
  refine br_f (by decide) ⟨i, br_t h ⟨i, nm_e ⟨i, nm_e ⟨i, nm_e ⟨i, nm_e ⟨i, nm_e ?_⟩⟩⟩⟩⟩⟩
  exact H
theorem ae_check_n {post : Int32 → Prop} {p0 p1 : Int32} (h : p0 < 0 ∨ 2 < p0) (H : post (-1)) : wpX_check post (sE, cE, lE, fC, hd, sL, a1, a2, a3, a4, a5, a6, a7, a8, a9, a10, a11, a12, a13, a14, a15, a16, a17, a18, a19, a20) p0 p1 := by
  unfold wpX_check
  refine ae_isT_n h ?_
  exact br_t rfl H
theorem ae_check_b {post : Int32 → Prop} {t : Nat} {p1 : Int32} (ht : t < 3) (h : p1 < 0 ∨ 15 < p1) (H : post (-1)) : wpX_check post (sE, cE, lE, fC, hd, sL, a1, a2, a3, a4, a5, a6, a7, a8, a9, a10, a11, a12, a13, a14, a15, a16, a17, a18, a19, a20) (nI t) p1 := by
  unfold wpX_check
  refine ae_isT_y ht ?_
  refine br_f (by decide) ?_
  by_cases g : p1 < 0
  · exact br_t g H
  · rcases h with z | z
    · exact absurd z g
    · exact br_f g (br_f (Int32.not_le.mpr z) H)
theorem ae_check_i {post : Int32 → Prop} {t k : Nat} (ht : t < 3) (hk : k < 16) (h : a16 t = 0) (H : post (-2)) : wpX_check post (sE, cE, lE, fC, hd, sL, a1, a2, a3, a4, a5, a6, a7, a8, a9, a10, a11, a12, a13, a14, a15, a16, a17, a18, a19, a20) (nI t) (nI k) := by
  have c : (nI t).toNatClampNeg = t := nI_clamp (by omega)
  unfold wpX_check
  rw [c]
  refine ae_isT_y ht ?_
  refine br_f (by decide) ?_
  exact pk_lt k 0 (fun z => absurd z (by omega)) (fun _ => pk_le k 15 (fun _ => ⟨pk_in t 3 ht, br_t h H⟩) (fun z => absurd z (by omega)))
theorem ae_check_y {post : Int32 → Prop} {t k : Nat} (ht : t < 3) (hk : k < 16) (h1 : ¬ a16 t = 0) (h2 : ∀ i, i < 3 → i ≠ t → a16 i = 0) (h3 : a18 t = 0) (H : post 0) : wpX_check post (sE, cE, lE, fC, hd, sL, a1, a2, a3, a4, a5, a6, a7, a8, a9, a10, a11, a12, a13, a14, a15, a16, a17, a18, a19, a20) (nI t) (nI k) := by
  have c : (nI t).toNatClampNeg = t := nI_clamp (by omega)
  have L : ∃ n, wX_check_34 post (nI t) (nI k) sE cE lE fC hd sL a1 a2 a3 a4 a5 a6 a7 a8 a9 a10 a11 a12 a13 a14 a15 a16 a17 a18 a19 a20 n 0 :=
    pk_loop (σ := Unit) (fun n i _ => wX_check_34 post (nI t) (nI k) sE cE lE fC hd sL a1 a2 a3 a4 a5 a6 a7 a8 a9 a10 a11 a12 a13 a14 a15 a16 a17 a18 a19 a20 n (nI i)) (fun _ _ => True) 3 0 () (by omega) trivial
      (fun n _ _ => pk_le 3 3 (fun _ => ⟨pk_in t 3 ht, br_t (by rw [c, h3]; decide) H⟩) (fun z => absurd z (by omega)))
      (fun n i _ hi _ hw => pk_le 3 i (fun z => absurd z (by omega)) (fun _ => pk_eq i t (fun _ => nm_r (nI_1 i) (hw () trivial)) (fun q => ⟨pk_in i 3 hi, br_t (by rw [nI_clamp (by omega)]; exact h2 i hi q) (nm_r (nI_1 i) (hw () trivial))⟩)))
  unfold wpX_check
  rw [c]
  refine ae_isT_y ht ?_
  refine br_f (by decide) ?_
  exact pk_lt k 0 (fun z => absurd z (by omega)) (fun _ => pk_le k 15 (fun _ => ⟨pk_in t 3 ht, br_f h1 L⟩) (fun z => absurd z (by omega)))
theorem ae_room {post : St2 → Prop} {n : Nat} (hn : n ≤ 180) (H : post (sE, cE, nI n, fC, hd, sL, a1, a2, a3, a4, a5, a6, a7, a8, a9, a10, a11, a12, a13, a14, a15, a16, a17, a18, a19, a20)) : wpX_makeRoom post (sE, cE, nI n, fC, hd, sL, a1, a2, a3, a4, a5, a6, a7, a8, a9, a10, a11, a12, a13, a14, a15, a16, a17, a18, a19, a20) :=
  pk_lt 180 n (fun z => absurd z (by omega)) (fun _ => H)
theorem ae_append {post : St2 → Prop} {n t : Nat} {p0 p2 p3 p4 p5 : Int32} (hn : n < 300) (ht : t < 3)
    (H : post (sE, cE, nI (n + 1), fC, hd, sL, a1, a2, a3, a4, upd a5 (n + 1) p0.toInt8.toInt32, upd a6 (n + 1) (nI t).toInt8.toInt32, upd a7 (n + 1) p2.toInt8.toInt32, upd a8 (n + 1) p3, upd a9 (n + 1) p4, upd a10 (n + 1) p5.toInt16.toInt32, a11, a12, a13, a14, a15, a16, a17, a18, upd a19 t (nI (n + 1)).toInt16.toInt32, a20)) :
    wpX_append post (sE, cE, nI n, fC, hd, sL, a1, a2, a3, a4, a5, a6, a7, a8, a9, a10, a11, a12, a13, a14, a15, a16, a17, a18, a19, a20) p0 (nI t) p2 p3 p4 p5 := by
  have i : vp_in (nI (n + 1)) 301 := pk_in (n + 1) 301 (by omega)
  have c : (nI t).toNatClampNeg = t := nI_clamp (by omega)
  have d : (nI (n + 1)).toNatClampNeg = n + 1 := nI_clamp (by omega)
  unfold wpX_append
  refine nm_r (nI_1 n) ?_
  rw [c, d]
  exact ⟨i, nm_e ⟨i, nm_e ⟨i, nm_e ⟨i, nm_e ⟨i, nm_e ⟨i, nm_e ⟨pk_in t 3 ht, nm_e H⟩⟩⟩⟩⟩⟩⟩
theorem ae_applyE {post : St2 → Prop} {f k : Nat} {v x y : Int32} (hf : f < 3) (hk : k < 16) (hy : x.toInt16.toInt32 = y) (hx : ¬ y = 0)
    (H : ∀ b15 : Nat → Int32, ¬ b15 f = 0 → (∀ g, g ≠ f → b15 g = a15 g) → post (sE, cE, lE, fC, hd, sL, a1, a2, a3, a4, a5, a6, a7, a8, a9, a10, a11, a12, upd a13 (4 * f + k % 4) v, upd a14 f y, b15, a16, a17, a18, a19, a20)) :
    wpX_applyEntry post (sE, cE, lE, fC, hd, sL, a1, a2, a3, a4, a5, a6, a7, a8, a9, a10, a11, a12, a13, a14, a15, a16, a17, a18, a19, a20) (nI f) (nI k) v x := by
  have i : vp_in (nI f) 3 := pk_in f 3 hf
  have c : (nI f).toNatClampNeg = f := nI_clamp (by omega)
  unfold wpX_applyEntry
  rw [c, hy, ae_lo hk, ae_ix, nI_clamp (show 4 * f + k % 4 < 2 ^ 31 by omega)]
  refine ⟨pk_in (4 * f + k % 4) 12 (by omega), nm_e ⟨i, nm_e ⟨i, ?_⟩⟩⟩
  by_cases g : a15 f = 0
  · exact br_t g ⟨i, nm_e (H _ (by rw [pk_us]; exact hx) (fun q hq => pk_un hq))⟩
  · exact br_f g (H a15 g (fun _ _ => rfl))
theorem ae_applyW {post : St2 → Prop} {f k : Nat} {v y : Int32} (hf : f < 3) (hk : k < 16) (hy : lE.toInt16.toInt32 = y) (hx : ¬ y = 0)
    (H : ∀ b15 : Nat → Int32, ¬ b15 f = 0 → (∀ g, g ≠ f → b15 g = a15 g) → post (sE, cE, lE, fC, hd, sL, a1, a2, a3, a4, a5, a6, a7, a8, a9, a10, a11, a12, upd a13 (4 * f + k % 4) v, upd a14 f y, b15, a16, a17, a18, a19, a20)) :
    wpX_apply post (sE, cE, lE, fC, hd, sL, a1, a2, a3, a4, a5, a6, a7, a8, a9, a10, a11, a12, a13, a14, a15, a16, a17, a18, a19, a20) (nI f) (nI k) v := by
  unfold wpX_apply
  refine ae_applyE hf hk hy hx (fun b15 w1 w2 => ?_)
  exact H b15 w1 w2
theorem ae_sh : ∀ k, k < 16 → ∀ i, i < 16 → (((1 : Int32) <<< (nI k &&& 31)) >>> (nI i &&& 31)) &&& 1 = (if i = k then 1 else 0) := by decide +kernel
theorem ae_sh0 : ∀ i, i < 16 → ((0 : Int32) >>> (nI i &&& 31)) &&& 1 = 0 := by decide +kernel
theorem ae_or : ∀ k, k < 16 → (0 : Int32) ||| ((1 : Int32) <<< (nI k &&& 31)) = (1 : Int32) <<< (nI k &&& 31) := by decide +kernel
theorem ae_bits0 {post : Int32 → Prop} (H : post 0) : wpX_bitsIn post (sE, cE, lE, fC, hd, sL, a1, a2, a3, a4, a5, a6, a7, a8, a9, a10, a11, a12, a13, a14, a15, a16, a17, a18, a19, a20) 0 := by
  unfold wpX_bitsIn
  refine pk_loop (fun n i s => wX_bitsIn_4 post 0 sE cE lE fC hd sL a1 a2 a3 a4 a5 a6 a7 a8 a9 a10 a11 a12 a13 a14 a15 a16 a17 a18 a19 a20 n s (nI i)) (fun _ s => s = 0) 16 0 0 (by omega) rfl ?_ ?_
  · intro n s h
    refine pk_le 16 16 (fun _ => ?_) (fun z => absurd z (by omega))
    rw [h]
    exact H
  · intro n i s hi h hw
    refine pk_le 16 i (fun z => absurd z (by omega)) (fun _ => nm_r (e' := 0) ?_ (nm_r (nI_1 i) (hw 0 rfl)))
    rw [h, ae_sh0 i hi]
    decide
theorem ae_bits1 {post : Int32 → Prop} {k : Nat} (hk : k < 16) (H : post 1) : wpX_bitsIn post (sE, cE, lE, fC, hd, sL, a1, a2, a3, a4, a5, a6, a7, a8, a9, a10, a11, a12, a13, a14, a15, a16, a17, a18, a19, a20) ((1 : Int32) <<< (nI k &&& 31)) := by
  unfold wpX_bitsIn
  refine pk_loop (fun n i s => wX_bitsIn_4 post ((1 : Int32) <<< (nI k &&& 31)) sE cE lE fC hd sL a1 a2 a3 a4 a5 a6 a7 a8 a9 a10 a11 a12 a13 a14 a15 a16 a17 a18 a19 a20 n s (nI i)) (fun i s => s = if k < i then 1 else 0) 16 0 0 (by omega) (if_neg (Nat.not_lt_zero k)).symm ?_ ?_
  · intro n s h
    refine pk_le 16 16 (fun _ => ?_) (fun z => absurd z (by omega))
    rw [h, if_pos hk]
    exact H
  · intro n i s hi h hw
    refine pk_le 16 i (fun z => absurd z (by omega)) (fun _ => nm_e (nm_r (nI_1 i) (hw _ ?_)))
    rw [h, ae_sh k hk i hi]
    by_cases e : i = k
    · rw [if_pos e, if_neg (by omega), if_pos (by omega)]
      decide
    · rw [if_neg e]
      by_cases g : k < i
      · rw [if_pos g, if_pos (by omega)]
        decide
      · rw [if_neg g, if_neg (by omega)]
        decide
theorem ae_holds_n {post : Int32 → Prop} {p0 : Int32} (h : p0 < 0 ∨ 2 < p0) (H : post (-1)) : wpX_holds post (sE, cE, lE, fC, hd, sL, a1, a2, a3, a4, a5, a6, a7, a8, a9, a10, a11, a12, a13, a14, a15, a16, a17, a18, a19, a20) p0 := by
  unfold wpX_holds
  refine ae_isT_n h ?_
  exact br_t rfl H
theorem ae_holds_i {post : Int32 → Prop} {t : Nat} (ht : t < 3) (h : a16 t = 0) (H : post 0) : wpX_holds post (sE, cE, lE, fC, hd, sL, a1, a2, a3, a4, a5, a6, a7, a8, a9, a10, a11, a12, a13, a14, a15, a16, a17, a18, a19, a20) (nI t) := by
  have c : (nI t).toNatClampNeg = t := nI_clamp (by omega)
  unfold wpX_holds
  rw [c]
  refine ae_isT_y ht ?_
  exact br_f (by decide) ⟨pk_in t 3 ht, br_t h H⟩
theorem ae_holds_y {post : Int32 → Prop} {t : Nat} (ht : t < 3) (h : ¬ a16 t = 0) (H : post (a17 t)) : wpX_holds post (sE, cE, lE, fC, hd, sL, a1, a2, a3, a4, a5, a6, a7, a8, a9, a10, a11, a12, a13, a14, a15, a16, a17, a18, a19, a20) (nI t) := by
  have c : (nI t).toNatClampNeg = t := nI_clamp (by omega)
  unfold wpX_holds
  rw [c]
  refine ae_isT_y ht ?_
  exact br_f (by decide) ⟨pk_in t 3 ht, br_f h ⟨pk_in t 3 ht, H⟩⟩
theorem ae_commit_n {post : Int32 → St2 → Prop} {p0 : Int32} (h : p0 < 0 ∨ 2 < p0) (H : post (-1) (sE, cE, lE, fC, hd, sL, a1, a2, a3, a4, a5, a6, a7, a8, a9, a10, a11, a12, a13, a14, a15, a16, a17, a18, a19, a20)) : wpX_commit post (sE, cE, lE, fC, hd, sL, a1, a2, a3, a4, a5, a6, a7, a8, a9, a10, a11, a12, a13, a14, a15, a16, a17, a18, a19, a20) p0 := by
  unfold wpX_commit
  refine ae_isT_n h ?_
  exact br_t rfl H
theorem ae_commit_i {post : Int32 → St2 → Prop} {t : Nat} (ht : t < 3) (h : a16 t = 0) (H : post (-2) (sE, cE, lE, fC, hd, sL, a1, a2, a3, a4, a5, a6, a7, a8, a9, a10, a11, a12, a13, a14, a15, a16, a17, a18, a19, a20)) : wpX_commit post (sE, cE, lE, fC, hd, sL, a1, a2, a3, a4, a5, a6, a7, a8, a9, a10, a11, a12, a13, a14, a15, a16, a17, a18, a19, a20) (nI t) := by
  have c : (nI t).toNatClampNeg = t := nI_clamp (by omega)
  unfold wpX_commit
  rw [c]
  refine ae_isT_y ht ?_
  exact br_f (by decide) ⟨pk_in t 3 ht, br_t h H⟩
/-- a commit: x is what bitsIn answers of the cells held -/
theorem ae_commit_y {post : Int32 → St2 → Prop} {n t : Nat} {x : Int32} (hn : n ≤ 180) (ht : t < 3) (h : ¬ a16 t = 0)
    (hb : ∀ (ψ : Int32 → Prop) (tsE tcE tlE tfC thd tsL : Int32) (t1 t2 t3 t4 t5 t6 t7 t8 t9 t10 t11 t12 t13 t14 t15 t16 t17 t18 t19 t20 : Nat → Int32), ψ x → wpX_bitsIn ψ (tsE, tcE, tlE, tfC, thd, tsL, t1, t2, t3, t4, t5, t6, t7, t8, t9, t10, t11, t12, t13, t14, t15, t16, t17, t18, t19, t20) (a17 t))
    (H : post x (nI (n + 1), cE, nI (n + 1), fC, hd, sL, a1, a2, a3, a4, upd a5 (n + 1) 2, upd a6 (n + 1) (nI t), upd a7 (n + 1) 0, upd a8 (n + 1) 0, upd a9 (n + 1) 0, upd a10 (n + 1) (a19 t).toInt16.toInt32, a11, a12, a13, a14, a15, upd a16 t 0, a17, a18, upd a19 t (nI (n + 1)).toInt16.toInt32, a20)) :
    wpX_commit post (sE, cE, nI n, fC, hd, sL, a1, a2, a3, a4, a5, a6, a7, a8, a9, a10, a11, a12, a13, a14, a15, a16, a17, a18, a19, a20) (nI t) := by
  have c : (nI t).toNatClampNeg = t := nI_clamp (by omega)
  have i : vp_in (nI t) 3 := pk_in t 3 ht
  unfold wpX_commit
  rw [c]
  refine ae_isT_y ht ?_
  refine br_f (by decide) ⟨i, br_f h ?_⟩
  refine ae_room hn ?_
  refine ⟨i, ?_⟩
  refine ae_append (by omega) ht ?_
  refine ⟨i, nm_e ⟨i, ?_⟩⟩
  refine hb _ _ _ _ _ _ _ _ _ _ _ _ _ _ _ _ _ _ _ _ _ _ _ _ _ _ _ ?_
  rw [ae_i8 t (by omega), show (2 : Int32).toInt8.toInt32 = 2 from by decide, show (0 : Int32).toInt8.toInt32 = 0 from by decide]
  exact H
theorem ae_rc {post : Int32 → Prop} (H : post (nI (ae_c a16 3))) : wpX_runningCount post (sE, cE, lE, fC, hd, sL, a1, a2, a3, a4, a5, a6, a7, a8, a9, a10, a11, a12, a13, a14, a15, a16, a17, a18, a19, a20) := by
  unfold wpX_runningCount
  refine pk_loop (fun n i s => wX_runningCount_4 post sE cE lE fC hd sL a1 a2 a3 a4 a5 a6 a7 a8 a9 a10 a11 a12 a13 a14 a15 a16 a17 a18 a19 a20 n s (nI i)) (fun i s => s = nI (ae_c a16 i)) 3 0 0 (by omega) rfl ?_ ?_
  · intro n s h
    refine pk_le 3 3 (fun _ => ?_) (fun z => absurd z (by omega))
    rw [h]
    exact H
  · intro n i s hi h hw
    have c : (nI i).toNatClampNeg = i := nI_clamp (by omega)
    refine pk_le 3 i (fun z => absurd z (by omega)) (fun _ => ⟨pk_in i 3 hi, ?_⟩)
    by_cases g : a16 i = 0
    · refine br_t (by rw [c]; exact g) (nm_r (nI_1 i) (hw s ?_))
      rw [h]
      show nI (ae_c a16 i) = nI (ae_c a16 i + (if a16 i = 0 then 0 else 1))
      rw [if_pos g, Nat.add_zero]
    · refine br_f (by rw [c]; exact g) (nm_e (nm_r (nI_1 i) (hw _ ?_)))
      rw [h, nI_1]
      show nI (ae_c a16 i + 1) = nI (ae_c a16 i + (if a16 i = 0 then 0 else 1))
      rw [if_neg g]
theorem ae_lose {post : St2 → Prop} (H : ∀ b12 b16 b19 : Nat → Int32, (∀ i, i < 3 → b12 i = -1) → post (sE, cE, sE, fC, hd, sL, a1, a2, a3, a4, a5, a6, a7, a8, a9, a10, a11, b12, a13, a14, a15, b16, a17, a18, b19, a20)) : wpX_loseMemory post (sE, cE, lE, fC, hd, sL, a1, a2, a3, a4, a5, a6, a7, a8, a9, a10, a11, a12, a13, a14, a15, a16, a17, a18, a19, a20) := by
  unfold wpX_loseMemory
  refine pk_loop (fun n i s => wX_loseMemory_10 post sE cE sE fC hd sL n (nI i) a1 a2 a3 a4 a5 a6 a7 a8 a9 a10 a11 s a13 a14 a15 a16 a17 a18 a19 a20) (fun i s => ∀ j, j < i → s j = -1) 3 0 a12 (by omega) (fun j hj => absurd hj (by omega)) ?_ ?_
  · intro n s h
    refine pk_le 3 3 (fun _ => ?_) (fun z => absurd z (by omega))
    refine pk_loop (fun n i (q : (Nat → Int32) × (Nat → Int32)) => wX_loseMemory_30 post sE cE sE fC hd sL n (nI i) a1 a2 a3 a4 a5 a6 a7 a8 a9 a10 a11 s a13 a14 a15 q.1 a17 a18 q.2 a20) (fun _ _ => True) 3 0 (a16, a19) (by omega) trivial ?_ ?_
    · intro n q _
      exact pk_le 3 3 (fun _ => H s q.1 q.2 h) (fun z => absurd z (by omega))
    · intro n i q hi _ hw
      exact pk_le 3 i (fun z => absurd z (by omega)) (fun _ => ⟨pk_in i 3 hi, nm_e ⟨pk_in i 3 hi, nm_e (nm_r (nI_1 i) (hw (upd q.1 (nI i).toNatClampNeg 0, upd q.2 (nI i).toNatClampNeg 0) trivial))⟩⟩)
  · intro n i s hi h hw
    exact pk_le 3 i (fun z => absurd z (by omega)) (fun _ => ⟨pk_in i 3 hi, nm_e (nm_r (nI_1 i) (hw _ (ae_fill (nI_clamp (by omega)) h)))⟩)
theorem ae_forget {post : St2 → Prop} (H : ∀ b2 b3 b4 b14 b15 : Nat → Int32, (∀ i, i < 4 → b2 i = 0) → (∀ i, i < 3 → b3 i = 0) → (∀ i, i < 4 → b4 i = 0) → (∀ i, i < 3 → b14 i = 0) → post (sE, 0, lE, fC, hd, sL, a1, b2, b3, b4, a5, a6, a7, a8, a9, a10, a11, a12, a13, b14, b15, a16, a17, a18, a19, a20)) : wpX_forgetNumbers post (sE, cE, lE, fC, hd, sL, a1, a2, a3, a4, a5, a6, a7, a8, a9, a10, a11, a12, a13, a14, a15, a16, a17, a18, a19, a20) := by
  unfold wpX_forgetNumbers
  refine pk_loop (fun n i s => wX_forgetNumbers_7 post sE 0 lE fC hd sL n (nI i) a1 a2 s a4 a5 a6 a7 a8 a9 a10 a11 a12 a13 a14 a15 a16 a17 a18 a19 a20) (fun i s => ∀ j, j < i → s j = 0) 3 0 a3 (by omega) (fun j hj => absurd hj (by omega)) ?_ ?_
  · intro n s h
    refine pk_le 3 3 (fun _ => ?_) (fun z => absurd z (by omega))
    refine pk_loop (fun n i (q : (Nat → Int32) × (Nat → Int32)) => wX_forgetNumbers_27 post sE 0 lE fC hd sL n (nI i) a1 q.1 s q.2 a5 a6 a7 a8 a9 a10 a11 a12 a13 a14 a15 a16 a17 a18 a19 a20) (fun i q => (∀ j, j < i → q.1 j = 0) ∧ (∀ j, j < i → q.2 j = 0)) 4 0 (a2, a4) (by omega) ⟨fun j hj => absurd hj (by omega), fun j hj => absurd hj (by omega)⟩ ?_ ?_
    · intro n q g
      refine pk_le 4 4 (fun _ => ?_) (fun z => absurd z (by omega))
      refine pk_loop (fun n i (r : (Nat → Int32) × (Nat → Int32)) => wX_forgetNumbers_54 post sE 0 lE fC hd sL n (nI i) a1 q.1 s q.2 a5 a6 a7 a8 a9 a10 a11 a12 a13 r.1 r.2 a16 a17 a18 a19 a20) (fun i r => ∀ j, j < i → r.1 j = 0) 3 0 (a14, a15) (by omega) (fun j hj => absurd hj (by omega)) ?_ ?_
      · intro n r k
        exact pk_le 3 3 (fun _ => H q.1 s q.2 r.1 r.2 g.1 h g.2 k) (fun z => absurd z (by omega))
      · intro n i r hi k hw
        exact pk_le 3 i (fun z => absurd z (by omega)) (fun _ => ⟨pk_in i 3 hi, nm_e ⟨pk_in i 3 hi, nm_e (nm_r (nI_1 i) (hw (upd r.1 (nI i).toNatClampNeg 0, upd r.2 (nI i).toNatClampNeg 0) (ae_fill (nI_clamp (by omega)) k)))⟩⟩)
    · intro n i q hi g hw
      exact pk_le 4 i (fun z => absurd z (by omega)) (fun _ => ⟨pk_in i 4 hi, nm_e ⟨pk_in i 4 hi, nm_e (nm_r (nI_1 i) (hw (upd q.1 (nI i).toNatClampNeg 0, upd q.2 (nI i).toNatClampNeg 0) ⟨ae_fill (nI_clamp (by omega)) g.1, ae_fill (nI_clamp (by omega)) g.2⟩))⟩⟩)
  · intro n i s hi h hw
    exact pk_le 3 i (fun z => absurd z (by omega)) (fun _ => ⟨pk_in i 3 hi, nm_e (nm_r (nI_1 i) (hw _ (ae_fill (nI_clamp (by omega)) h)))⟩)
end
end
section
section
variable {sE cE lE fC hd sL : Int32} {a1 a2 a3 a4 a5 a6 a7 a8 a9 a10 a11 a12 a13 a14 a15 a16 a17 a18 a19 a20 : Nat → Int32} {fc : Nat} {V0 N0 V N : Nat → Int32}
theorem ae_wp51 {post : St2 → Prop} {f p : Nat} (hf : f < 3) (hp : p < 4)
    (H : ∀ b1 : Nat → Int32, (∀ i, i < 4 → b1 (4 * p + i) = a13 (4 * f + i)) → (∀ j, (j < 4 * p ∨ 4 * p + 4 ≤ j) → b1 j = a1 j) → post (sE, cE, lE, fC, hd, sL, b1, upd a2 p (vp_nar .short (a14 f)), a3, a4, a5, a6, a7, a8, a9, a10, a11, a12, a13, a14, upd a15 f 0, a16, a17, a18, a19, a20)) :
    ∃ n, wX_writePage_51 post (nI f) (nI p) sE cE lE fC hd sL n 0 a1 a2 a3 a4 a5 a6 a7 a8 a9 a10 a11 a12 a13 a14 a15 a16 a17 a18 a19 a20 := by
  have cf : (nI f).toNatClampNeg = f := nI_clamp (by omega)
  have cp : (nI p).toNatClampNeg = p := nI_clamp (by omega)
  refine pk_loop (fun n i s => wX_writePage_51 post (nI f) (nI p) sE cE lE fC hd sL n (nI i) s a2 a3 a4 a5 a6 a7 a8 a9 a10 a11 a12 a13 a14 a15 a16 a17 a18 a19 a20) (fun i s => (∀ j, j < i → s (4 * p + j) = a13 (4 * f + j)) ∧ (∀ j, (j < 4 * p ∨ 4 * p + 4 ≤ j) → s j = a1 j)) 4 0 a1 (by omega) ⟨fun j hj => absurd hj (by omega), fun _ _ => rfl⟩ ?_ ?_
  · intro n s h
    refine pk_le 4 4 (fun _ => ⟨pk_in f 3 hf, pk_in p 4 hp, nm_e ⟨pk_in f 3 hf, nm_e ?_⟩⟩) (fun z => absurd z (by omega))
    rw [cf, cp]
    exact H s h.1 h.2
  · intro n i s hi h hw
    refine pk_le 4 i (fun z => absurd z (by omega)) (fun _ => ⟨pk_in (4 * f + i) 12 (by omega) (ae_ix f i), pk_in (4 * p + i) 16 (by omega) (ae_ix p i), nm_e (nm_r (nI_1 i) ?_)⟩)
    rw [ae_ix f i, ae_ix p i, nI_clamp (show 4 * f + i < 2 ^ 31 by omega), nI_clamp (show 4 * p + i < 2 ^ 31 by omega)]
    refine hw _ ⟨fun j hj => ?_, fun j hj => ?_⟩
    · by_cases e : j = i
      · rw [e, pk_us]
      · rw [pk_un (by omega)]
        exact h.1 j (by omega)
    · rw [pk_un (by omega)]
      exact h.2 j hj
theorem ae_wp {post : St2 → Prop} {f : Nat} (hfc : fc ≤ 3) (hf : f < fc) (k : ae_CI fc V0 N0 V N a1 a2 a12 a13 a14 a15)
    (H : ∀ (sE' : Int32) (b1 b2 b15 : Nat → Int32), ae_CI fc V0 N0 V N b1 b2 a12 a13 a14 b15 → (a12 f = -1 ∨ b15 f = 0) → (∀ g, a15 g = 0 → b15 g = 0) → ((∀ p, p < 4 → N p ≤ sE) → sE' = sE) → post (sE', cE, lE, fC, hd, sL, b1, b2, a3, a4, a5, a6, a7, a8, a9, a10, a11, a12, a13, a14, b15, a16, a17, a18, a19, a20)) :
    wpX_writePage post (sE, cE, lE, fC, hd, sL, a1, a2, a3, a4, a5, a6, a7, a8, a9, a10, a11, a12, a13, a14, a15, a16, a17, a18, a19, a20) (nI f) := by
  have c : (nI f).toNatClampNeg = f := nI_clamp (by omega)
  have i : vp_in (nI f) 3 := pk_in f 3 (by omega)
  unfold wpX_writePage
  rw [c]
  refine ⟨i, ?_⟩
  rcases k.2.1 f hf with z | ⟨p, hp, e, fr, cl⟩
  · exact br_t (by rw [z]; decide) (H sE a1 a2 a15 k (Or.inl z) (fun _ h => h) (fun _ => rfl))
  · refine br_f (by rw [e]; exact nI_pos (by omega)) ⟨i, ?_⟩
    by_cases d : a15 f = 0
    · exact br_t d (H sE a1 a2 a15 k (Or.inr d) (fun _ h => h) (fun _ => rfl))
    · have u0 : ∀ g, a15 g = 0 → upd a15 f 0 g = 0 := by
        intro g hg
        by_cases e : g = f
        · rw [e, pk_us]
        · rw [pk_un e]
          exact hg
      have w : vp_nar .short (a14 f) = N p := by
        rw [fr.2]
        exact ae_n01 (k.1 p hp)
      refine br_f d ⟨i, ?_⟩
      by_cases g : a14 f ≤ sE
      · refine br_t g ⟨i, nm_r e ?_⟩
        refine ae_wp51 (by omega) hp (fun b1 q1 q2 => ?_)
        rw [w]
        exact H sE b1 _ _ (ae_CI_wr k hf hp e q1 q2) (Or.inr pk_us) u0 (fun _ => rfl)
      · refine br_f g ⟨i, nm_e ⟨i, nm_r e ?_⟩⟩
        refine ae_wp51 (by omega) hp (fun b1 q1 q2 => ?_)
        rw [w]
        exact H (a14 f) b1 _ _ (ae_CI_wr k hf hp e q1 q2) (Or.inr pk_us) u0 (fun y => absurd (by rw [fr.2]; exact y p hp) g)
theorem ae_wall {post : St2 → Prop} (hfc : fc ≤ 3) (k : ae_CI fc V0 N0 V N a1 a2 a12 a13 a14 a15)
    (H : ∀ (sE' : Int32) (b1 b2 b15 : Nat → Int32), ae_CI fc V0 N0 V N b1 b2 a12 a13 a14 b15 → (∀ f, f < fc → a12 f = -1 ∨ b15 f = 0) → post (sE', cE, lE, nI fc, hd, sL, b1, b2, a3, a4, a5, a6, a7, a8, a9, a10, a11, a12, a13, a14, b15, a16, a17, a18, a19, a20)) :
    wpX_writeAllPages post (sE, cE, lE, nI fc, hd, sL, a1, a2, a3, a4, a5, a6, a7, a8, a9, a10, a11, a12, a13, a14, a15, a16, a17, a18, a19, a20) := by
  unfold wpX_writeAllPages
  refine pk_loop (fun n i (s : Int32 × (Nat → Int32) × (Nat → Int32) × (Nat → Int32)) => wX_writeAllPages_2 post n (nI i) s.1 cE lE (nI fc) hd sL s.2.1 s.2.2.1 a3 a4 a5 a6 a7 a8 a9 a10 a11 a12 a13 a14 s.2.2.2 a16 a17 a18 a19 a20)
    (fun i s => ae_CI fc V0 N0 V N s.2.1 s.2.2.1 a12 a13 a14 s.2.2.2 ∧ ∀ f, f < i → a12 f = -1 ∨ s.2.2.2 f = 0) fc 0 (sE, a1, a2, a15) (by omega) ⟨k, fun f hf => absurd hf (by omega)⟩ ?_ ?_
  · intro n s h
    exact pk_le fc fc (fun _ => H s.1 s.2.1 s.2.2.1 s.2.2.2 h.1 h.2) (fun z => absurd z (by omega))
  · intro n i s hi h hw
    refine pk_le fc i (fun z => absurd z (by omega)) (fun _ => ?_)
    refine ae_wp hfc hi h.1 (fun sE' b1 b2 b15 q1 q2 q3 _ => ?_)
    refine nm_r (nI_1 i) (hw (sE', b1, b2, b15) ⟨q1, fun f hf => ?_⟩)
    by_cases e : f = i
    · rw [e]
      exact q2
    · rcases h.2 f (by omega) with z | z
      · exact Or.inl z
      · exact Or.inr (q3 f z)
theorem ae_clear {post : St2 → Prop} (hfc : fc ≤ 3) (k : ae_CI fc V0 N0 V N a1 a2 a12 a13 a14 a15)
    (H : ∀ b1 b2 b3 b4 b14 b15 : Nat → Int32, (∀ i, i < 3 → b3 i = 0) → (∀ i, i < 4 → b4 i = 0) → (∀ p, p < 4 → ae_pe b1 b2 V ae_Z p) → ae_CI fc V ae_Z V ae_Z b1 b2 a12 a13 b14 b15 →
      post (0, 0, 0, nI fc, hd, sL, b1, b2, b3, b4, a5, a6, a7, a8, a9, a10, a11, a12, a13, b14, b15, a16, a17, a18, a19, a20)) :
    wpX_clearLog post (sE, cE, lE, nI fc, hd, sL, a1, a2, a3, a4, a5, a6, a7, a8, a9, a10, a11, a12, a13, a14, a15, a16, a17, a18, a19, a20) := by
  unfold wpX_clearLog
  refine ae_wall hfc k (fun sE' b1 b2 b15 q1 q2 => ?_)
  refine ae_forget (fun c2 c3 c4 c14 c15 r2 r3 r4 r14 => ?_)
  exact H b1 c2 c3 c4 c14 c15 r3 r4 (fun p hp => ⟨(ae_CI_all q1 q2 p hp).1, r2 p hp⟩) (ae_CI_cl hfc q1 q2 r2 r14)
theorem ae_br57 {post : Int32 → St2 → Prop} {h p : Nat} {z0 : Int32} (hfc : fc ≤ 3) (hh : h < fc) (hp : p < 4) (k : ae_CI fc V0 N0 V N a1 a2 a12 a13 a14 a15) (hn : ∀ f, f < fc → ¬ a12 f = nI p)
    (H : ∀ (sE' : Int32) (b1 b2 b12 b13 b14 b15 : Nat → Int32), b12 h = nI p → ae_CI fc V0 N0 V N b1 b2 b12 b13 b14 b15 → ((∀ p, p < 4 → N p ≤ sE) → sE' = sE) → post (nI h) (sE', cE, lE, fC, z0, sL, b1, b2, a3, a4, a5, a6, a7, a8, a9, a10, a11, b12, b13, b14, b15, a16, a17, a18, a19, a20)) :
    wX_bringIn_57 post (nI p) (nI h) z0 sE cE lE fC hd sL a1 a2 a3 a4 a5 a6 a7 a8 a9 a10 a11 a12 a13 a14 a15 a16 a17 a18 a19 a20 := by
  have ch : (nI h).toNatClampNeg = h := nI_clamp (by omega)
  have cp : (nI p).toNatClampNeg = p := nI_clamp (by omega)
  have ih : vp_in (nI h) 3 := pk_in h 3 (by omega)
  unfold wX_bringIn_57
  refine ae_wp hfc hh k (fun sE' b1 b2 b15 k' c _ s => ?_)
  refine ⟨ih, nm_r (e' := upd a12 h (nI p)) (by rw [ch, ae_i8 p (by omega)]) ?_⟩
  have w : vp_nar .short (b2 p) = b2 p := by
    rcases k'.2.2.2.1 p hp with ⟨f, hf, e⟩ | z
    · exact absurd e (hn f hf)
    · rw [z.2]
      exact ae_n01 (k'.1 p hp)
  refine pk_loop (fun n i q => wX_bringIn_75 post (nI p) (nI h) sE' cE lE fC z0 sL n (nI i) b1 b2 a3 a4 a5 a6 a7 a8 a9 a10 a11 (upd a12 h (nI p)) q a14 b15 a16 a17 a18 a19 a20) (fun i q => (∀ j, j < i → q (4 * h + j) = b1 (4 * p + j)) ∧ (∀ j, (j < 4 * h ∨ 4 * h + 4 ≤ j) → q j = a13 j)) 4 0 a13 (by omega) ⟨fun j hj => absurd hj (by omega), fun _ _ => rfl⟩ ?_ ?_
  · intro n q g
    refine pk_le 4 4 (fun _ => ⟨pk_in p 4 hp, ih, nm_e ⟨ih, nm_e ?_⟩⟩) (fun z => absurd z (by omega))
    rw [ch, cp, w]
    exact H sE' b1 b2 _ q _ _ pk_us (ae_CI_br k' hh hp c hn g.1 g.2) s
  · intro n i q hi g hw
    refine pk_le 4 i (fun z => absurd z (by omega)) (fun _ => ⟨pk_in (4 * p + i) 16 (by omega) (ae_ix p i), pk_in (4 * h + i) 12 (by omega) (ae_ix h i), nm_e (nm_r (nI_1 i) ?_)⟩)
    rw [ae_ix h i, ae_ix p i, nI_clamp (show 4 * h + i < 2 ^ 31 by omega), nI_clamp (show 4 * p + i < 2 ^ 31 by omega)]
    refine hw _ ⟨fun j hj => ?_, fun j hj => ?_⟩
    · by_cases e : j = i
      · rw [e, pk_us]
      · rw [pk_un (by omega)]
        exact g.1 j (by omega)
    · rw [pk_un (by omega)]
      exact g.2 j hj
theorem ae_bring {post : Int32 → St2 → Prop} {h p : Nat} (hfc : fc ≤ 3) (hh : h < fc) (hp : p < 4) (k : ae_CI fc V0 N0 V N a1 a2 a12 a13 a14 a15)
    (H : ∀ (r h' : Nat) (sE' : Int32) (b1 b2 b12 b13 b14 b15 : Nat → Int32), r < fc → h' < fc → b12 r = nI p → ae_CI fc V0 N0 V N b1 b2 b12 b13 b14 b15 → ((∀ p, p < 4 → N p ≤ sE) → sE' = sE) → post (nI r) (sE', cE, lE, nI fc, nI h', sL, b1, b2, a3, a4, a5, a6, a7, a8, a9, a10, a11, b12, b13, b14, b15, a16, a17, a18, a19, a20)) :
    wpX_bringIn post (sE, cE, lE, nI fc, nI h, sL, a1, a2, a3, a4, a5, a6, a7, a8, a9, a10, a11, a12, a13, a14, a15, a16, a17, a18, a19, a20) (nI p) := by
  unfold wpX_bringIn
  refine pk_loop (σ := Unit) (fun n i _ => wX_bringIn_2 post (nI p) sE cE lE (nI fc) (nI h) sL a1 a2 a3 a4 a5 a6 a7 a8 a9 a10 a11 a12 a13 a14 a15 a16 a17 a18 a19 a20 n (nI i)) (fun i _ => ∀ f, f < i → ¬ a12 f = nI p) fc 0 () (by omega) (fun f hf => absurd hf (by omega)) ?_ ?_
  · intro n _ hn
    refine pk_le fc fc (fun _ => ?_) (fun z => absurd z (by omega))
    refine pk_le fc (h + 1) (fun _ => ?_) (fun z => ?_) rfl (nI_1 h)
    · exact ae_br57 hfc hh hp k hn (fun sE' b1 b2 b12 b13 b14 b15 q1 q2 q3 => H h 0 sE' b1 b2 b12 b13 b14 b15 hh (by omega) q1 q2 q3)
    · rw [nI_1 h]
      exact ae_br57 hfc hh hp k hn (fun sE' b1 b2 b12 b13 b14 b15 q1 q2 q3 => H h (h + 1) sE' b1 b2 b12 b13 b14 b15 hh z q1 q2 q3)
  · intro n i _ hi hn hw
    have c : (nI i).toNatClampNeg = i := nI_clamp (by omega)
    refine pk_le fc i (fun z => absurd z (by omega)) (fun _ => ⟨pk_in i 3 (by omega), ?_⟩)
    by_cases g : a12 i = nI p
    · exact br_t (by rw [c]; exact g) (H i h sE a1 a2 a12 a13 a14 a15 hi hh g k (fun _ => rfl))
    · refine br_f (by rw [c]; exact g) (nm_r (nI_1 i) (hw () (fun f hf => ?_)))
      by_cases e : f = i
      · rw [e]
        exact g
      · exact hn f (by omega)
theorem ae_read_n {post : Int32 → St2 → Prop} {c : Int32} (h : c < 0 ∨ 15 < c) (H : post 0 (sE, cE, lE, fC, hd, sL, a1, a2, a3, a4, a5, a6, a7, a8, a9, a10, a11, a12, a13, a14, a15, a16, a17, a18, a19, a20)) : wpX_read post (sE, cE, lE, fC, hd, sL, a1, a2, a3, a4, a5, a6, a7, a8, a9, a10, a11, a12, a13, a14, a15, a16, a17, a18, a19, a20) c := by
  by_cases g : c < 0
  · exact br_t g H
  · rcases h with z | z
    · exact absurd z g
    · exact br_f g (br_f (Int32.not_le.mpr z) H)
theorem ae_read_y {post : Int32 → St2 → Prop} {h j : Nat} (hfc : fc ≤ 3) (hh : h < fc) (hj : j < 16) (k : ae_CI fc V0 N0 V N a1 a2 a12 a13 a14 a15)
    (H : ∀ (h' : Nat) (sE' : Int32) (b1 b2 b12 b13 b14 b15 : Nat → Int32), h' < fc → ae_CI fc V0 N0 V N b1 b2 b12 b13 b14 b15 → ((∀ p, p < 4 → N p ≤ sE) → sE' = sE) → post (V j) (sE', cE, lE, nI fc, nI h', sL, b1, b2, a3, a4, a5, a6, a7, a8, a9, a10, a11, b12, b13, b14, b15, a16, a17, a18, a19, a20)) :
    wpX_read post (sE, cE, lE, nI fc, nI h, sL, a1, a2, a3, a4, a5, a6, a7, a8, a9, a10, a11, a12, a13, a14, a15, a16, a17, a18, a19, a20) (nI j) := by
  unfold wpX_read
  refine pk_lt j 0 (fun z => absurd z (by omega)) (fun _ => pk_le j 15 (fun _ => ?_) (fun z => absurd z (by omega)))
  rw [ae_pg hj]
  refine ae_bring hfc hh (by omega) k (fun r h' sE' b1 b2 b12 b13 b14 b15 hr hh' e q1 q2 => ?_)
  have x : (4 : Int32) * nI r + (nI j &&& 3) = nI (4 * r + j % 4) := by rw [ae_lo hj, ae_ix]
  refine ⟨pk_in (4 * r + j % 4) 12 (by omega) x, ?_⟩
  rw [x, nI_clamp (show 4 * r + j % 4 < 2 ^ 31 by omega), (ae_CI_get q1 hr (by omega) e).1 (j % 4) (by omega), show 4 * (j / 4) + j % 4 = j by omega]
  exact H h' sE' b1 b2 b12 b13 b14 b15 hh' q1 q2
end
end
section
section
variable {sE cE lE fC hd sL : Int32} {a1 a2 a3 a4 a5 a6 a7 a8 a9 a10 a11 a12 a13 a14 a15 a16 a17 a18 a19 a20 : Nat → Int32} {V : Nat → Int32}
theorem ae_u0 {s : Nat → Int32} {t : Nat} (h : ∀ i, i < 3 → i ≠ t → s i = 0) : ∀ i, i < 3 → upd s t 0 i = 0 := by
  intro i hi
  by_cases e : i = t
  · rw [e, pk_us]
  · rw [pk_un e]
    exact h i hi e
theorem ae_losers {post : St2 → Prop} (R : ae_RI V sE cE fC hd a1 a2 a3 a4 a5 a6 a7 a9) (hl : lE = sE) (H : ∀ b19 : Nat → Int32, (∀ i, i < 3 → b19 i = 0) → post (sE, cE, lE, fC, hd, sL, a1, a2, a3, a4, a5, a6, a7, a8, a9, a10, a11, a12, a13, a14, a15, a16, a17, a18, b19, a20)) : wpX_findLosers post (sE, cE, lE, fC, hd, sL, a1, a2, a3, a4, a5, a6, a7, a8, a9, a10, a11, a12, a13, a14, a15, a16, a17, a18, a19, a20) := by
  obtain ⟨_, r1, r2, r3, r4⟩ := R
  have c1 : (nI 1).toNatClampNeg = 1 := nI_clamp (by omega)
  have c2 : (nI 2).toNatClampNeg = 2 := nI_clamp (by omega)
  unfold wpX_findLosers
  refine pk_loop (fun n i s => wX_findLosers_2 post sE cE lE fC hd sL n (nI i) a1 a2 a3 a4 a5 a6 a7 a8 a9 a10 a11 a12 a13 a14 a15 a16 a17 a18 s a20) (fun i s => ∀ j, j < i → s j = 0) 3 0 a19 (by omega) (fun j hj => absurd hj (by omega)) ?_ ?_
  · intro m s h
    refine pk_le 3 3 (fun _ => nm_r (e' := nI 1) (by rw [r1]; decide) ?_) (fun z => absurd z (by omega))
    rcases r4 with ⟨n, n1, n2, n3, n4⟩ | ⟨t, k, v, q1, q2, q3, q4, q5, q6, q7, q8, q9, q10, q11⟩
    · have hn : n = 0 ∨ n = 1 := by omega
      rcases hn with z | z
      · subst z
        exact ⟨1, pk_lt 0 1 (fun _ => H s h) (fun z => absurd z (by omega)) (hl.trans n2)⟩
      · subst z
        obtain ⟨e5, t, ht, e6⟩ := n3 (by omega)
        have c6 : (a6 1).toNatClampNeg = t := by
          rw [e6]
          exact nI_clamp (by omega)
        refine ⟨2, ?_⟩
        refine pk_lt 1 1 (fun z => absurd z (by omega)) (fun _ => ⟨pk_in 1 301 (by omega), pk_in 1 301 (by omega), ?_⟩) (hl.trans n2)
        rw [c1]
        refine br_f (by rw [e5]; decide) ⟨pk_in t 3 ht e6, nm_e (nm_r (nI_1 1) ?_)⟩
        rw [c6]
        exact pk_lt 1 2 (fun _ => H _ (ae_u0 (fun i hi _ => h i hi))) (fun z => absurd z (by omega)) (hl.trans n2)
    · have c6 : (a6 1).toNatClampNeg = t := by
        rw [q6]
        exact nI_clamp (by omega)
      have c7 : (a6 2).toNatClampNeg = t := by
        rw [q7]
        exact nI_clamp (by omega)
      refine ⟨3, ?_⟩
      refine pk_lt 2 1 (fun z => absurd z (by omega)) (fun _ => ⟨pk_in 1 301 (by omega), pk_in 1 301 (by omega), ?_⟩) (hl.trans q3)
      rw [c1]
      refine br_t (by rw [q4]; decide) ⟨pk_in t 3 q1 q6, nm_e (nm_r (nI_1 1) ?_)⟩
      rw [c6]
      refine pk_lt 2 2 (fun z => absurd z (by omega)) (fun _ => ⟨pk_in 2 301 (by omega), pk_in 2 301 (by omega), ?_⟩) (hl.trans q3)
      rw [c2]
      refine br_f (by rw [q5]; decide) ⟨pk_in t 3 q1 q7, nm_e (nm_r (nI_1 2) ?_)⟩
      rw [c7]
      exact pk_lt 2 3 (fun _ => H _ (ae_u0 (fun i hi e => by rw [pk_un e]; exact h i hi))) (fun z => absurd z (by omega)) (hl.trans q3)
  · intro n i s hi h hw
    have c : (nI i).toNatClampNeg = i := nI_clamp (by omega)
    refine pk_le 3 i (fun z => absurd z (by omega)) (fun _ => ⟨pk_in i 3 hi, pk_in i 3 hi, nm_e (nm_r (nI_1 i) ?_)⟩)
    rw [c, r2 i hi, ae_n01 (Or.inl rfl)]
    exact hw _ (ae_fill rfl h)
theorem ae_redo0 {b1 b2 : Nat → Int32} {k : Nat} {v : Int32} (h : ∀ p, p < 4 → ae_pe b1 b2 ae_Z ae_Z p ∨ ae_pe b1 b2 (upd ae_Z k v) (upd ae_Z (k / 4) 1) p) : ∀ j, j < 16 → j ≠ k → b1 j = upd ae_Z k v j := by
  intro j hj n
  have e : 4 * (j / 4) + j % 4 = j := by omega
  rcases h (j / 4) (by omega) with z | z
  · have w := z.1 (j % 4) (by omega)
    rw [e] at w
    rw [w, pk_un n]
  · have w := z.1 (j % 4) (by omega)
    rw [e] at w
    exact w
theorem ae_redo1 {b1 b2 : Nat → Int32} {k : Nat} {v : Int32} (hk : k < 16) (h : ∀ p, p < 4 → ae_pe b1 b2 ae_Z ae_Z p ∨ ae_pe b1 b2 (upd ae_Z k v) (upd ae_Z (k / 4) 1) p) (h1 : b2 (k / 4) = 1) : ∀ j, j < 16 → b1 j = upd ae_Z k v j := by
  intro j hj
  by_cases n : j = k
  · have e : 4 * (k / 4) + k % 4 = k := by omega
    rw [n]
    rcases h (k / 4) (by omega) with z | z
    · have w : b2 (k / 4) = 0 := z.2
      rw [h1] at w
      exact absurd w (by decide)
    · have w := z.1 (k % 4) (by omega)
      rw [e] at w
      exact w
  · exact ae_redo0 h j hj n
theorem ae_num {b1 b2 : Nat → Int32} {k : Nat} {v : Int32} (h : ∀ p, p < 4 → ae_pe b1 b2 ae_Z ae_Z p ∨ ae_pe b1 b2 (upd ae_Z k v) (upd ae_Z (k / 4) 1) p) : ∀ p, p < 4 → b2 p = 0 ∨ b2 p = 1 := by
  intro p hp
  rcases h p hp with z | z
  · exact Or.inl z.2
  · have w := z.2
    by_cases n : p = k / 4
    · rw [n, pk_us] at w
      rw [n]
      exact Or.inr w
    · rw [pk_un n] at w
      exact Or.inl w
theorem ae_again {post : St2 → Prop} (R : ae_RI V sE cE fC hd a1 a2 a3 a4 a5 a6 a7 a9) (hl : lE = sE) (hp : ∀ i, i < 3 → a12 i = -1)
    (H : ∀ (hd' sL' : Int32) (b1 b2 b12 b13 b14 b15 : Nat → Int32),
      (∃ fc h V' N', 1 ≤ fc ∧ fc ≤ 3 ∧ h < fc ∧ fC = nI fc ∧ hd' = nI h ∧ ae_CI fc a1 a2 V' N' b1 b2 b12 b13 b14 b15 ∧ (∀ p, p < 4 → ae_pe b1 b2 a1 a2 p) ∧ (¬ sL' ≤ 0 → ∀ j, j < 16 → V' j = V j)) →
      (sL = 100000 → ¬ sL' ≤ 0) → post (sE, cE, lE, fC, hd', sL', b1, b2, a3, a4, a5, a6, a7, a8, a9, a10, a11, b12, b13, b14, b15, a16, a17, a18, a19, a20)) : wpX_doAgain post (sE, cE, lE, fC, hd, sL, a1, a2, a3, a4, a5, a6, a7, a8, a9, a10, a11, a12, a13, a14, a15, a16, a17, a18, a19, a20) := by
  obtain ⟨⟨fc, h, g1, g2, g3, g4, g5⟩, r1, r2, r3, r4⟩ := R
  have c1 : (nI 1).toNatClampNeg = 1 := nI_clamp (by omega)
  have c2 : (nI 2).toNatClampNeg = 2 := nI_clamp (by omega)
  have hr : ∀ p, p < 4 → ae_pe a1 a2 a1 a2 p := fun p _ => ⟨fun _ _ => rfl, rfl⟩
  have hs : sL = 100000 → ¬ sL ≤ 0 := fun e => by rw [e]; decide
  have hs1 : sL = 100000 → ¬ sL - 1 ≤ 0 := fun e => by rw [e]; decide
  unfold wpX_doAgain
  refine nm_r (e' := nI 1) (by rw [r1]; decide) ?_
  refine pk_loop (σ := Unit) (fun n i _ => wX_doAgain_9 post sE cE lE fC hd sL a1 a2 a3 a4 a5 a6 a7 a8 a9 a10 a11 a12 a13 a14 a15 a16 a17 a18 a19 a20 n (nI 1) (nI i)) (fun _ _ => True) 4 0 () (by omega) trivial ?_ ?_
  · intro m _ _
    refine pk_le 4 4 (fun _ => ?_) (fun z => absurd z (by omega))
    rcases r4 with ⟨n, n1, n2, n3, n4⟩ | ⟨t, k, v, q1, q2, q3, q4, q5, q6, q7, q8, q9, q10, q11⟩
    · have k0 : ae_CI fc a1 a2 a1 a2 a1 a2 a12 a13 a14 a15 := ae_CI_0 (fun f hf => hp f (by omega)) (fun p hp => Or.inl (n4 p hp).2) hr
      have HH : post (sE, cE, lE, fC, hd, sL, a1, a2, a3, a4, a5, a6, a7, a8, a9, a10, a11, a12, a13, a14, a15, a16, a17, a18, a19, a20) := H hd sL a1 a2 a12 a13 a14 a15 ⟨fc, h, a1, a2, g1, g2, g3, g4, g5, k0, hr, fun _ j hj => by
        have w := (n4 (j / 4) (by omega)).1 (j % 4) (by omega)
        rw [show 4 * (j / 4) + j % 4 = j by omega] at w
        exact w⟩ hs
      have hn : n = 0 ∨ n = 1 := by omega
      rcases hn with z | z
      · subst z
        exact ⟨1, pk_lt 0 1 (fun _ => HH) (fun z => absurd z (by omega)) (hl.trans n2)⟩
      · subst z
        obtain ⟨e5, _⟩ := n3 (by omega)
        refine ⟨2, ?_⟩
        refine pk_lt 1 1 (fun z => absurd z (by omega)) (fun _ => br_c (fun _ => HH) (fun _ => ⟨pk_in 1 301 (by omega), ?_⟩)) (hl.trans n2)
        refine br_f (by rw [c1, e5]; decide) (nm_r (nI_1 1) ?_)
        exact pk_lt 1 2 (fun _ => HH) (fun z => absurd z (by omega)) (hl.trans n2)
    · have k0 : ae_CI fc a1 a2 a1 a2 a1 a2 a12 a13 a14 a15 := ae_CI_0 (fun f hf => hp f (by omega)) (ae_num q11) hr
      subst g4 g5
      refine ⟨3, ?_⟩
      refine pk_lt 2 1 (fun z => absurd z (by omega)) (fun _ => br_c (fun g => ?_) (fun g => ⟨pk_in 1 301 (by omega), br_t (by rw [c1, q4]; decide) ⟨pk_in 1 301 (by omega), ?_⟩⟩)) (hl.trans q3)
      · exact H _ _ a1 a2 a12 a13 a14 a15 ⟨fc, h, a1, a2, g1, g2, g3, rfl, rfl, k0, hr, fun y => absurd g y⟩ hs
      · rw [c1, q8, ae_pg q2]
        refine ae_bring g2 g3 (by omega) k0 (fun r h' sE' b1 b2 b12 b13 b14 b15 hr1 hh' e k1 s => ?_)
        have es : sE' = sE := s (fun p hp => by
          rw [q3]
          rcases ae_num q11 p hp with z | z
          · rw [z]
            decide
          · rw [z]
            decide)
        have cr : (nI r).toNatClampNeg = r := nI_clamp (by omega)
        have fr : b14 r = a2 (k / 4) := (ae_CI_get k1 hr1 (by omega) e).2
        have hb : ∀ p, p < 4 → ae_pe b1 b2 a1 a2 p := fun p hp => by
          rcases k1.2.2.2.2 p hp with z | z
          · exact z
          · exact z
        subst es
        refine ⟨pk_in r 3 (by omega), ?_⟩
        rw [cr, fr]
        rcases ae_num q11 (k / 4) (by omega) with z | z
        · refine br_t (by rw [z]; decide) ⟨pk_in 1 301 (by omega), pk_in 1 301 (by omega), ?_⟩
          rw [q8, q9]
          refine ae_applyE (y := 1) (by omega) q2 (by decide) (by decide) (fun c15 w1 w2 => ?_)
          have HH := H (nI h') (sL - 1) b1 b2 b12 (upd b13 (4 * r + k % 4) v) (upd b14 r 1) c15 ⟨fc, h', upd a1 k v, upd a2 (k / 4) 1, g1, g2, hh', rfl, rfl, ae_CI_ap k1 hr1 q2 e w1 w2, hb, fun _ j hj => by
            rw [q10 j hj]
            by_cases n : j = k
            · rw [n, pk_us, pk_us]
            · rw [pk_un n]
              exact ae_redo0 q11 j hj n⟩ hs1
          refine nm_e (nm_r (nI_1 1) ?_)
          refine pk_lt 2 2 (fun z => absurd z (by omega)) (fun _ => br_c (fun _ => HH) (fun _ => ⟨pk_in 2 301 (by omega), ?_⟩)) (hl.trans q3)
          refine br_f (by rw [c2, q5]; decide) (nm_r (nI_1 2) ?_)
          exact pk_lt 2 3 (fun _ => HH) (fun z => absurd z (by omega)) (hl.trans q3)
        · have HH := H (nI h') sL b1 b2 b12 b13 b14 b15 ⟨fc, h', a1, a2, g1, g2, hh', rfl, rfl, k1, hb, fun _ j hj => by
            rw [q10 j hj]
            exact ae_redo1 q2 q11 z j hj⟩ hs
          refine br_f (by rw [z]; decide) (nm_r (nI_1 1) ?_)
          refine pk_lt 2 2 (fun z => absurd z (by omega)) (fun _ => br_c (fun _ => HH) (fun _ => ⟨pk_in 2 301 (by omega), ?_⟩)) (hl.trans q3)
          refine br_f (by rw [c2, q5]; decide) (nm_r (nI_1 2) ?_)
          exact pk_lt 2 3 (fun _ => HH) (fun z => absurd z (by omega)) (hl.trans q3)
  · intro n i _ hi _ hw
    exact pk_le 4 i (fun z => absurd z (by omega)) (fun _ => ⟨pk_in i 4 hi, br_t (by rw [nI_clamp (by omega)]; exact r3 i hi) (nm_r (nI_1 i) (hw () trivial))⟩)
theorem ae_pe_V {a b V' V'' N' : Nat → Int32} {p : Nat} (hp : p < 4) (h : ∀ j, j < 16 → V' j = V'' j) (g : ae_pe a b V' N' p) : ae_pe a b V'' N' p :=
  ⟨fun i hi => (g.1 i hi).trans (h _ (by omega)), g.2⟩
theorem ae_CI_V {fc : Nat} {V' V'' b1 b2 b12 b13 b14 b15 : Nat → Int32} (h : ∀ j, j < 16 → V' j = V'' j) (k : ae_CI fc V' ae_Z V' ae_Z b1 b2 b12 b13 b14 b15) : ae_CI fc V'' ae_Z V'' ae_Z b1 b2 b12 b13 b14 b15 := by
  obtain ⟨c1, c2, c3, c4, c5⟩ := k
  refine ⟨c1, ?_, c3, ?_, ?_⟩
  · intro f hf
    rcases c2 f hf with z | ⟨q, hq, eq, fr, cl⟩
    · exact Or.inl z
    · exact Or.inr ⟨q, hq, eq, ⟨fun i hi => (fr.1 i hi).trans (h _ (by omega)), fr.2⟩, fun z => ae_pe_V hq h (cl z)⟩
  · intro p hp
    rcases c4 p hp with z | z
    · exact Or.inl z
    · exact Or.inr (ae_pe_V hp h z)
  · intro p hp
    rcases c5 p hp with z | z
    · exact Or.inl (ae_pe_V hp h z)
    · exact Or.inl (ae_pe_V hp h z)
theorem ae_restart {post : St2 → Prop} {p0 : Int32} (R : ae_RI V sE cE fC hd a1 a2 a3 a4 a5 a6 a7 a9) (hl : lE = sE) (hp : ∀ i, i < 3 → a12 i = -1)
    (H : ∀ (tsE tcE tlE tfC thd tsL : Int32) (t1 t2 t3 t4 t5 t6 t7 t8 t9 t10 t11 t12 t13 t14 t15 t16 t17 t18 t19 t20 : Nat → Int32), ae_RI V tsE tcE tfC thd t1 t2 t3 t4 t5 t6 t7 t9 → (p0 = 100000 → ∃ fc h, fc ≤ 3 ∧ h < fc ∧ tfC = nI fc ∧ thd = nI h ∧ ae_CI fc V ae_Z V ae_Z t1 t2 t12 t13 t14 t15) → post (tsE, tcE, tlE, tfC, thd, tsL, t1, t2, t3, t4, t5, t6, t7, t8, t9, t10, t11, t12, t13, t14, t15, t16, t17, t18, t19, t20)) : wpX_restart post (sE, cE, lE, fC, hd, sL, a1, a2, a3, a4, a5, a6, a7, a8, a9, a10, a11, a12, a13, a14, a15, a16, a17, a18, a19, a20) p0 := by
  unfold wpX_restart
  refine ae_losers R hl (fun b19 h19 => ?_)
  refine ae_again R hl hp (fun hd' sL' b1 b2 b12 b13 b14 b15 hx hs => ?_)
  obtain ⟨fc, h, V', N', g1, g2, g3, g4, g5, k, hb, hV⟩ := hx
  refine pk_loop (σ := Unit) (fun n i _ => wX_restart_15 post n (nI i) sE cE lE fC hd' sL' b1 b2 a3 a4 a5 a6 a7 a8 a9 a10 a11 b12 b13 b14 b15 a16 a17 a18 b19 a20) (fun _ _ => True) 3 0 () (by omega) trivial ?_ ?_
  · intro n _ _
    refine pk_le 3 3 (fun _ => br_c (fun g => ?_) (fun g => ?_)) (fun z => absurd z (by omega))
    · exact H _ _ _ _ _ _ _ _ _ _ _ _ _ _ _ _ _ _ _ _ _ _ _ _ _ _ (ae_RI_pe R hb ⟨fc, h, g1, g2, g3, g4, g5⟩) (fun e => absurd g (hs e))
    · subst g4
      refine ae_clear g2 k (fun c1 c2 c3 c4 c14 c15 r3 r4 rp rc => ?_)
      exact H _ _ _ _ _ _ _ _ _ _ _ _ _ _ _ _ _ _ _ _ _ _ _ _ _ _ ⟨⟨fc, h, g1, g2, g3, rfl, g5⟩, rfl, r3, r4, Or.inl ⟨0, by omega, rfl, fun z => absurd z (by omega), fun p hp => ae_pe_V hp (hV g) (rp p hp)⟩⟩ (fun _ => ⟨fc, h, g2, g3, rfl, g5, ae_CI_V (hV g) rc⟩)
  · intro n i _ hi _ hw
    exact pk_le 3 i (fun z => absurd z (by omega)) (fun _ => ⟨pk_in i 3 hi, br_t (by rw [nI_clamp (by omega)]; exact h19 i hi) (nm_r (nI_1 i) (hw () trivial))⟩)
theorem ae_crash {post : Int32 → St2 → Prop} {p0 : Int32} (R : ae_RI V sE cE fC hd a1 a2 a3 a4 a5 a6 a7 a9)
    (H : ∀ (tsE tcE tlE tfC thd tsL : Int32) (t1 t2 t3 t4 t5 t6 t7 t8 t9 t10 t11 t12 t13 t14 t15 t16 t17 t18 t19 t20 : Nat → Int32), (∃ fc h, fc ≤ 3 ∧ h < fc ∧ tfC = nI fc ∧ thd = nI h ∧ ae_CI fc V ae_Z V ae_Z t1 t2 t12 t13 t14 t15) → post (nI (ae_c a16 3)) (tsE, tcE, tlE, tfC, thd, tsL, t1, t2, t3, t4, t5, t6, t7, t8, t9, t10, t11, t12, t13, t14, t15, t16, t17, t18, t19, t20)) : wpX_crashTwice post (sE, cE, lE, fC, hd, sL, a1, a2, a3, a4, a5, a6, a7, a8, a9, a10, a11, a12, a13, a14, a15, a16, a17, a18, a19, a20) p0 := by
  unfold wpX_crashTwice
  refine ae_rc ?_
  refine ae_lose (fun b12 b16 b19 h12 => ?_)
  have M : ∀ z0, wX_crashTwice_30 post (nI (ae_c a16 3)) z0 sE cE sE fC hd sL a1 a2 a3 a4 a5 a6 a7 a8 a9 a10 a11 b12 a13 a14 a15 b16 a17 a18 b19 a20 := by
    intro z0
    unfold wX_crashTwice_30
    refine ae_restart R rfl h12 (fun tsE tcE tlE tfC thd tsL t1 t2 t3 t4 t5 t6 t7 t8 t9 t10 t11 t12 t13 t14 t15 t16 t17 t18 t19 t20 R' _ => ?_)
    refine ae_lose (fun c12 c16 c19 i12 => ?_)
    refine ae_restart R' rfl i12 (fun usE ucE ulE ufC uhd usL u1 u2 u3 u4 u5 u6 u7 u8 u9 u10 u11 u12 u13 u14 u15 u16 u17 u18 u19 u20 R'' q => ?_)
    exact H _ _ _ _ _ _ _ _ _ _ _ _ _ _ _ _ _ _ _ _ _ _ _ _ _ _ (q rfl)
  exact br_c (fun _ => br_c (fun _ => M _) (fun _ => M _)) (fun _ => M _)
end
end
section
section
variable {sE cE lE fC hd sL : Int32} {a1 a2 a3 a4 a5 a6 a7 a8 a9 a10 a11 a12 a13 a14 a15 a16 a17 a18 a19 a20 : Nat → Int32} {mc ms kc ks fc h : Nat} {x1 x2 x3 x4 x5 x7 x8 x9 x10 x11 z : Int32}
theorem ae_change {post : Int32 → St2 → Prop} {t k : Nat} {v : Int32} (hfc : fc ≤ 3) (hh : h < fc) (ht : t < 3) (hk : k < 16) (K : ae_CI fc ae_Z ae_Z ae_Z ae_Z a1 a2 a12 a13 a14 a15) (h17 : a17 t = 0)
    (H : ∀ (h' : Nat) (sE' : Int32) (b1 b2 b8 b10 b12 b13 b14 b15 b18 b19 : Nat → Int32), h' < fc → ae_CI fc ae_Z ae_Z (upd ae_Z k v) (upd ae_Z (k / 4) 1) b1 b2 b12 b13 b14 b15 →
      post 1 (sE', cE, nI 1, nI fc, nI h', sL, b1, b2, a3, a4, upd a5 1 0, upd a6 1 (nI t), upd a7 1 (nI k), b8, upd a9 1 v, b10, a11, b12, b13, b14, b15, a16, upd a17 t ((1 : Int32) <<< (nI k &&& 31)), b18, b19, a20)) :
    wpX_change post (sE, cE, nI 0, nI fc, nI h, sL, a1, a2, a3, a4, a5, a6, a7, a8, a9, a10, a11, a12, a13, a14, a15, a16, a17, a18, a19, a20) (nI t) (nI k) v := by
  have c : (nI t).toNatClampNeg = t := nI_clamp (by omega)
  have i : vp_in (nI t) 3 := pk_in t 3 ht
  unfold wpX_change
  rw [c]
  refine ae_room (by omega) ?_
  rw [ae_pg hk]
  refine ae_bring hfc hh (by omega) K (fun r h' sE' b1 b2 b12 b13 b14 b15 hr hh' e q1 _ => ?_)
  have x : (4 : Int32) * nI r + (nI k &&& 3) = nI (4 * r + k % 4) := by rw [ae_lo hk, ae_ix]
  refine ⟨pk_in (4 * r + k % 4) 12 (by omega) x, nm_e ⟨i, ?_⟩⟩
  refine ae_append (by omega) ht ?_
  refine ae_applyW (y := 1) (by omega) hk (by decide) (by decide) (fun c15 w1 w2 => ?_)
  refine ⟨i, i, nm_r (e' := upd a17 t ((1 : Int32) <<< (nI k &&& 31))) (by rw [h17, ae_or k hk]) ⟨i, i, nm_e ⟨i, ?_⟩⟩⟩
  rw [pk_us]
  refine ae_bits1 hk ?_
  rw [ae_i8 t (by omega), ae_i8 k hk, show (0 : Int32).toInt8.toInt32 = 0 from by decide]
  exact H h' sE' b1 b2 _ _ b12 _ _ c15 _ _ hh' (ae_CI_ap q1 hr hk e w1 w2)
/-- the crash and the last read -/
theorem ae_249 {V : Nat → Int32} (R : ae_RI V sE cE fC hd a1 a2 a3 a4 a5 a6 a7 a9) (h0 : x7 = 0 ∨ ¬ x10 = 0 → ae_c a16 3 = 0) (h1 : ¬ x7 = 0 → x10 = 0 → ae_c a16 3 = 1)
    (hb : x3 < 0 ∨ 15 < x3 → x11 = 0) (hg : ∀ j, j < 16 → x3 = nI j → (x11 = 0 → V j = 0) ∧ (¬ x11 = 0 → V j = x4)) :
    wL_lawOf_249 (fun r _ => r = 1) mc ms x3 x4 x7 x10 x11 z z kc ks sE cE lE fC hd sL a1 a2 a3 a4 a5 a6 a7 a8 a9 a10 a11 a12 a13 a14 a15 a16 a17 a18 a19 a20 := by
  unfold wL_lawOf_249
  refine br_t rfl ?_
  refine ae_crash R (fun tsE tcE tlE tfC thd tsL t1 t2 t3 t4 t5 t6 t7 t8 t9 t10 t11 t12 t13 t14 t15 t16 t17 t18 t19 t20 hx => ?_)
  obtain ⟨fc, h, g1, g2, e1, e2, k⟩ := hx
  subst e1 e2
  have F : ∀ q : Int32, wL_lawOf_276 (fun r _ => r = 1) mc ms x3 x4 x11 q q kc ks tsE tcE tlE (nI fc) (nI h) tsL t1 t2 t3 t4 t5 t6 t7 t8 t9 t10 t11 t12 t13 t14 t15 t16 t17 t18 t19 t20 := by
    intro q
    unfold wL_lawOf_276
    refine br_t rfl ?_
    rcases ae_cls x3 15 15 (by decide) with b | ⟨j, hj, e⟩
    · refine ae_read_n b ?_
      exact br_t (hb b) (br_t rfl rfl)
    · have w := hg j (by omega) e
      rw [e]
      refine ae_read_y g1 g2 (by omega) k (fun h' sE' b1 b2 b12 b13 b14 b15 _ _ _ => ?_)
      refine br_c (fun y => ?_) (fun y => ?_)
      · rw [w.1 y]
        exact br_t rfl rfl
      · rw [w.2 y]
        exact br_t rfl rfl
  refine br_c (fun y => ?_) (fun y => br_c (fun y2 => ?_) (fun y2 => ?_))
  · rw [h0 (Or.inl y)]
    exact F 0
  · rw [h1 y y2]
    exact F 1
  · rw [h0 (Or.inr y2)]
    exact F 0
/-- the second transaction is none, or doesn't run -/
def ae_U (x2 x8 : Int32) (a16 : Nat → Int32) : Prop := ((x2 < 0 ∨ 2 < x2) ∧ x8 = 0) ∨ (∃ j, j < 3 ∧ x2 = nI j ∧ a16 j = 0 ∧ x8 = 1)
/-- how many run, by the flag of the first -/
def ae_Q (x7 : Int32) (a16 : Nat → Int32) : Prop := (x7 = 0 → ae_c a16 3 = 0) ∧ (¬ x7 = 0 → ae_c a16 3 = 1)
theorem ae_no209 (R : ae_RI ae_Z sE cE fC hd a1 a2 a3 a4 a5 a6 a7 a9) (hu : ae_U x2 x8 a16) (hq : ae_Q x7 a16) :
    wL_lawOf_209 (fun r _ => r = 1) mc ms x2 x3 x4 x7 x8 x9 0 0 z z kc ks sE cE lE fC hd sL a1 a2 a3 a4 a5 a6 a7 a8 a9 a10 a11 a12 a13 a14 a15 a16 a17 a18 a19 a20 := by
  have M : ∀ z, wL_lawOf_249 (fun r _ => r = 1) mc ms x3 x4 x7 0 0 z z kc ks sE cE lE fC hd sL a1 a2 a3 a4 a5 a6 a7 a8 a9 a10 a11 a12 a13 a14 a15 a16 a17 a18 a19 a20 := fun z =>
    ae_249 R (fun y => y.elim hq.1 (fun w => absurd rfl w)) (fun y _ => hq.2 y) (fun _ => rfl) (fun j _ _ => ⟨fun _ => rfl, fun y => absurd rfl y⟩)
  unfold wL_lawOf_209
  refine br_t rfl ?_
  rcases hu with ⟨b, e8⟩ | ⟨j, hj, e2, ha, e8⟩
  · refine ae_commit_n b ?_
    exact br_t e8 (M _)
  · rw [e2]
    refine ae_commit_i hj ha ?_
    exact br_f (by rw [e8]; decide) (br_t rfl (M _))
theorem ae_no177 (R : ae_RI ae_Z sE cE fC hd a1 a2 a3 a4 a5 a6 a7 a9) (hu : ae_U x2 x8 a16) (hq : ae_Q x7 a16) :
    wL_lawOf_177 (fun r _ => r = 1) mc ms x2 x3 x4 x7 x8 x9 0 0 z z kc ks sE cE lE fC hd sL a1 a2 a3 a4 a5 a6 a7 a8 a9 a10 a11 a12 a13 a14 a15 a16 a17 a18 a19 a20 := by
  have M : ∀ z, wL_lawOf_209 (fun r _ => r = 1) mc ms x2 x3 x4 x7 x8 x9 0 0 z z kc ks sE cE lE fC hd sL a1 a2 a3 a4 a5 a6 a7 a8 a9 a10 a11 a12 a13 a14 a15 a16 a17 a18 a19 a20 := fun z => ae_no209 R hu hq
  unfold wL_lawOf_177
  refine br_t rfl ?_
  rcases hu with ⟨b, e8⟩ | ⟨j, hj, e2, ha, e8⟩
  · refine ae_holds_n b ?_
    exact br_t e8 (M _)
  · subst e2
    refine ae_holds_i hj ha ?_
    exact br_f (by rw [e8]; decide) (br_t rfl (M _))
/-- the state behind the first call: nothing is written -/
def ae_B (fc h : Nat) (a1 a2 a3 a4 a12 a13 a14 a15 : Nat → Int32) : Prop :=
  1 ≤ fc ∧ fc ≤ 3 ∧ h < fc ∧ ae_CI fc ae_Z ae_Z ae_Z ae_Z a1 a2 a12 a13 a14 a15 ∧ (∀ i, i < 3 → a3 i = 0) ∧ (∀ i, i < 4 → a4 i = 0)
theorem ae_RI_0 {sE' : Int32} {h' : Nat} {b1 b2 b12 b13 b14 b15 : Nat → Int32} (B : ae_B fc h a1 a2 a3 a4 a12 a13 a14 a15) (hh : h' < fc) (k : ae_CI fc ae_Z ae_Z ae_Z ae_Z b1 b2 b12 b13 b14 b15) (hs : (∀ p, p < 4 → ae_Z p ≤ 0) → sE' = 0) :
    ae_RI ae_Z sE' 0 (nI fc) (nI h') b1 b2 a3 a4 a5 a6 a7 a9 := by
  obtain ⟨u1, u2, u3, u4, u5, u6⟩ := B
  refine ⟨⟨fc, h', u1, u2, hh, rfl, rfl⟩, rfl, u5, u6, Or.inl ⟨0, by omega, hs (fun _ _ => (by decide : (0 : Int32) ≤ 0)), fun z => absurd z (by omega), fun p hp => ?_⟩⟩
  rcases k.2.2.2.2 p hp with z | z
  · exact z
  · exact z
theorem ae_no151 (B : ae_B fc h a1 a2 a3 a4 a12 a13 a14 a15) (hu : ae_U x2 x8 a16) (hq : ae_Q x7 a16) :
    wL_lawOf_151 (fun r _ => r = 1) mc ms x2 x3 x4 x5 x7 x8 x9 0 0 kc ks 0 0 0 (nI fc) (nI h) sL a1 a2 a3 a4 a5 a6 a7 a8 a9 a10 a11 a12 a13 a14 a15 a16 a17 a18 a19 a20 := by
  unfold wL_lawOf_151
  rcases ae_cls x5 15 15 (by decide) with b | ⟨j, hj, e⟩
  · refine ae_read_n b ?_
    exact br_t rfl (ae_no177 (ae_RI_0 B B.2.2.1 B.2.2.2.1 (fun _ => rfl)) hu hq)
  · rw [e]
    refine ae_read_y B.2.1 B.2.2.1 (by omega) B.2.2.2.1 (fun h' sE' b1 b2 b12 b13 b14 b15 hh q1 q2 => ?_)
    exact br_t rfl (ae_no177 (ae_RI_0 B hh q1 q2) hu hq)
/-- the call of write is refused -/
theorem ae_no95 (B : ae_B fc h a1 a2 a3 a4 a12 a13 a14 a15) (hu : ae_U x2 x8 a16) (hq : ae_Q x7 a16) (hc : ((x3 < 0 ∨ 15 < x3) ∧ x9 = 0) ∨ (∃ k, k < 16 ∧ x3 = nI k ∧ x9 = 1)) :
    wL_lawOf_95 (fun r _ => r = 1) mc ms x2 x3 x4 x5 x7 x8 x9 0 kc ks 0 0 0 (nI fc) (nI h) sL a1 a2 a3 a4 a5 a6 a7 a8 a9 a10 a11 a12 a13 a14 a15 a16 a17 a18 a19 a20 := by
  have M : ∀ z, wL_lawOf_131 (fun r _ => r = 1) mc ms x2 x3 x4 x5 x7 x8 x9 0 z z kc ks 0 0 0 (nI fc) (nI h) sL a1 a2 a3 a4 a5 a6 a7 a8 a9 a10 a11 a12 a13 a14 a15 a16 a17 a18 a19 a20 := by
    intro z
    unfold wL_lawOf_131
    refine br_t rfl ?_
    exact br_c (fun _ => ae_no151 B hu hq) (fun _ => br_t rfl (ae_no151 B hu hq))
  unfold wL_lawOf_95 wpX_write
  rcases hu with ⟨b, e8⟩ | ⟨j, hj, e2, ha, e8⟩
  · refine ae_check_n b ?_
    refine br_f (by decide) ?_
    exact br_t e8 (M _)
  · have n8 : ¬ x8 = 0 := by
      rw [e8]
      decide
    subst e2
    rcases hc with ⟨b, e9⟩ | ⟨k, hk, e3, e9⟩
    · refine ae_check_b hj b ?_
      refine br_f (by decide) ?_
      exact br_f n8 (br_t e9 (M _))
    · have n9 : ¬ x9 = 0 := by
        rw [e9]
        decide
      subst e3
      refine ae_check_i hj hk ha ?_
      refine br_f (by decide) ?_
      exact br_f n8 (br_f n9 (br_t rfl (M _)))
/-- it runs, the cell is none: nothing is written, the commit stands alone in the log -/
theorem ae_c177 {t : Nat} {b1 b2 b12 b13 b14 b15 : Nat → Int32} {h' : Nat} {sE' : Int32} (ht : t < 3) (hx : x3 < 0 ∨ 15 < x3) (B : ae_B fc h a1 a2 a3 a4 a12 a13 a14 a15) (hh : h' < fc) (k : ae_CI fc ae_Z ae_Z ae_Z ae_Z b1 b2 b12 b13 b14 b15)
    (h1 : ¬ a16 t = 0) (h2 : ∀ i, i < 3 → i ≠ t → a16 i = 0) (h17 : a17 t = 0) :
    wL_lawOf_177 (fun r _ => r = 1) mc ms (nI t) x3 x4 1 1 0 1 0 z z kc ks sE' 0 0 (nI fc) (nI h') sL b1 b2 a3 a4 a5 a6 a7 a8 a9 a10 a11 b12 b13 b14 b15 a16 a17 a18 a19 a20 := by
  unfold wL_lawOf_177
  refine br_t rfl ?_
  refine ae_holds_y ht h1 ?_
  refine br_f (by decide) (br_t rfl ?_)
  rw [h17]
  unfold wL_lawOf_209
  refine br_t rfl ?_
  refine ae_commit_y (n := 0) (x := 0) (by omega) ht h1 ?_ ?_
  · intro ψ tsE tcE tlE tfC thd tsL t1 t2 t3 t4 t5 t6 t7 t8 t9 t10 t11 t12 t13 t14 t15 t16 t17 t18 t19 t20 hψ
    rw [h17]
    exact ae_bits0 hψ
  · refine br_f (by decide) (br_f (by decide) (br_t rfl ?_))
    have R : ae_RI ae_Z (nI (0 + 1)) 0 (nI fc) (nI h') b1 b2 a3 a4 (upd a5 (0 + 1) 2) (upd a6 (0 + 1) (nI t)) (upd a7 (0 + 1) 0) (upd a9 (0 + 1) 0) := by
      obtain ⟨u1, u2, u3, u4, u5, u6⟩ := B
      refine ⟨⟨fc, h', u1, u2, hh, rfl, rfl⟩, rfl, u5, u6, Or.inl ⟨1, by omega, rfl, fun _ => ⟨pk_us, t, ht, pk_us⟩, fun p hp => ?_⟩⟩
      rcases k.2.2.2.2 p hp with z | z
      · exact z
      · exact z
    exact ae_249 R (fun _ => ae_c_0 (ae_u0 h2)) (fun _ y => absurd y (by decide)) (fun _ => rfl) (fun j _ _ => ⟨fun _ => rfl, fun y => absurd rfl y⟩)
theorem ae_c95 {t : Nat} (ht : t < 3) (hx : x3 < 0 ∨ 15 < x3) (B : ae_B fc h a1 a2 a3 a4 a12 a13 a14 a15)
    (h1 : ¬ a16 t = 0) (h2 : ∀ i, i < 3 → i ≠ t → a16 i = 0) (h17 : a17 t = 0) :
    wL_lawOf_95 (fun r _ => r = 1) mc ms (nI t) x3 x4 x5 1 1 0 1 kc ks 0 0 0 (nI fc) (nI h) sL a1 a2 a3 a4 a5 a6 a7 a8 a9 a10 a11 a12 a13 a14 a15 a16 a17 a18 a19 a20 := by
  unfold wL_lawOf_95 wpX_write
  refine ae_check_b ht hx ?_
  refine br_f (by decide) ?_
  refine br_f (by decide) (br_t rfl ?_)
  unfold wL_lawOf_116 wL_lawOf_131
  refine br_t rfl (br_t rfl ?_)
  unfold wL_lawOf_150 wL_lawOf_151
  rcases ae_cls x5 15 15 (by decide) with b | ⟨j, hj, e⟩
  · refine ae_read_n b ?_
    exact br_t rfl (ae_c177 ht hx B B.2.2.1 B.2.2.2.1 h1 h2 h17)
  · rw [e]
    refine ae_read_y B.2.1 B.2.2.1 (by omega) B.2.2.2.1 (fun h' sE' b1 b2 b12 b13 b14 b15 hh q1 q2 => ?_)
    exact br_t rfl (ae_c177 ht hx B hh q1 h1 h2 h17)
/-- it runs and writes: one update and the commit are in the log -/
theorem ae_d177 {t k : Nat} {b1 b2 b12 b13 b14 b15 : Nat → Int32} {h' : Nat} {sE' : Int32} (ht : t < 3) (hk : k < 16) (f1 : 1 ≤ fc) (f2 : fc ≤ 3) (u5 : ∀ i, i < 3 → a3 i = 0) (u6 : ∀ i, i < 4 → a4 i = 0) (hh : h' < fc)
    (K : ae_CI fc ae_Z ae_Z (upd ae_Z k x4) (upd ae_Z (k / 4) 1) b1 b2 b12 b13 b14 b15)
    (h1 : ¬ a16 t = 0) (h2 : ∀ i, i < 3 → i ≠ t → a16 i = 0) :
    wL_lawOf_177 (fun r _ => r = 1) mc ms (nI t) (nI k) x4 1 1 1 1 1 z z kc ks sE' 0 (nI 1) (nI fc) (nI h') sL b1 b2 a3 a4 (upd a5 1 0) (upd a6 1 (nI t)) (upd a7 1 (nI k)) a8 (upd a9 1 x4) a10 a11 b12 b13 b14 b15 a16 (upd a17 t ((1 : Int32) <<< (nI k &&& 31))) a18 a19 a20 := by
  unfold wL_lawOf_177
  refine br_t rfl ?_
  refine ae_holds_y ht h1 ?_
  refine br_f (by decide) (br_f (by decide) ?_)
  rw [pk_us]
  unfold wL_lawOf_209
  refine br_t rfl ?_
  refine ae_commit_y (n := 1) (x := 1) (by omega) ht h1 ?_ ?_
  · intro ψ tsE tcE tlE tfC thd tsL t1 t2 t3 t4 t5 t6 t7 t8 t9 t10 t11 t12 t13 t14 t15 t16 t17 t18 t19 t20 hψ
    rw [pk_us]
    exact ae_bits1 hk hψ
  · refine br_f (by decide) (br_f (by decide) (br_f (by decide) ?_))
    have R : ae_RI (upd ae_Z k x4) (nI (1 + 1)) 0 (nI fc) (nI h') b1 b2 a3 a4 (upd (upd a5 1 0) (1 + 1) 2) (upd (upd a6 1 (nI t)) (1 + 1) (nI t)) (upd (upd a7 1 (nI k)) (1 + 1) 0) (upd (upd a9 1 x4) (1 + 1) 0) := by
      refine ⟨⟨fc, h', f1, f2, hh, rfl, rfl⟩, rfl, u5, u6, Or.inr ⟨t, k, x4, ht, hk, rfl, ?_, pk_us, ?_, pk_us, ?_, ?_, fun _ _ => rfl, K.2.2.2.2⟩⟩
      · rw [pk_un (by omega), pk_us]
      · rw [pk_un (by omega), pk_us]
      · rw [pk_un (by omega), pk_us]
      · rw [pk_un (by omega), pk_us]
    refine ae_249 R (fun _ => ae_c_0 (ae_u0 h2)) (fun _ y => absurd y (by decide)) (fun y => ?_) (fun j hj e => ⟨fun y => absurd y (by decide), fun _ => ?_⟩)
    · rcases y with y | y
      · exact absurd y (nI_pos (by omega))
      · exact absurd y (nI_nlt (a := 15) (b := k) (by omega) (by omega))
    · have w : k = j := (nI_eq (by omega) (by omega)).mp e
      rw [w, pk_us]
theorem ae_d95 {t k : Nat} (ht : t < 3) (hk : k < 16) (B : ae_B fc h a1 a2 a3 a4 a12 a13 a14 a15)
    (h1 : ¬ a16 t = 0) (h2 : ∀ i, i < 3 → i ≠ t → a16 i = 0) (h17 : a17 t = 0) (h18 : a18 t = 0) :
    wL_lawOf_95 (fun r _ => r = 1) mc ms (nI t) (nI k) x4 x5 1 1 1 1 kc ks 0 0 0 (nI fc) (nI h) sL a1 a2 a3 a4 a5 a6 a7 a8 a9 a10 a11 a12 a13 a14 a15 a16 a17 a18 a19 a20 := by
  obtain ⟨u1, u2, u3, u4, u5, u6⟩ := B
  unfold wL_lawOf_95 wpX_write
  refine ae_check_y ht hk h1 h2 h18 ?_
  refine br_t rfl ?_
  refine ae_change u2 u3 ht hk u4 h17 (fun h' sE' b1 b2 b8 b10 b12 b13 b14 b15 b18 b19 hh K => ?_)
  refine br_f (by decide) (br_f (by decide) (br_f (by decide) ?_))
  unfold wL_lawOf_131
  refine br_t rfl (br_f (by decide) (br_f (by decide) ?_))
  unfold wL_lawOf_151
  rcases ae_cls x5 15 15 (by decide) with b | ⟨j, hj, e⟩
  · refine ae_read_n b ?_
    refine br_f (by decide) (br_f (fun e => ?_) ?_)
    · rw [e] at b
      rcases b with y | y
      · exact nI_pos (by omega) y
      · exact nI_nlt (a := 15) (b := k) (by omega) (by omega) y
    · exact ae_d177 ht hk u1 u2 u5 u6 hh K h1 h2
  · rw [e]
    refine ae_read_y u2 hh (by omega) K (fun g' sE'' c1 c2 c12 c13 c14 c15 hg q1 q2 => ?_)
    refine br_f (by decide) ?_
    by_cases n : j = k
    · refine br_t (by rw [n]) ?_
      rw [n, pk_us]
      exact ae_d177 ht hk u1 u2 u5 u6 hg q1 h1 h2
    · refine br_f (fun y => n ((nI_eq (by omega) (by omega)).mp y)) ?_
      rw [pk_un n]
      exact ae_d177 ht hk u1 u2 u5 u6 hg q1 h1 h2
/-- the first transaction: its flag, and what runs -/
def ae_O (x1 x7 : Int32) (a16 a17 a18 : Nat → Int32) : Prop :=
  (x7 = 0 ∧ ∀ i, i < 3 → a16 i = 0) ∨ (x7 = 1 ∧ ∃ t, t < 3 ∧ x1 = nI t ∧ ¬ a16 t = 0 ∧ (∀ i, i < 3 → i ≠ t → a16 i = 0) ∧ a17 t = 0 ∧ a18 t = 0)
theorem ae_O_Q (o : ae_O x1 x7 a16 a17 a18) : ae_Q x7 a16 := by
  rcases o with ⟨e, h⟩ | ⟨e, t, ht, _, h1, h2, _⟩
  · exact ⟨fun _ => ae_c_0 h, fun y => absurd e y⟩
  · refine ⟨fun y => ?_, fun _ => ae_c_1 ht h1 h2⟩
    rw [e] at y
    exact absurd y (by decide)
theorem ae_78 (B : ae_B fc h a1 a2 a3 a4 a12 a13 a14 a15) (o : ae_O x1 x7 a16 a17 a18) (hu : ((x2 < 0 ∨ 2 < x2) ∧ x8 = 0) ∨ (∃ j, j < 3 ∧ x2 = nI j ∧ x8 = 1)) (hc : ((x3 < 0 ∨ 15 < x3) ∧ x9 = 0) ∨ (∃ k, k < 16 ∧ x3 = nI k ∧ x9 = 1)) :
    wL_lawOf_78 (fun r _ => r = 1) mc ms x1 x2 x3 x4 x5 x7 x8 x9 kc ks 0 0 0 (nI fc) (nI h) sL a1 a2 a3 a4 a5 a6 a7 a8 a9 a10 a11 a12 a13 a14 a15 a16 a17 a18 a19 a20 := by
  have hq := ae_O_Q o
  have M : ae_U x2 x8 a16 → wL_lawOf_95 (fun r _ => r = 1) mc ms x2 x3 x4 x5 x7 x8 x9 0 kc ks 0 0 0 (nI fc) (nI h) sL a1 a2 a3 a4 a5 a6 a7 a8 a9 a10 a11 a12 a13 a14 a15 a16 a17 a18 a19 a20 := fun hU => ae_no95 B hU hq hc
  unfold wL_lawOf_78
  rcases o with ⟨e, h0⟩ | ⟨e, t, ht, e1, h1, h2, h17, h18⟩
  · refine br_t e (M ?_)
    rcases hu with y | ⟨j, hj, e2, e8⟩
    · exact Or.inl y
    · exact Or.inr ⟨j, hj, e2, h0 j hj, e8⟩
  · refine br_f (by rw [e]; decide) ?_
    by_cases n : x2 = x1
    · refine br_t n ?_
      rcases hu with ⟨y, _⟩ | ⟨j, hj, e2, e8⟩
      · rw [n, e1] at y
        rcases y with y | y
        · exact absurd y (nI_pos (by omega))
        · exact absurd y (nI_nlt (a := 2) (b := t) (by omega) (by omega))
      · rw [n, e1, e, e8]
        rcases hc with ⟨y, e9⟩ | ⟨k, hk, e3, e9⟩
        · rw [e9]
          exact ae_c95 ht y B h1 h2 h17
        · rw [e3, e9]
          exact ae_d95 ht hk B h1 h2 h17 h18
    · refine br_f n (M ?_)
      rcases hu with y | ⟨j, hj, e2, e8⟩
      · exact Or.inl y
      · refine Or.inr ⟨j, hj, e2, h2 j hj (fun w => n ?_), e8⟩
        rw [e2, e1, w]
theorem ae_61 (B : ae_B fc h a1 a2 a3 a4 a12 a13 a14 a15) (o : ae_O x1 x7 a16 a17 a18) (hu : ((x2 < 0 ∨ 2 < x2) ∧ x8 = 0) ∨ (∃ j, j < 3 ∧ x2 = nI j ∧ x8 = 1)) :
    wL_lawOf_61 (fun r _ => r = 1) mc ms x1 x2 x3 x4 x5 x7 x8 kc ks 0 0 0 (nI fc) (nI h) sL a1 a2 a3 a4 a5 a6 a7 a8 a9 a10 a11 a12 a13 a14 a15 a16 a17 a18 a19 a20 := by
  unfold wL_lawOf_61
  refine br_c (fun y => ?_) (fun y => br_c (fun y2 => ?_) (fun y2 => ?_))
  · exact ae_78 B o hu (Or.inl ⟨Or.inl y, rfl⟩)
  · exact ae_78 B o hu (Or.inl ⟨Or.inr y2, rfl⟩)
  · obtain ⟨k, hk, e⟩ := nI_of2 (M := 15) (n := 15) (by decide) y (Int32.not_lt.mp y2)
    exact ae_78 B o hu (Or.inr ⟨k, by omega, e, rfl⟩)
theorem ae_42 (B : ae_B fc h a1 a2 a3 a4 a12 a13 a14 a15) (o : ae_O x1 x7 a16 a17 a18) :
    wL_lawOf_42 (fun r _ => r = 1) mc ms x1 x2 x3 x4 x5 x7 z z kc ks 0 0 0 (nI fc) (nI h) sL a1 a2 a3 a4 a5 a6 a7 a8 a9 a10 a11 a12 a13 a14 a15 a16 a17 a18 a19 a20 := by
  unfold wL_lawOf_42
  refine br_t rfl ?_
  refine br_c (fun y => ?_) (fun y => br_c (fun y2 => ?_) (fun y2 => ?_))
  · exact ae_61 B o (Or.inl ⟨Or.inl y, rfl⟩)
  · exact ae_61 B o (Or.inl ⟨Or.inr y2, rfl⟩)
  · obtain ⟨k, hk, e⟩ := nI_of2 (M := 2) (n := 2) (by decide) y (Int32.not_lt.mp y2)
    exact ae_61 B o (Or.inr ⟨k, by omega, e, rfl⟩)
end
theorem ae_u1 {t : Nat} : ∀ i, i < 3 → i ≠ t → upd (fun _ => 0) t 1 i = 0 := fun i _ n => pk_un n
theorem ae_law (p0 p1 p2 p3 p4 p5 : Int32) : wpL_lawOf (fun r _ => r = 1) 21 2196 () p0 p1 p2 p3 p4 p5 := by
  unfold wpL_lawOf
  refine ⟨by omega, by omega, 20, 2170, by omega, by omega, ?_⟩
  refine ae_init (by omega) (by omega) p0 (fun fc a12 f1 f2 h12 => ?_)
  have B : ae_B fc 0 (fun _ => 0) (fun _ => 0) (fun _ => 0) (fun _ => 0) a12 (fun _ => 0) (fun _ => 0) (fun _ => 0) :=
    ⟨f1, f2, by omega, ae_CI_0 (fun f hf => h12 f (by omega)) (fun _ _ => Or.inl rfl) (fun _ _ => ⟨fun _ _ => rfl, rfl⟩), fun _ _ => rfl, fun _ _ => rfl⟩
  have M0 : p1 < 0 ∨ 2 < p1 → wL_lawOf_24 (fun r _ => r = 1) 21 2196 p1 p2 p3 p4 p5 0 (1 + 20) (26 + 2170) 0 0 0 (nI fc) 0 0 (fun _ => 0) (fun _ => 0) (fun _ => 0) (fun _ => 0) (fun _ => 0) (fun _ => 0) (fun _ => 0) (fun _ => 0) (fun _ => 0) (fun _ => 0) (fun _ => 0) a12 (fun _ => 0) (fun _ => 0) (fun _ => 0) (fun _ => 0) (fun _ => 0) (fun _ => 0) (fun _ => 0) (fun _ => 0) := by
    intro y
    unfold wL_lawOf_24
    refine ae_begin_n y ?_
    refine br_t rfl ?_
    exact ae_42 B (Or.inl ⟨rfl, fun _ _ => rfl⟩)
  refine br_c (fun y => M0 (Or.inl y)) (fun y => br_c (fun y2 => M0 (Or.inr y2)) (fun y2 => ?_))
  obtain ⟨t, ht, e⟩ := nI_of2 (M := 2) (n := 2) (by decide) y (Int32.not_lt.mp y2)
  rw [e]
  unfold wL_lawOf_24
  refine ae_begin_y (by omega) rfl ?_
  refine br_f (by decide) ?_
  exact ae_42 B (Or.inr ⟨rfl, t, by omega, rfl, by rw [pk_us]; decide, ae_u1, pk_us, pk_us⟩)
theorem ae_cell {post : Int32 → Prop} {L : Nat} {xs : Nat → Int32} {p : Int32} (i : Nat) (hp : p = nI i) (hi : i < 6) (hL : L ≤ 6) (H : ∀ r, post r) : wpL_cellAt post L xs () p :=
  pk_le L i (fun _ => H 0) (fun z => ⟨pk_in i L z hp, H _⟩) rfl hp
theorem i_vc (xs : Nat → Int32) (L : Nat) (hL : L ≤ 6) : wpL_law (fun r => r = 1) L xs := by
  unfold wpL_law
  refine ae_cell 0 rfl (by omega) hL (fun r1 => ?_)
  refine ae_cell 1 rfl (by omega) hL (fun r2 => ?_)
  refine ae_cell 2 rfl (by omega) hL (fun r3 => ?_)
  refine ae_cell 3 rfl (by omega) hL (fun r4 => ?_)
  refine ae_cell 4 rfl (by omega) hL (fun r5 => ?_)
  refine ae_cell 5 rfl (by omega) hL (fun r6 => ?_)
  exact ⟨21, 2196, by omega, by omega, ae_law r1 r2 r3 r4 r5 r6⟩
end
