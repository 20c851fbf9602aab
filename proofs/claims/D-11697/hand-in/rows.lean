section
theorem rg_le {x y : Int32} : x ≤ y ↔ x.toInt ≤ y.toInt := Int32.le_iff_toInt_le
theorem rg_lt {x y : Int32} : x < y ↔ x.toInt < y.toInt := Int32.lt_iff_toInt_lt
theorem rg_add {x y : Int32} (h1 : -1000 ≤ x.toInt) (h2 : x.toInt ≤ 1000) (h3 : -1000 ≤ y.toInt) (h4 : y.toInt ≤ 1000) : (x + y).toInt = x.toInt + y.toInt := by
  rw [Int32.toInt_add]
  exact Int.bmod_eq_of_le (by omega) (by omega)
theorem rg_sub {x y : Int32} (h1 : -1000 ≤ x.toInt) (h2 : x.toInt ≤ 1000) (h3 : -1000 ≤ y.toInt) (h4 : y.toInt ≤ 1000) : (x - y).toInt = x.toInt - y.toInt := by
  rw [Int32.toInt_sub]
  exact Int.bmod_eq_of_le (by omega) (by omega)
theorem rg_1 : (1 : Int32).toInt = 1 := by decide
theorem rg_0 : (0 : Int32).toInt = 0 := by decide
theorem rg_100 : (100 : Int32).toInt = 100 := by decide
theorem rg_m100 : (-100 : Int32).toInt = -100 := by decide
theorem rg_7 : ((7 : Int32) - 0).toInt = 7 := by decide
theorem rg_n0 : (-(0 : Int32)).toInt = 0 := by decide
theorem rg_b0 : vp_nar .boolean 0 = 0 := by rfl
theorem rg_b1 : vp_nar .boolean 1 = 1 := by rfl
theorem rg_10 : ¬ (1 : Int32) = 0 := by decide
theorem rg_ix (t i : Nat) : nI t * 4 + nI i = nI (4 * t + i) := by
  show nI t * nI 4 + nI i = _
  rw [pk_mul, nI_add, Nat.mul_comm]
/-- instruction t is come to, and v lies between its bounds -/
def rg_C (a9 a10 a11 : Nat → Int32) (t : Nat) (v : Nat → Int) : Prop := ¬ a9 t = 0 ∧ ∀ x, x < 4 → (a10 (4 * t + x)).toInt ≤ v x ∧ v x ≤ (a11 (4 * t + x)).toInt
/-- v lies in the ranges -/
def rg_R (a2 : Nat → Int32) (v : Nat → Int) : Prop := ∀ x, x < 4 → -100 ≤ v x ∧ v x ≤ (a2 x).toInt
/-- every bound is small -/
def rg_B (a10 a11 : Nat → Int32) : Prop := ∀ j, -100 ≤ (a10 j).toInt ∧ (a10 j).toInt ≤ 100 ∧ -100 ≤ (a11 j).toInt ∧ (a11 j).toInt ≤ 100
/-- the ranges -/
def rg_L (m : Nat) (a1 a2 : Nat → Int32) : Prop := (∀ x, x < 4 → (a1 x).toInt = -100) ∧ (∀ x, x < 4 → 0 ≤ (a2 x).toInt ∧ (a2 x).toInt ≤ 100) ∧ (a2 0).toInt = 100 ∧ (a2 1).toInt = m ∧ (a2 2).toInt = 100 ∧ (a2 3).toInt = 100 ∧ m ≤ 63
/-- what is known grows; if nothing moved it is the same -/
def rg_G (a2 : Nat → Int32) (mv : Int32) (a9 a10 a11 : Nat → Int32) (mv' : Int32) (b9 b10 b11 : Nat → Int32) : Prop :=
  (∀ s v, rg_R a2 v → rg_C a9 a10 a11 s v → rg_C b9 b10 b11 s v) ∧ (mv' = 0 → mv = 0 ∧ ∀ s v, rg_C b9 b10 b11 s v → rg_C a9 a10 a11 s v) ∧ rg_B b10 b11
theorem rg_Grefl {a2 : Nat → Int32} {mv : Int32} {a9 a10 a11 : Nat → Int32} (h : rg_B a10 a11) : rg_G a2 mv a9 a10 a11 mv a9 a10 a11 :=
  ⟨fun _ _ _ h => h, fun h => ⟨h, fun _ _ h => h⟩, h⟩
theorem rg_Gtrans {a2 : Nat → Int32} {mv mv' mv'' : Int32} {a9 a10 a11 b9 b10 b11 c9 c10 c11 : Nat → Int32} (h : rg_G a2 mv a9 a10 a11 mv' b9 b10 b11) (h' : rg_G a2 mv' b9 b10 b11 mv'' c9 c10 c11) : rg_G a2 mv a9 a10 a11 mv'' c9 c10 c11 :=
  ⟨fun s v r c => h'.1 s v r (h.1 s v r c), fun e => ⟨(h.2.1 (h'.2.1 e).1).1, fun s v c => (h.2.1 (h'.2.1 e).1).2 s v ((h'.2.1 e).2 s v c)⟩, h'.2.2⟩
/-- one bound, joined -/
def rg_m (low lo old new : Int32) : Prop := (new = old ∧ old ≤ lo) ∨ (¬ old ≤ lo ∧ (new = lo ∨ new = low))
def rg_M (high hi old new : Int32) : Prop := (new = old ∧ hi ≤ old) ∨ (¬ hi ≤ old ∧ (new = hi ∨ new = high))
/-- arrive's loop, where t was reached, x < i done -/
def rg_J (a1 a2 a10 a11 a15 a16 : Nat → Int32) (t i : Nat) (s : Int32 × (Nat → Int32) × (Nat → Int32)) : Prop :=
  (∀ j, (j < 4 * t ∨ 4 * t + i ≤ j) → s.2.1 j = a10 j ∧ s.2.2 j = a11 j) ∧ (∀ x, x < i → rg_m (a1 x) (a15 x) (a10 (4 * t + x)) (s.2.1 (4 * t + x)) ∧ rg_M (a2 x) (a16 x) (a11 (4 * t + x)) (s.2.2 (4 * t + x))) ∧ (s.1 = 0 → s.2.1 = a10 ∧ s.2.2 = a11)
theorem rg_Jstep {a1 a2 a10 a11 a15 a16 : Nat → Int32} {t i : Nat} {c c' : Int32} {b10 b11 d10 d11 : Nat → Int32} (h : rg_J a1 a2 a10 a11 a15 a16 t i (c, b10, b11))
    (h1 : ∀ j, j ≠ 4 * t + i → d10 j = b10 j) (h2 : ∀ j, j ≠ 4 * t + i → d11 j = b11 j) (h3 : rg_m (a1 i) (a15 i) (a10 (4 * t + i)) (d10 (4 * t + i))) (h4 : rg_M (a2 i) (a16 i) (a11 (4 * t + i)) (d11 (4 * t + i)))
    (h5 : c' = 0 → c = 0 ∧ d10 = b10 ∧ d11 = b11) : rg_J a1 a2 a10 a11 a15 a16 t (i + 1) (c', d10, d11) := by
  obtain ⟨g1, g2, g3⟩ := h
  refine ⟨fun j hj => ?_, fun x hx => ?_, fun e => ?_⟩
  · have := g1 j (by omega)
    exact ⟨(h1 j (by omega)).trans this.1, (h2 j (by omega)).trans this.2⟩
  · by_cases e : x = i
    · subst e
      exact ⟨h3, h4⟩
    · have := g2 x (by omega)
      have k1 : d10 (4 * t + x) = b10 (4 * t + x) := h1 _ (by omega)
      have k2 : d11 (4 * t + x) = b11 (4 * t + x) := h2 _ (by omega)
      dsimp only
      rw [k1, k2]
      exact this
  · obtain ⟨e1, e2, e3⟩ := h5 e
    have := g3 e1
    exact ⟨e2.trans this.1, e3.trans this.2⟩
theorem rg_mle {low lo old new : Int32} (h : rg_m low lo old new) {w : Int} (h1 : low.toInt ≤ w) (h2 : old.toInt ≤ w ∨ lo.toInt ≤ w) : new.toInt ≤ w := by
  rcases h with ⟨e, g⟩ | ⟨g, e | e⟩ <;> rw [rg_le] at g <;> subst e <;> omega
theorem rg_Mle {high hi old new : Int32} (h : rg_M high hi old new) {w : Int} (h1 : w ≤ high.toInt) (h2 : w ≤ old.toInt ∨ w ≤ hi.toInt) : w ≤ new.toInt := by
  rcases h with ⟨e, g⟩ | ⟨g, e | e⟩ <;> rw [rg_le] at g <;> subst e <;> omega
theorem rg_mor {low lo old new : Int32} (h : rg_m low lo old new) : new = old ∨ new = lo ∨ new = low := by
  rcases h with ⟨e, g⟩ | ⟨g, e | e⟩
  · exact Or.inl e
  · exact Or.inr (Or.inl e)
  · exact Or.inr (Or.inr e)
theorem rg_Mor {low lo old new : Int32} (h : rg_M low lo old new) : new = old ∨ new = lo ∨ new = low := by
  rcases h with ⟨e, g⟩ | ⟨g, e | e⟩
  · exact Or.inl e
  · exact Or.inr (Or.inl e)
  · exact Or.inr (Or.inr e)
theorem rg_u9 {a9 : Nat → Int32} {t s : Nat} (h : ¬ a9 s = 0 ∨ s = t) : ¬ upd a9 t 1 s = 0 := by
  by_cases e : s = t
  · rw [e, pk_us]
    exact rg_10
  · rw [pk_un e]
    rcases h with h | h
    · exact h
    · exact absurd h e
theorem rg_blk (t j : Nat) : (j < 4 * t ∨ 4 * t + 4 ≤ j) ∨ ∃ x, x < 4 ∧ j = 4 * t + x := by
  by_cases h : j < 4 * t ∨ 4 * t + 4 ≤ j
  · exact Or.inl h
  · exact Or.inr ⟨j - 4 * t, by omega, by omega⟩
/-- the loop's end, t was reached -/
theorem rg_Jend {m : Nat} {a1 a2 a9 a10 a11 a15 a16 : Nat → Int32} {t : Nat} {mv mv' c : Int32} {b10 b11 : Nat → Int32} (hL : rg_L m a1 a2) (hB : rg_B a10 a11) (hlo : ∀ x, x < 4 → -100 ≤ (a15 x).toInt ∧ (a15 x).toInt ≤ 100 ∧ -100 ≤ (a16 x).toInt ∧ (a16 x).toInt ≤ 100)
    (hr : ¬ a9 t = 0) (h : rg_J a1 a2 a10 a11 a15 a16 t 4 (c, b10, b11)) (hm : mv' = 0 → mv = 0 ∧ c = 0) :
    rg_G a2 mv a9 a10 a11 mv' (upd a9 t 1) b10 b11 ∧ (∀ v, rg_R a2 v → (∀ x, x < 4 → (a15 x).toInt ≤ v x ∧ v x ≤ (a16 x).toInt) → rg_C (upd a9 t 1) b10 b11 t v) := by
  obtain ⟨g1, g2, g3⟩ := h
  refine ⟨⟨fun s v hv hc => ?_, fun e => ?_, fun j => ?_⟩, fun v hv hl => ?_⟩
  · refine ⟨rg_u9 (Or.inl hc.1), fun x hx => ?_⟩
    have k := hc.2 x hx
    have k2 := hv x hx
    by_cases e : s = t
    · subst e
      have k3 := g2 x hx
      have k4 := hL.1 x hx
      exact ⟨rg_mle k3.1 (by omega) (Or.inl k.1), rg_Mle k3.2 k2.2 (Or.inl k.2)⟩
    · have k3 := g1 (4 * s + x) (by omega)
      dsimp only at k3
      rw [k3.1, k3.2]
      exact k
  · obtain ⟨e1, e2⟩ := hm e
    have k := g3 e2
    dsimp only at k
    refine ⟨e1, fun s v hc => ⟨?_, ?_⟩⟩
    · by_cases e : s = t
      · rw [e]
        exact hr
      · have := hc.1
        rw [pk_un e] at this
        exact this
    · rw [← k.1, ← k.2]
      exact hc.2
  · rcases rg_blk t j with hj | ⟨x, hx, rfl⟩
    · have k3 := g1 j hj
      dsimp only at k3
      rw [k3.1, k3.2]
      exact hB j
    · have k3 := g2 x hx
      dsimp only at k3
      have k4 := hL.1 x hx
      have k5 := hL.2.1 x hx
      have k6 := hB (4 * t + x)
      have k7 := hlo x hx
      constructor
      · rcases rg_mor k3.1 with e | e | e <;> rw [e] <;> omega
      constructor
      · rcases rg_mor k3.1 with e | e | e <;> rw [e] <;> omega
      · rcases rg_Mor k3.2 with e | e | e <;> rw [e] <;> omega
  · refine ⟨rg_u9 (Or.inr rfl), fun x hx => ?_⟩
    have k := hl x hx
    have k2 := hv x hx
    have k3 := g2 x hx
    have k4 := hL.1 x hx
    exact ⟨rg_mle k3.1 (by omega) (Or.inr k.1), rg_Mle k3.2 k2.2 (Or.inr k.2)⟩
/-- arrive's loop, where t wasn't reached -/
def rg_K (a10 a11 a15 a16 : Nat → Int32) (t i : Nat) (s : (Nat → Int32) × (Nat → Int32)) : Prop :=
  (∀ j, (j < 4 * t ∨ 4 * t + i ≤ j) → s.1 j = a10 j ∧ s.2 j = a11 j) ∧ (∀ x, x < i → s.1 (4 * t + x) = a15 x ∧ s.2 (4 * t + x) = a16 x)
theorem rg_Kstep {a10 a11 a15 a16 : Nat → Int32} {t i : Nat} {b10 b11 : Nat → Int32} (h : rg_K a10 a11 a15 a16 t i (b10, b11)) : rg_K a10 a11 a15 a16 t (i + 1) (upd b10 (4 * t + i) (a15 i), upd b11 (4 * t + i) (a16 i)) := by
  obtain ⟨g1, g2⟩ := h
  dsimp only at g1 g2
  refine ⟨fun j hj => ?_, fun x hx => ?_⟩
  · have e : j ≠ 4 * t + i := by omega
    dsimp only
    rw [pk_un e, pk_un e]
    exact g1 j (by omega)
  · dsimp only
    by_cases e : x = i
    · rw [e, pk_us, pk_us]
      exact ⟨rfl, rfl⟩
    · have e' : 4 * t + x ≠ 4 * t + i := by omega
      rw [pk_un e', pk_un e']
      exact g2 x (by omega)
theorem rg_Kend {a2 a9 a10 a11 a15 a16 : Nat → Int32} {t : Nat} {mv : Int32} {b10 b11 : Nat → Int32} (hB : rg_B a10 a11) (hlo : ∀ x, x < 4 → -100 ≤ (a15 x).toInt ∧ (a15 x).toInt ≤ 100 ∧ -100 ≤ (a16 x).toInt ∧ (a16 x).toInt ≤ 100)
    (hr : a9 t = 0) (h : rg_K a10 a11 a15 a16 t 4 (b10, b11)) :
    rg_G a2 mv a9 a10 a11 1 (upd a9 t 1) b10 b11 ∧ (∀ v, rg_R a2 v → (∀ x, x < 4 → (a15 x).toInt ≤ v x ∧ v x ≤ (a16 x).toInt) → rg_C (upd a9 t 1) b10 b11 t v) := by
  obtain ⟨g1, g2⟩ := h
  dsimp only at g1 g2
  refine ⟨⟨fun s v hv hc => ?_, fun e => absurd e rg_10, fun j => ?_⟩, fun v hv hl => ?_⟩
  · refine ⟨rg_u9 (Or.inl hc.1), fun x hx => ?_⟩
    by_cases e : s = t
    · subst e
      exact absurd hr hc.1
    · have k3 := g1 (4 * s + x) (by omega)
      rw [k3.1, k3.2]
      exact hc.2 x hx
  · rcases rg_blk t j with hj | ⟨x, hx, rfl⟩
    · have k3 := g1 j hj
      rw [k3.1, k3.2]
      exact hB j
    · have k3 := g2 x hx
      rw [k3.1, k3.2]
      exact hlo x hx
  · refine ⟨rg_u9 (Or.inr rfl), fun x hx => ?_⟩
    have k3 := g2 x hx
    rw [k3.1, k3.2]
    exact hl x hx
end
section
theorem rg_poss {post : Int32 → Prop} {sz en ep ct kn mv : Int32} {a1 a2 a3 a4 a5 a6 a7 a8 a9 a10 a11 a12 a13 a14 a15 a16 : Nat → Int32} (h1 : (∀ x, x < 4 → a15 x ≤ a16 x) → post 1) (h0 : (∃ x, x < 4 ∧ ¬ a15 x ≤ a16 x) → post 0) : wpX_possible post (sz, en, ep, ct, kn, mv, a1, a2, a3, a4, a5, a6, a7, a8, a9, a10, a11, a12, a13, a14, a15, a16) :=
  pk_loop (σ := Unit) (fun n i _ => wX_possible_2 post sz en ep ct kn mv a1 a2 a3 a4 a5 a6 a7 a8 a9 a10 a11 a12 a13 a14 a15 a16 n (nI i)) (fun i _ => ∀ x, x < i → a15 x ≤ a16 x) 4 0 () (by omega) (fun x hx => absurd hx (by omega))
    (fun n _ h => pk_le 4 4 (fun _ => h1 h) (fun z => absurd z (by omega)))
    (fun n i _ hi h hw => pk_le 4 i (fun z => absurd z (by omega)) (fun _ => ⟨pk_in i 4 hi, pk_in i 4 hi, br_c (fun g => nm_r (nI_1 i) (hw () (lt_s h (by rw [nI_clamp (by omega)] at g; exact g)))) (fun g => h0 ⟨i, hi, by rw [nI_clamp (by omega)] at g; exact g⟩)⟩))
theorem rg_take {post : St2 → Prop} {sz en ep ct kn mv : Int32} {a1 a2 a3 a4 a5 a6 a7 a8 a9 a10 a11 a12 a13 a14 a15 a16 : Nat → Int32} (t : Nat) (ht : t < 15) (H : ∀ l h : Nat → Int32, (∀ x, x < 4 → l x = a10 (4 * t + x) ∧ h x = a11 (4 * t + x)) → post (sz, en, ep, ct, kn, mv, a1, a2, a3, a4, a5, a6, a7, a8, a9, a10, a11, a12, a13, a14, l, h)) : wpX_take post (sz, en, ep, ct, kn, mv, a1, a2, a3, a4, a5, a6, a7, a8, a9, a10, a11, a12, a13, a14, a15, a16) (nI t) :=
  pk_loop (fun n i (s : (Nat → Int32) × (Nat → Int32)) => wX_take_2 post (nI t) sz en ep ct kn mv n (nI i) a1 a2 a3 a4 a5 a6 a7 a8 a9 a10 a11 a12 a13 a14 s.1 s.2) (fun i s => ∀ x, x < i → s.1 x = a10 (4 * t + x) ∧ s.2 x = a11 (4 * t + x)) 4 0 (a15, a16) (by omega) (fun x hx => absurd hx (by omega))
    (fun n s h => pk_le 4 4 (fun _ => H s.1 s.2 h) (fun z => absurd z (by omega)))
    (fun n i s hi h hw => pk_le 4 i (fun z => absurd z (by omega)) (fun _ => ⟨pk_in (4 * t + i) 60 (by omega) (rg_ix t i), pk_in i 4 hi, nm_r (show upd s.1 (nI i).toNatClampNeg (a10 (nI t * 4 + nI i).toNatClampNeg) = upd s.1 i (a10 (4 * t + i)) by rw [rg_ix, nI_clamp (show i < 2 ^ 31 by omega), nI_clamp (show 4 * t + i < 2 ^ 31 by omega)]) ⟨pk_in (4 * t + i) 60 (by omega) (rg_ix t i), pk_in i 4 hi, nm_r (show upd s.2 (nI i).toNatClampNeg (a11 (nI t * 4 + nI i).toNatClampNeg) = upd s.2 i (a11 (4 * t + i)) by rw [rg_ix, nI_clamp (show i < 2 ^ 31 by omega), nI_clamp (show 4 * t + i < 2 ^ 31 by omega)]) (nm_r (nI_1 i) (hw (upd s.1 i (a10 (4 * t + i)), upd s.2 i (a11 (4 * t + i))) (fun x hx => by
      dsimp only
      by_cases e : x = i
      · rw [e, pk_us, pk_us]
        exact ⟨rfl, rfl⟩
      · rw [pk_un e, pk_un e]
        exact h x (by omega))))⟩⟩))
theorem rg_155 {post : St2 → Prop} {J : Int32 → Int32 → (Nat → Int32) → (Nat → Int32) → (Nat → Int32) → (Nat → Int32) → (Nat → Int32) → (Nat → Int32) → (Nat → Int32) → (Nat → Int32) → (Nat → Int32) → (Nat → Int32) → (Nat → Int32) → (Nat → Int32) → (Nat → Int32) → (Nat → Int32) → (Nat → Int32) → (Nat → Int32) → Prop} {x1 x3 x4 : Int32} {sz en ep ct kn mv : Int32} {a1 a2 a3 a4 a5 a6 a7 a8 a9 a10 a11 a12 a13 a14 a15 a16 : Nat → Int32} (i k : Nat) (hi : i < 4) (hk : k < 60)
    (H1 : a16 i ≤ a11 k → J x4 (nI (i + 1)) a1 a2 a3 a4 a5 a6 a7 a8 a9 a10 a11 a12 a13 a14 a15 a16) (H2 : ¬ a16 i ≤ a11 k → ∀ z, (z = a16 i ∨ z = a2 i) → J 1 (nI (i + 1)) a1 a2 a3 a4 a5 a6 a7 a8 a9 a10 (upd a11 k z) a12 a13 a14 a15 a16) : wX_arrive_155 post J x1 x3 x4 (nI i) (nI k) sz en ep ct kn mv a1 a2 a3 a4 a5 a6 a7 a8 a9 a10 a11 a12 a13 a14 a15 a16 := by
  unfold wX_arrive_155
  rw [nI_clamp (show i < 2 ^ 31 by omega), nI_clamp (show k < 2 ^ 31 by omega)]
  exact ⟨pk_in i 4 hi, pk_in k 60 hk, br_c (fun g => nm_r (nI_1 i) (H1 g)) (fun g => br_c (fun _ => ⟨pk_in i 4 hi, pk_in k 60 hk, nm_e (nm_r (nI_1 i) (H2 g _ (Or.inl rfl)))⟩) (fun _ => ⟨pk_in i 4 hi, pk_in k 60 hk, nm_e (nm_r (nI_1 i) (H2 g _ (Or.inr rfl)))⟩))⟩
theorem rg_151 {post : St2 → Prop} {J : Int32 → Int32 → (Nat → Int32) → (Nat → Int32) → (Nat → Int32) → (Nat → Int32) → (Nat → Int32) → (Nat → Int32) → (Nat → Int32) → (Nat → Int32) → (Nat → Int32) → (Nat → Int32) → (Nat → Int32) → (Nat → Int32) → (Nat → Int32) → (Nat → Int32) → (Nat → Int32) → (Nat → Int32) → Prop} {x1 x3 z0 : Int32} {sz en ep ct kn mv : Int32} {a1 a2 a3 a4 a5 a6 a7 a8 a9 a10 a11 a12 a13 a14 a15 a16 : Nat → Int32} (i k : Nat) (hi : i < 4) (hk : k < 60)
    (H1 : a16 i ≤ a11 k → J 1 (nI (i + 1)) a1 a2 a3 a4 a5 a6 a7 a8 a9 (upd a10 k z0) a11 a12 a13 a14 a15 a16) (H2 : ¬ a16 i ≤ a11 k → ∀ z, (z = a16 i ∨ z = a2 i) → J 1 (nI (i + 1)) a1 a2 a3 a4 a5 a6 a7 a8 a9 (upd a10 k z0) (upd a11 k z) a12 a13 a14 a15 a16) : wX_arrive_151 post J x1 x3 (nI i) (nI k) z0 (nI k) sz en ep ct kn mv a1 a2 a3 a4 a5 a6 a7 a8 a9 a10 a11 a12 a13 a14 a15 a16 :=
  ⟨pk_in k 60 hk, nm_r (show upd a10 (nI k).toNatClampNeg z0 = upd a10 k z0 by rw [nI_clamp (by omega)]) (rg_155 i k hi hk H1 H2)⟩
theorem rg_a33 {post : St2 → Prop} {sz en ep ct kn mv : Int32} {a1 a2 a3 a4 a5 a6 a7 a8 a9 a10 a11 a12 a13 a14 a15 a16 : Nat → Int32} {m : Nat} {z0 : Int32} (t : Nat) (ht : t < 5) (hL : rg_L m a1 a2) (hB : rg_B a10 a11) (hlo : ∀ x, x < 4 → -100 ≤ (a15 x).toInt ∧ (a15 x).toInt ≤ 100 ∧ -100 ≤ (a16 x).toInt ∧ (a16 x).toInt ≤ 100)
    (H : ∀ (mv' : Int32) (b9 b10 b11 b12 : Nat → Int32), rg_G a2 mv a9 a10 a11 mv' b9 b10 b11 → (∀ v, rg_R a2 v → (∀ x, x < 4 → (a15 x).toInt ≤ v x ∧ v x ≤ (a16 x).toInt) → rg_C b9 b10 b11 t v) → post (sz, en, ep, ct, kn, mv', a1, a2, a3, a4, a5, a6, a7, a8, b9, b10, b11, b12, a13, a14, a15, a16)) :
    wX_arrive_33 post (nI t) z0 sz en ep ct kn mv a1 a2 a3 a4 a5 a6 a7 a8 a9 a10 a11 a12 a13 a14 a15 a16 := by
  have et : (nI t).toNatClampNeg = t := nI_clamp (by omega)
  refine ⟨pk_in t 15 (by omega), br_c (fun hr => ?_) (fun hr => ?_)⟩
  · rw [et] at hr
    refine pk_loop (fun n i (s : (Nat → Int32) × (Nat → Int32)) => wX_arrive_53 post (nI t) z0 sz en ep ct kn mv n 1 (nI i) a1 a2 a3 a4 a5 a6 a7 a8 a9 s.1 s.2 a12 a13 a14 a15 a16) (rg_K a10 a11 a15 a16 t) 4 0 (a10, a11) (by omega) ⟨fun j hj => ⟨rfl, rfl⟩, fun x hx => absurd hx (by omega)⟩ (fun n s h => ?_) (fun n i s hi h hw => ?_)
    · obtain ⟨k1, k2⟩ := rg_Kend (a2 := a2) (mv := mv) hB hlo hr h
      exact pk_le 4 4 (fun _ => ⟨pk_in t 15 (by omega), nm_r (show upd a9 (nI t).toNatClampNeg 1 = upd a9 t 1 by rw [et]) (br_f rg_10 ⟨pk_in t 15 (by omega), pk_in t 15 (by omega), nm_e (H _ _ _ _ _ k1 k2)⟩)⟩) (fun z => absurd z (by omega))
    · have k := hw _ (rg_Kstep h)
      refine pk_le 4 i (fun z => absurd z (by omega)) (fun _ => nm_r (rg_ix t i) ⟨pk_in t 15 (by omega), br_t (by rw [et]; exact hr) ⟨pk_in i 4 hi, pk_in (4 * t + i) 60 (by omega), nm_r (show upd s.1 (nI (4 * t + i)).toNatClampNeg (a15 (nI i).toNatClampNeg) = upd s.1 (4 * t + i) (a15 i) by rw [nI_clamp (by omega), nI_clamp (by omega)]) ⟨pk_in i 4 hi, pk_in (4 * t + i) 60 (by omega), nm_r (show upd s.2 (nI (4 * t + i)).toNatClampNeg (a16 (nI i).toNatClampNeg) = upd s.2 (4 * t + i) (a16 i) by rw [nI_clamp (by omega), nI_clamp (by omega)]) (nm_r (nI_1 i) k)⟩⟩⟩)
  · rw [et] at hr
    refine pk_loop (fun n i (s : Int32 × (Nat → Int32) × (Nat → Int32)) => wX_arrive_53 post (nI t) z0 sz en ep ct kn mv n s.1 (nI i) a1 a2 a3 a4 a5 a6 a7 a8 a9 s.2.1 s.2.2 a12 a13 a14 a15 a16) (rg_J a1 a2 a10 a11 a15 a16 t) 4 0 (0, a10, a11) (by omega) ⟨fun j hj => ⟨rfl, rfl⟩, fun x hx => absurd hx (by omega), fun _ => ⟨rfl, rfl⟩⟩ (fun n s h => ?_) (fun n i s hi h hw => ?_)
    · obtain ⟨c, b10, b11⟩ := s
      refine pk_le 4 4 (fun _ => ⟨pk_in t 15 (by omega), nm_r (show upd a9 (nI t).toNatClampNeg 1 = upd a9 t 1 by rw [et]) (br_c (fun g => ?_) (fun g => ⟨pk_in t 15 (by omega), pk_in t 15 (by omega), nm_e ?_⟩))⟩) (fun z => absurd z (by omega))
      · obtain ⟨k1, k2⟩ := rg_Jend (mv := mv) (mv' := mv) hL hB hlo hr h (fun e => ⟨e, g⟩)
        exact H _ _ _ _ _ k1 k2
      · obtain ⟨k1, k2⟩ := rg_Jend (mv := mv) (mv' := 1) hL hB hlo hr h (fun e => absurd e rg_10)
        exact H _ _ _ _ _ k1 k2
    · obtain ⟨c, b10, b11⟩ := s
      have o := h.1 (4 * t + i) (by omega)
      dsimp only at o
      have ei : (nI i).toNatClampNeg = i := nI_clamp (by omega)
      have ek : (nI (4 * t + i)).toNatClampNeg = 4 * t + i := nI_clamp (by omega)
      have hk : 4 * t + i < 60 := by omega
      have n1 : (1 : Int32) = 0 → c = 0 ∧ b10 = b10 ∧ b11 = b11 := fun e => absurd e rg_10
      have M1 : a16 i ≤ b11 (4 * t + i) → rg_M (a2 i) (a16 i) (a11 (4 * t + i)) (b11 (4 * t + i)) := fun g => Or.inl ⟨o.2, by rw [← o.2]; exact g⟩
      have M2 : ¬ a16 i ≤ b11 (4 * t + i) → ∀ z, (z = a16 i ∨ z = a2 i) → rg_M (a2 i) (a16 i) (a11 (4 * t + i)) (upd b11 (4 * t + i) z (4 * t + i)) := fun g z hz => Or.inr ⟨by rw [← o.2]; exact g, by rw [pk_us]; exact hz⟩
      have m2 : ¬ b10 (4 * t + i) ≤ a15 i → ∀ z, (z = a15 i ∨ z = a1 i) → rg_m (a1 i) (a15 i) (a10 (4 * t + i)) (upd b10 (4 * t + i) z (4 * t + i)) := fun g z hz => Or.inr ⟨by rw [← o.1]; exact g, by rw [pk_us]; exact hz⟩
      refine pk_le 4 i (fun z => absurd z (by omega)) (fun _ => nm_r (rg_ix t i) ⟨pk_in t 15 (by omega), br_f (by rw [et]; exact hr) ⟨pk_in i 4 hi, pk_in (4 * t + i) 60 hk, br_c (fun g => ?_) (fun g => br_c (fun _ => ⟨pk_in i 4 hi, ?_⟩) (fun _ => ⟨pk_in i 4 hi, ?_⟩))⟩⟩)
      · rw [ei, ek] at g
        exact rg_155 i (4 * t + i) hi hk
          (fun g2 => hw (c, b10, b11) (rg_Jstep h (fun _ _ => rfl) (fun _ _ => rfl) (Or.inl ⟨o.1, by rw [← o.1]; exact g⟩) (M1 g2) (fun e => ⟨e, rfl, rfl⟩)))
          (fun g2 z hz => hw (1, b10, upd b11 (4 * t + i) z) (rg_Jstep h (fun _ _ => rfl) (fun _ e => pk_un e) (Or.inl ⟨o.1, by rw [← o.1]; exact g⟩) (M2 g2 z hz) (fun e => absurd e rg_10)))
      · rw [ei, ek] at g
        rw [ei]
        exact rg_151 i (4 * t + i) hi hk
          (fun g2 => hw (1, upd b10 (4 * t + i) (a15 i), b11) (rg_Jstep h (fun _ e => pk_un e) (fun _ _ => rfl) (m2 g _ (Or.inl rfl)) (M1 g2) (fun e => absurd e rg_10)))
          (fun g2 z hz => hw (1, upd b10 (4 * t + i) (a15 i), upd b11 (4 * t + i) z) (rg_Jstep h (fun _ e => pk_un e) (fun _ e => pk_un e) (m2 g _ (Or.inl rfl)) (M2 g2 z hz) (fun e => absurd e rg_10)))
      · rw [ei, ek] at g
        rw [ei]
        exact rg_151 i (4 * t + i) hi hk
          (fun g2 => hw (1, upd b10 (4 * t + i) (a1 i), b11) (rg_Jstep h (fun _ e => pk_un e) (fun _ _ => rfl) (m2 g _ (Or.inr rfl)) (M1 g2) (fun e => absurd e rg_10)))
          (fun g2 z hz => hw (1, upd b10 (4 * t + i) (a1 i), upd b11 (4 * t + i) z) (rg_Jstep h (fun _ e => pk_un e) (fun _ e => pk_un e) (m2 g _ (Or.inr rfl)) (M2 g2 z hz) (fun e => absurd e rg_10)))
theorem rg_arrive {post : St2 → Prop} {sz en ep ct kn mv : Int32} {a1 a2 a3 a4 a5 a6 a7 a8 a9 a10 a11 a12 a13 a14 a15 a16 : Nat → Int32} {m : Nat} (t : Nat) (ht : t < 6) (hsz : sz = nI 5) (hL : rg_L m a1 a2) (hB : rg_B a10 a11) (hlo : ∀ x, x < 4 → -100 ≤ (a15 x).toInt ∧ (a16 x).toInt ≤ 100)
    (H : ∀ (mv' : Int32) (b9 b10 b11 b12 : Nat → Int32), rg_G a2 mv a9 a10 a11 mv' b9 b10 b11 → (t < 5 → ∀ v, rg_R a2 v → (∀ x, x < 4 → (a15 x).toInt ≤ v x ∧ v x ≤ (a16 x).toInt) → rg_C b9 b10 b11 t v) → post (sz, en, ep, ct, kn, mv', a1, a2, a3, a4, a5, a6, a7, a8, b9, b10, b11, b12, a13, a14, a15, a16)) :
    wpX_arrive post (sz, en, ep, ct, kn, mv, a1, a2, a3, a4, a5, a6, a7, a8, a9, a10, a11, a12, a13, a14, a15, a16) (nI t) := by
  unfold wpX_arrive
  refine rg_poss (fun h1 => ?_) (fun h0 => ?_)
  · have hlo' : ∀ x, x < 4 → -100 ≤ (a15 x).toInt ∧ (a15 x).toInt ≤ 100 ∧ -100 ≤ (a16 x).toInt ∧ (a16 x).toInt ≤ 100 := fun x hx => by
      have k1 := hlo x hx
      have k2 := rg_le.mp (h1 x hx)
      omega
    exact pk_le 5 t (fun z => H mv a9 a10 a11 a12 (rg_Grefl hB) (fun h => absurd h (by omega))) (fun z => br_f rg_10 ⟨pk_in t 15 (by omega), br_c (fun _ => rg_a33 t z hL hB hlo' (fun mv' b9 b10 b11 b12 g c => H mv' b9 b10 b11 b12 g (fun _ => c))) (fun _ => rg_a33 t z hL hB hlo' (fun mv' b9 b10 b11 b12 g c => H mv' b9 b10 b11 b12 g (fun _ => c)))⟩) hsz
  · obtain ⟨x, hx, h0⟩ := h0
    have k : ∀ v : Nat → Int, ¬ ∀ x, x < 4 → (a15 x).toInt ≤ v x ∧ v x ≤ (a16 x).toInt := fun v hv => h0 (rg_le.mpr (by have := hv x hx; omega))
    exact br_c (fun _ => H mv a9 a10 a11 a12 (rg_Grefl hB) (fun _ v _ hv => absurd hv (k v))) (fun _ => br_t rfl (H mv a9 a10 a11 a12 (rg_Grefl hB) (fun _ v _ hv => absurd hv (k v))))
end
section
theorem rg_get57 {post : St2 → Prop} {sz en ep ct kn mv : Int32} {a1 a2 a3 a4 a5 a6 a7 a8 a9 a10 a11 a12 a13 a14 a15 a16 : Nat → Int32} {x4 z0 : Int32} (x : Nat) (hx : x < 4) (H : ∀ hv : Int32, hv.toInt = min x4.toInt (a2 x).toInt → post (sz, en, ep, ct, kn, mv, a1, a2, a3, a4, a5, a6, a7, a8, a9, a10, a11, a12, a13, a14, upd a15 x z0, upd a16 x hv)) : wX_get_57 post (nI x) x4 z0 (nI x) sz en ep ct kn mv a1 a2 a3 a4 a5 a6 a7 a8 a9 a10 a11 a12 a13 a14 a15 a16 := by
  unfold wX_get_57
  rw [nI_clamp (show x < 2 ^ 31 by omega)]
  exact ⟨pk_in x 4 hx, nm_e ⟨pk_in x 4 hx, br_c (fun g => ⟨pk_in x 4 hx, pk_in x 4 hx, nm_e (H _ (by rw [rg_le] at g; omega))⟩) (fun g => ⟨pk_in x 4 hx, nm_e (H _ (by rw [rg_le] at g; omega))⟩)⟩⟩
theorem rg_get31 {post : St2 → Prop} {sz en ep ct kn mv : Int32} {a1 a2 a3 a4 a5 a6 a7 a8 a9 a10 a11 a12 a13 a14 a15 a16 : Nat → Int32} {x3 x4 z0 b : Int32} (i x : Nat) (hi : i < 14) (hx : x < 4) (hb : vp_nar .boolean z0 = b) (H : ∀ lv hv : Int32, lv.toInt = max x3.toInt (a1 x).toInt → hv.toInt = min x4.toInt (a2 x).toInt → post (sz, en, ep, ct, kn, mv, a1, a2, a3, a4, a5, a6, a7, a8, a9, a10, a11, a12, upd a13 i b, a14, upd a15 x lv, upd a16 x hv)) : wX_get_31 post (nI x) x3 x4 z0 (nI i) sz en ep ct kn mv a1 a2 a3 a4 a5 a6 a7 a8 a9 a10 a11 a12 a13 a14 a15 a16 := by
  unfold wX_get_31
  rw [nI_clamp (show x < 2 ^ 31 by omega), nI_clamp (show i < 2 ^ 31 by omega), hb]
  exact ⟨pk_in i 14 hi, nm_e ⟨pk_in x 4 hx, br_c (fun g => ⟨pk_in x 4 hx, rg_get57 x hx (fun hv e => H _ hv (by rw [rg_le] at g; omega) e)⟩) (fun g => rg_get57 x hx (fun hv e => H _ hv (by rw [rg_le] at g; omega) e))⟩⟩
theorem rg_get {post : St2 → Prop} {sz en ep ct kn mv : Int32} {a1 a2 a3 a4 a5 a6 a7 a8 a9 a10 a11 a12 a13 a14 a15 a16 : Nat → Int32} {p2 p3 : Int32} (i x : Nat) (hi : i < 14) (hx : x < 4) (H : ∀ b lv hv : Int32, ((a2 x).toInt < p3.toInt → b = 0) → lv.toInt = max p2.toInt (a1 x).toInt → hv.toInt = min p3.toInt (a2 x).toInt → post (sz, en, ep, ct, kn, mv, a1, a2, a3, a4, a5, a6, a7, a8, a9, a10, a11, a12, upd a13 i b, a14, upd a15 x lv, upd a16 x hv)) : wpX_get post (sz, en, ep, ct, kn, mv, a1, a2, a3, a4, a5, a6, a7, a8, a9, a10, a11, a12, a13, a14, a15, a16) (nI i) (nI x) p2 p3 := by
  unfold wpX_get
  have e : (nI x).toNatClampNeg = x := nI_clamp (by omega)
  refine ⟨pk_in x 4 hx, br_c (fun _ => rg_get31 i x hi hx rg_b0 (fun lv hv => H 0 lv hv (fun _ => rfl))) (fun _ => ⟨pk_in x 4 hx, br_c (fun _ => rg_get31 i x hi hx rg_b0 (fun lv hv => H 0 lv hv (fun _ => rfl))) (fun g => rg_get31 i x hi hx rg_b1 (fun lv hv => H 1 lv hv (fun z => ?_)))⟩)⟩
  rw [e, rg_lt] at g
  exact absurd z g
theorem rg_use62 {post : St2 → Prop} {sz en ep ct kn mv : Int32} {a1 a2 a3 a4 a5 a6 a7 a8 a9 a10 a11 a12 a13 a14 a15 a16 : Nat → Int32} {z0 : Int32} (y : Nat) (hy : y < 4) (H : ∀ hv : Int32, hv.toInt = min (a16 y).toInt 7 → post (sz, en, ep, ct, kn, mv, a1, a2, a3, a4, a5, a6, a7, a8, a9, a10, a11, a12, a13, a14, upd a15 y z0, upd a16 y hv)) : wX_use_62 post (nI y) 0 z0 (nI y) sz en ep ct kn mv a1 a2 a3 a4 a5 a6 a7 a8 a9 a10 a11 a12 a13 a14 a15 a16 := by
  unfold wX_use_62
  rw [nI_clamp (show y < 2 ^ 31 by omega)]
  have e7 := rg_7
  exact ⟨pk_in y 4 hy, nm_e ⟨pk_in y 4 hy, br_c (fun g => ⟨pk_in y 4 hy, pk_in y 4 hy, nm_e (H _ (by rw [rg_le] at g; omega))⟩) (fun g => ⟨pk_in y 4 hy, nm_e (H _ (by rw [rg_le] at g; omega))⟩)⟩⟩
theorem rg_use34 {post : St2 → Prop} {sz en ep ct kn mv : Int32} {a1 a2 a3 a4 a5 a6 a7 a8 a9 a10 a11 a12 a13 a14 a15 a16 : Nat → Int32} {z0 b : Int32} (i y : Nat) (hi : i < 14) (hy : y < 4) (hb : vp_nar .boolean z0 = b) (H : ∀ lv hv : Int32, lv.toInt = max (a15 y).toInt 0 → hv.toInt = min (a16 y).toInt 7 → post (sz, en, ep, ct, kn, mv, a1, a2, a3, a4, a5, a6, a7, a8, a9, a10, a11, a12, a13, upd a14 i b, upd a15 y lv, upd a16 y hv)) : wX_use_34 post (nI y) 0 z0 (nI i) sz en ep ct kn mv a1 a2 a3 a4 a5 a6 a7 a8 a9 a10 a11 a12 a13 a14 a15 a16 := by
  unfold wX_use_34
  rw [nI_clamp (show y < 2 ^ 31 by omega), nI_clamp (show i < 2 ^ 31 by omega), hb]
  have e0 := rg_n0
  exact ⟨pk_in i 14 hi, nm_e ⟨pk_in y 4 hy, br_c (fun g => ⟨pk_in y 4 hy, rg_use62 y hy (fun hv e => H _ hv (by rw [rg_le] at g; omega) e)⟩) (fun g => rg_use62 y hy (fun hv e => H _ hv (by rw [rg_le] at g; omega) e))⟩⟩
theorem rg_use {post : St2 → Prop} {sz en ep ct kn mv : Int32} {a1 a2 a3 a4 a5 a6 a7 a8 a9 a10 a11 a12 a13 a14 a15 a16 : Nat → Int32} (i y : Nat) (hi : i < 14) (hy : y < 4) (H : ∀ b lv hv : Int32, (7 < (a16 y).toInt → b = 0) → lv.toInt = max (a15 y).toInt 0 → hv.toInt = min (a16 y).toInt 7 → post (sz, en, ep, ct, kn, mv, a1, a2, a3, a4, a5, a6, a7, a8, a9, a10, a11, a12, a13, upd a14 i b, upd a15 y lv, upd a16 y hv)) : wpX_use post (sz, en, ep, ct, kn, mv, a1, a2, a3, a4, a5, a6, a7, a8, a9, a10, a11, a12, a13, a14, a15, a16) (nI i) (nI y) 0 := by
  unfold wpX_use
  have e : (nI y).toNatClampNeg = y := nI_clamp (by omega)
  have e7 : (7 : Int32).toInt = 7 := by decide
  refine ⟨pk_in y 4 hy, br_c (fun _ => rg_use34 i y hi hy rg_b0 (fun lv hv => H 0 lv hv (fun _ => rfl))) (fun _ => ⟨pk_in y 4 hy, br_c (fun _ => rg_use34 i y hi hy rg_b0 (fun lv hv => H 0 lv hv (fun _ => rfl))) (fun g => rg_use34 i y hi hy rg_b1 (fun lv hv => H 1 lv hv (fun z => ?_)))⟩)⟩
  rw [e, Int32.add_zero, rg_lt, e7] at g
  exact absurd z g
/-- a vector of four -/
def rg_v (p q r s : Int) : Nat → Int := fun x => if x = 0 then p else if x = 1 then q else if x = 2 then r else s
theorem rg_v4 {P : Nat → Int → Prop} {p q r s : Int} (h0 : P 0 p) (h1 : P 1 q) (h2 : P 2 r) (h3 : P 3 s) : ∀ x, x < 4 → P x (rg_v p q r s x) := by
  intro x hx
  exact co_4 (P := fun x => P x (rg_v p q r s x)) h0 h1 h2 h3 hx
theorem rg_vR {m : Nat} {a1 a2 : Nat → Int32} (hL : rg_L m a1 a2) {p r s : Int} (hp : 0 ≤ p) (hp' : p ≤ 100) (hr : -100 ≤ r) (hr' : r ≤ 100) (hs : 0 ≤ s) (hs' : s ≤ 100) : rg_R a2 (rg_v p 0 r s) := by
  obtain ⟨_, _, g0, g1, g2, g3, _⟩ := hL
  exact rg_v4 (P := fun x w => -100 ≤ w ∧ w ≤ (a2 x).toInt) (by omega) (by omega) (by omega) (by omega)
theorem rg_vC {a9 a10 a11 : Nat → Int32} {t : Nat} {p q r s : Int} (h : rg_C a9 a10 a11 t (rg_v p q r s)) : ((a10 (4 * t + 0)).toInt ≤ p ∧ p ≤ (a11 (4 * t + 0)).toInt) ∧ ((a10 (4 * t + 1)).toInt ≤ q ∧ q ≤ (a11 (4 * t + 1)).toInt) ∧ ((a10 (4 * t + 2)).toInt ≤ r ∧ r ≤ (a11 (4 * t + 2)).toInt) ∧ ((a10 (4 * t + 3)).toInt ≤ s ∧ s ≤ (a11 (4 * t + 3)).toInt) :=
  ⟨h.2 0 (by omega), h.2 1 (by omega), h.2 2 (by omega), h.2 3 (by omega)⟩
theorem rg_all4 {P : Nat → Prop} (h0 : P 0) (h1 : P 1) (h2 : P 2) (h3 : P 3) : ∀ x, x < 4 → P x := fun _ hx => co_4 h0 h1 h2 h3 hx
theorem rg_213 {post : St2 → Prop} {sz en ep ct kn mv : Int32} {a1 a2 a3 a4 a5 a6 a7 a8 a9 a10 a11 a12 a13 a14 a15 a16 : Nat → Int32} {m : Nat} (i : Nat) (hi : i < 4) (hsz : sz = nI 5) (hL : rg_L m a1 a2) (hB : rg_B a10 a11) (hlo : ∀ x, x < 4 → -100 ≤ (a15 x).toInt ∧ (a16 x).toInt ≤ 100)
    (H : ∀ (mv' : Int32) (b9 b10 b11 b12 : Nat → Int32), rg_G a2 mv a9 a10 a11 mv' b9 b10 b11 → (∀ v, rg_R a2 v → (∀ x, x < 4 → (a15 x).toInt ≤ v x ∧ v x ≤ (a16 x).toInt) → rg_C b9 b10 b11 (i + 1) v) → post (sz, en, ep, ct, kn, mv', a1, a2, a3, a4, a5, a6, a7, a8, b9, b10, b11, b12, a13, a14, a15, a16)) :
    wX_followOne_213 post (nI i) sz en ep ct kn mv a1 a2 a3 a4 a5 a6 a7 a8 a9 a10 a11 a12 a13 a14 a15 a16 := by
  unfold wX_followOne_213
  rw [nI_1]
  exact rg_arrive (i + 1) (by omega) hsz hL hB hlo (fun mv' b9 b10 b11 b12 g c => H mv' b9 b10 b11 b12 g (c (by omega)))
/-- the program -/
def rg_P (n : Nat) (a3 a4 a5 a6 : Nat → Int32) : Prop :=
  (a3 0 = 0 ∧ a4 0 = nI 3 ∧ a6 0 = nI n) ∧ (a3 1 = 4 ∧ a4 1 = nI 2 ∧ a5 1 = nI 0 ∧ a6 1 = 0) ∧ (a3 2 = 2 ∧ a4 2 = nI 1 ∧ a5 2 = nI 1 ∧ a6 2 = nI 2) ∧ (a3 3 = 1 ∧ a4 3 = nI 0 ∧ a5 3 = nI 0 ∧ a6 3 = 1) ∧ (a3 4 = 6 ∧ a4 4 = nI 0 ∧ a5 4 = nI 3 ∧ a6 4 = nI 1)
theorem rg_at {f : Nat → Int32} {z : Int32} (i : Nat) (hi : i < 100) (h : f i = z) : f (nI i).toNatClampNeg = z := by
  rw [nI_clamp (by omega)]
  exact h
theorem rg_f0 {post : St2 → Prop} {sz en ep ct kn mv : Int32} {a1 a2 a3 a4 a5 a6 a7 a8 a9 a10 a11 a12 a13 a14 a15 a16 : Nat → Int32} {n m : Nat} (hn : n ≤ 10) (hsz : sz = nI 5) (hP : rg_P n a3 a4 a5 a6) (hL : rg_L m a1 a2) (hB : rg_B a10 a11)
    (H : ∀ (mv' : Int32) (b9 b10 b11 b12 b13 b15 b16 : Nat → Int32), rg_G a2 mv a9 a10 a11 mv' b9 b10 b11 → (b13 2 = a13 2) → (rg_C a9 a10 a11 0 (rg_v 0 0 0 0) → rg_C b9 b10 b11 1 (rg_v 0 0 0 n)) → post (sz, en, ep, ct, kn, mv', a1, a2, a3, a4, a5, a6, a7, a8, b9, b10, b11, b12, b13, a14, b15, b16)) :
    wpX_followOne post (sz, en, ep, ct, kn, mv, a1, a2, a3, a4, a5, a6, a7, a8, a9, a10, a11, a12, a13, a14, a15, a16) (nI 0) := by
  unfold wpX_followOne
  refine rg_take 0 (by omega) (fun l h hl => ?_)
  obtain ⟨p1, p2, p3⟩ := hP.1
  have i4 := pk_in (x := nI 0) 0 14 (by omega)
  have en : (nI n).toInt = n := nI_toInt (by omega)
  refine ⟨i4, nm_r (rg_at 0 (by omega) p1) ⟨i4, nm_r (rg_at 0 (by omega) p2) ⟨i4, nm_e ⟨i4, nm_r (rg_at 0 (by omega) p3) (br_f (by decide) (br_t (by decide) (br_t rfl (rg_get 0 3 (by omega) (by omega) (fun b lv hv hb hlv hhv => rg_213 0 (by omega) hsz hL hB ?_ (fun mv' b9 b10 b11 b12 g c => H _ _ _ _ _ _ _ _ g (pk_un (by decide)) (fun hc => c _ (rg_vR hL (by omega) (by omega) (by omega) (by omega) (by omega) (by omega)) ?_))))))) ⟩⟩⟩⟩
  · obtain ⟨g1, _, g0, g2, g3, g4, _⟩ := hL
    have k3 := g1 3 (by omega)
    have B0 := hB 0
    have B1 := hB 1
    have B2 := hB 2
    refine rg_all4 ?_ ?_ ?_ ?_
    · rw [pk_un (by decide), pk_un (by decide), (hl 0 (by omega)).1, (hl 0 (by omega)).2]
      exact ⟨B0.1, B0.2.2.2⟩
    · rw [pk_un (by decide), pk_un (by decide), (hl 1 (by omega)).1, (hl 1 (by omega)).2]
      exact ⟨B1.1, B1.2.2.2⟩
    · rw [pk_un (by decide), pk_un (by decide), (hl 2 (by omega)).1, (hl 2 (by omega)).2]
      exact ⟨B2.1, B2.2.2.2⟩
    · rw [pk_us, pk_us]
      omega
  · obtain ⟨g1, _, g0, g2, g3, g4, _⟩ := hL
    have k3 := g1 3 (by omega)
    obtain ⟨c0, c1, c2, c3⟩ := rg_vC hc
    refine rg_v4 (P := fun x w => (upd l 3 lv x).toInt ≤ w ∧ w ≤ (upd h 3 hv x).toInt) ?_ ?_ ?_ ?_
    · rw [pk_un (by decide), pk_un (by decide), (hl 0 (by omega)).1, (hl 0 (by omega)).2]
      exact c0
    · rw [pk_un (by decide), pk_un (by decide), (hl 1 (by omega)).1, (hl 1 (by omega)).2]
      exact c1
    · rw [pk_un (by decide), pk_un (by decide), (hl 2 (by omega)).1, (hl 2 (by omega)).2]
      exact c2
    · rw [pk_us, pk_us]
      omega
theorem rg_f1 {post : St2 → Prop} {sz en ep ct kn mv : Int32} {a1 a2 a3 a4 a5 a6 a7 a8 a9 a10 a11 a12 a13 a14 a15 a16 : Nat → Int32} {n m : Nat} (hn : n ≤ 10) (hsz : sz = nI 5) (hP : rg_P n a3 a4 a5 a6) (hL : rg_L m a1 a2) (hB : rg_B a10 a11)
    (H : ∀ (mv' : Int32) (b9 b10 b11 b12 b13 b14 b15 b16 : Nat → Int32), rg_G a2 mv a9 a10 a11 mv' b9 b10 b11 → (b13 2 = a13 2) → (rg_C a9 a10 a11 1 (rg_v 8 0 0 n) → b14 1 = 0) → (∀ p r : Int, 0 ≤ p → p ≤ 7 → -100 ≤ r → r ≤ 100 → rg_C a9 a10 a11 1 (rg_v p 0 0 n) → rg_C b9 b10 b11 2 (rg_v p 0 r n)) → post (sz, en, ep, ct, kn, mv', a1, a2, a3, a4, a5, a6, a7, a8, b9, b10, b11, b12, b13, b14, b15, b16)) :
    wpX_followOne post (sz, en, ep, ct, kn, mv, a1, a2, a3, a4, a5, a6, a7, a8, a9, a10, a11, a12, a13, a14, a15, a16) (nI 1) := by
  unfold wpX_followOne
  refine rg_take 1 (by omega) (fun l h hl => ?_)
  obtain ⟨p1, p2, p3, p4⟩ := hP.2.1
  have i4 := pk_in (x := nI 1) 1 14 (by omega)
  have hL' := hL
  obtain ⟨g1, _, g0, g2, g3, g4, _⟩ := hL'
  have k2 := g1 2 (by omega)
  have B0 := hB (4 * 1 + 0)
  have B1 := hB (4 * 1 + 1)
  have B2 := hB (4 * 1 + 2)
  have B3 := hB (4 * 1 + 3)
  obtain ⟨l0, h0⟩ := hl 0 (by omega)
  obtain ⟨l1, h1⟩ := hl 1 (by omega)
  obtain ⟨l2, h2⟩ := hl 2 (by omega)
  obtain ⟨l3, h3⟩ := hl 3 (by omega)
  have em := rg_m100
  have eh := rg_100
  refine ⟨i4, nm_r (rg_at 1 (by omega) p1) ⟨i4, nm_r (rg_at 1 (by omega) p2) ⟨i4, nm_r (rg_at 1 (by omega) p3) ⟨i4, nm_r (rg_at 1 (by omega) p4) (br_f (by decide) (br_t (by decide) (br_f (by decide) (br_f (by decide) (br_f (by decide) (br_f (by decide) (rg_use 1 0 (by omega) (by omega) (fun ib lv hv hib hlv hhv => rg_poss (fun hp => ?_) (fun hp => ?_)))))))))⟩⟩⟩⟩
  · refine br_t rfl (br_f rg_10 (rg_get 1 2 (by omega) (by omega) (fun b lv2 hv2 hb hlv2 hhv2 => rg_213 1 (by omega) hsz hL hB ?_ (fun mv' b9 b10 b11 b12 g c => H _ _ _ _ _ _ _ _ _ g (pk_un (by decide)) (fun hc => ?_) (fun p r hp0 hp7 hr0 hr1 hc => c _ (rg_vR hL (by omega) (by omega) (by omega) (by omega) (by omega) (by omega)) ?_)))))
    · refine rg_all4 ?_ ?_ ?_ ?_
      · rw [pk_un (by decide), pk_us, pk_un (by decide), pk_us]
        rw [l0] at hlv
        rw [h0] at hhv
        omega
      · rw [pk_un (by decide), pk_un (by decide), pk_un (by decide), pk_un (by decide), l1, h1]
        exact ⟨B1.1, B1.2.2.2⟩
      · rw [pk_us, pk_us]
        omega
      · rw [pk_un (by decide), pk_un (by decide), pk_un (by decide), pk_un (by decide), l3, h3]
        exact ⟨B3.1, B3.2.2.2⟩
    · rw [pk_us]
      obtain ⟨c0, c1, c2, c3⟩ := rg_vC hc
      exact hib (by rw [h0]; omega)
    · obtain ⟨c0, c1, c2, c3⟩ := rg_vC hc
      refine rg_v4 (P := fun x w => (upd (upd l 0 lv) 2 lv2 x).toInt ≤ w ∧ w ≤ (upd (upd h 0 hv) 2 hv2 x).toInt) ?_ ?_ ?_ ?_
      · rw [pk_un (by decide), pk_us, pk_un (by decide), pk_us]
        rw [l0] at hlv
        rw [h0] at hhv
        omega
      · rw [pk_un (by decide), pk_un (by decide), pk_un (by decide), pk_un (by decide), l1, h1]
        exact c1
      · rw [pk_us, pk_us]
        omega
      · rw [pk_un (by decide), pk_un (by decide), pk_un (by decide), pk_un (by decide), l3, h3]
        exact c3
  · refine br_t rfl (br_t rfl (rg_213 1 (by omega) hsz hL hB ?_ (fun mv' b9 b10 b11 b12 g c => H _ _ _ _ _ _ _ _ _ g rfl (fun hc => ?_) (fun p r hp0 hp7 hr0 hr1 hc => ?_))))
    · refine rg_all4 ?_ ?_ ?_ ?_
      · rw [pk_us, pk_us]
        rw [l0] at hlv
        rw [h0] at hhv
        omega
      · rw [pk_un (by decide), pk_un (by decide), l1, h1]
        exact ⟨B1.1, B1.2.2.2⟩
      · rw [pk_un (by decide), pk_un (by decide), l2, h2]
        exact ⟨B2.1, B2.2.2.2⟩
      · rw [pk_un (by decide), pk_un (by decide), l3, h3]
        exact ⟨B3.1, B3.2.2.2⟩
    · rw [pk_us]
      obtain ⟨c0, c1, c2, c3⟩ := rg_vC hc
      exact hib (by rw [h0]; omega)
    · exfalso
      obtain ⟨c0, c1, c2, c3⟩ := rg_vC hc
      obtain ⟨x, hx, hn⟩ := hp
      refine hn (rg_le.mpr ?_)
      refine rg_all4 (P := fun x => (upd l 0 lv x).toInt ≤ (upd h 0 hv x).toInt) ?_ ?_ ?_ ?_ x hx
      · rw [pk_us, pk_us]
        rw [l0] at hlv
        rw [h0] at hhv
        omega
      · rw [pk_un (by decide), pk_un (by decide), l1, h1]
        omega
      · rw [pk_un (by decide), pk_un (by decide), l2, h2]
        omega
      · rw [pk_un (by decide), pk_un (by decide), l3, h3]
        omega
end
section
theorem rg_f2 {post : St2 → Prop} {sz en ep ct kn mv : Int32} {a1 a2 a3 a4 a5 a6 a7 a8 a9 a10 a11 a12 a13 a14 a15 a16 : Nat → Int32} {n m : Nat} (hn : n ≤ 10) (hsz : sz = nI 5) (hP : rg_P n a3 a4 a5 a6) (hL : rg_L m a1 a2) (hB : rg_B a10 a11)
    (H : ∀ (mv' : Int32) (b9 b10 b11 b12 b13 b15 b16 : Nat → Int32), rg_G a2 mv a9 a10 a11 mv' b9 b10 b11 → (rg_C a9 a10 a11 2 (rg_v 0 0 100 n) → b13 2 = 0) → (∀ p : Int, 0 ≤ p → p ≤ 8 → rg_C a9 a10 a11 2 (rg_v p 0 0 n) → rg_C b9 b10 b11 3 (rg_v p 0 0 n)) → post (sz, en, ep, ct, kn, mv', a1, a2, a3, a4, a5, a6, a7, a8, b9, b10, b11, b12, b13, a14, b15, b16)) :
    wpX_followOne post (sz, en, ep, ct, kn, mv, a1, a2, a3, a4, a5, a6, a7, a8, a9, a10, a11, a12, a13, a14, a15, a16) (nI 2) := by
  unfold wpX_followOne
  refine rg_take 2 (by omega) (fun l h hl => ?_)
  obtain ⟨p1, p2, p3, p4⟩ := hP.2.2.1
  have i4 := pk_in (x := nI 2) 2 14 (by omega)
  have hL' := hL
  obtain ⟨g1, _, g0, g2, g3, g4, g5⟩ := hL'
  have k1 := g1 1 (by omega)
  have B0 := hB (4 * 2 + 0)
  have B1 := hB (4 * 2 + 1)
  have B2 := hB (4 * 2 + 2)
  have B3 := hB (4 * 2 + 3)
  obtain ⟨l0, h0⟩ := hl 0 (by omega)
  obtain ⟨l1, h1⟩ := hl 1 (by omega)
  obtain ⟨l2, h2⟩ := hl 2 (by omega)
  obtain ⟨l3, h3⟩ := hl 3 (by omega)
  have e1 : (nI 1).toNatClampNeg = 1 := nI_clamp (by omega)
  have e2 : (nI 2).toNatClampNeg = 2 := nI_clamp (by omega)
  have s1 : (l (nI 1).toNatClampNeg + l (nI 2).toNatClampNeg).toInt = (a10 (4 * 2 + 1)).toInt + (a10 (4 * 2 + 2)).toInt := by
    rw [e1, e2, l1, l2]
    exact rg_add (by omega) (by omega) (by omega) (by omega)
  have s2 : (h (nI 1).toNatClampNeg + h (nI 2).toNatClampNeg).toInt = (a11 (4 * 2 + 1)).toInt + (a11 (4 * 2 + 2)).toInt := by
    rw [e1, e2, h1, h2]
    exact rg_add (by omega) (by omega) (by omega) (by omega)
  refine ⟨i4, nm_r (rg_at 2 (by omega) p1) ⟨i4, nm_r (rg_at 2 (by omega) p2) ⟨i4, nm_r (rg_at 2 (by omega) p3) ⟨i4, nm_r (rg_at 2 (by omega) p4) (br_f (by decide) (br_t (by decide) (br_f (by decide) (br_f (by decide) (br_t rfl ⟨pk_in 1 4 (by omega), pk_in 2 4 (by omega), pk_in 1 4 (by omega), pk_in 2 4 (by omega), rg_get 2 1 (by omega) (by omega) (fun b lv hv hb hlv hhv => rg_213 2 (by omega) hsz hL hB ?_ (fun mv' b9 b10 b11 b12 g c => H _ _ _ _ _ _ _ _ g (fun hc => ?_) (fun p hp0 hp8 hc => c _ (rg_vR hL (by omega) (by omega) (by omega) (by omega) (by omega) (by omega)) ?_)))⟩)))))⟩⟩⟩⟩
  · refine rg_all4 ?_ ?_ ?_ ?_
    · rw [pk_un (by decide), pk_un (by decide), l0, h0]
      exact ⟨B0.1, B0.2.2.2⟩
    · rw [pk_us, pk_us]
      omega
    · rw [pk_un (by decide), pk_un (by decide), l2, h2]
      exact ⟨B2.1, B2.2.2.2⟩
    · rw [pk_un (by decide), pk_un (by decide), l3, h3]
      exact ⟨B3.1, B3.2.2.2⟩
  · rw [pk_us]
    obtain ⟨c0, c1, c2, c3⟩ := rg_vC hc
    exact hb (by rw [s2]; omega)
  · obtain ⟨c0, c1, c2, c3⟩ := rg_vC hc
    refine rg_v4 (P := fun x w => (upd l 1 lv x).toInt ≤ w ∧ w ≤ (upd h 1 hv x).toInt) ?_ ?_ ?_ ?_
    · rw [pk_un (by decide), pk_un (by decide), l0, h0]
      exact c0
    · rw [pk_us, pk_us]
      omega
    · rw [pk_un (by decide), pk_un (by decide), l2, h2]
      exact c2
    · rw [pk_un (by decide), pk_un (by decide), l3, h3]
      exact c3
theorem rg_f3 {post : St2 → Prop} {sz en ep ct kn mv : Int32} {a1 a2 a3 a4 a5 a6 a7 a8 a9 a10 a11 a12 a13 a14 a15 a16 : Nat → Int32} {n m : Nat} (hn : n ≤ 10) (hsz : sz = nI 5) (hP : rg_P n a3 a4 a5 a6) (hL : rg_L m a1 a2) (hB : rg_B a10 a11)
    (H : ∀ (mv' : Int32) (b9 b10 b11 b12 b13 b15 b16 : Nat → Int32), rg_G a2 mv a9 a10 a11 mv' b9 b10 b11 → (b13 2 = a13 2) → (∀ p : Int, 0 ≤ p → p ≤ 8 → rg_C a9 a10 a11 3 (rg_v p 0 0 n) → rg_C b9 b10 b11 4 (rg_v (p + 1) 0 0 n)) → post (sz, en, ep, ct, kn, mv', a1, a2, a3, a4, a5, a6, a7, a8, b9, b10, b11, b12, b13, a14, b15, b16)) :
    wpX_followOne post (sz, en, ep, ct, kn, mv, a1, a2, a3, a4, a5, a6, a7, a8, a9, a10, a11, a12, a13, a14, a15, a16) (nI 3) := by
  unfold wpX_followOne
  refine rg_take 3 (by omega) (fun l h hl => ?_)
  obtain ⟨p1, p2, p3, p4⟩ := hP.2.2.2.1
  have i4 := pk_in (x := nI 3) 3 14 (by omega)
  have hL' := hL
  obtain ⟨g1, _, g0, g2, g3, g4, g5⟩ := hL'
  have k0 := g1 0 (by omega)
  have B0 := hB (4 * 3 + 0)
  have B1 := hB (4 * 3 + 1)
  have B2 := hB (4 * 3 + 2)
  have B3 := hB (4 * 3 + 3)
  obtain ⟨l0, h0⟩ := hl 0 (by omega)
  obtain ⟨l1, h1⟩ := hl 1 (by omega)
  obtain ⟨l2, h2⟩ := hl 2 (by omega)
  obtain ⟨l3, h3⟩ := hl 3 (by omega)
  have e0 : (nI 0).toNatClampNeg = 0 := nI_clamp (by omega)
  have u1 := rg_1
  have s1 : (l (nI 0).toNatClampNeg + 1).toInt = (a10 (4 * 3 + 0)).toInt + 1 := by
    rw [e0, l0, rg_add (by omega) (by omega) (by omega) (by omega), u1]
  have s2 : (h (nI 0).toNatClampNeg + 1).toInt = (a11 (4 * 3 + 0)).toInt + 1 := by
    rw [e0, h0, rg_add (by omega) (by omega) (by omega) (by omega), u1]
  refine ⟨i4, nm_r (rg_at 3 (by omega) p1) ⟨i4, nm_r (rg_at 3 (by omega) p2) ⟨i4, nm_r (rg_at 3 (by omega) p3) ⟨i4, nm_r (rg_at 3 (by omega) p4) (br_f (by decide) (br_t (by decide) (br_f (by decide) (br_t rfl ⟨pk_in 0 4 (by omega), pk_in 0 4 (by omega), rg_get 3 0 (by omega) (by omega) (fun b lv hv hb hlv hhv => rg_213 3 (by omega) hsz hL hB ?_ (fun mv' b9 b10 b11 b12 g c => H _ _ _ _ _ _ _ _ g (pk_un (by decide)) (fun p hp0 hp8 hc => c _ (rg_vR hL (by omega) (by omega) (by omega) (by omega) (by omega) (by omega)) ?_)))⟩))))⟩⟩⟩⟩
  · refine rg_all4 ?_ ?_ ?_ ?_
    · rw [pk_us, pk_us]
      omega
    · rw [pk_un (by decide), pk_un (by decide), l1, h1]
      exact ⟨B1.1, B1.2.2.2⟩
    · rw [pk_un (by decide), pk_un (by decide), l2, h2]
      exact ⟨B2.1, B2.2.2.2⟩
    · rw [pk_un (by decide), pk_un (by decide), l3, h3]
      exact ⟨B3.1, B3.2.2.2⟩
  · obtain ⟨c0, c1, c2, c3⟩ := rg_vC hc
    refine rg_v4 (P := fun x w => (upd l 0 lv x).toInt ≤ w ∧ w ≤ (upd h 0 hv x).toInt) ?_ ?_ ?_ ?_
    · rw [pk_us, pk_us]
      omega
    · rw [pk_un (by decide), pk_un (by decide), l1, h1]
      exact c1
    · rw [pk_un (by decide), pk_un (by decide), l2, h2]
      exact c2
    · rw [pk_un (by decide), pk_un (by decide), l3, h3]
      exact c3
/-- the last arrive of followLess: behind the program's end -/
theorem rg_168 {post : St2 → Prop} {sz en ep ct kn mv : Int32} {a1 a2 a3 a4 a5 a6 a7 a8 a9 a10 a11 a12 a13 a14 a15 a16 : Nat → Int32} (hsz : sz = nI 5) (H : post (sz, en, ep, ct, kn, mv, a1, a2, a3, a4, a5, a6, a7, a8, a9, a10, a11, a12, a13, a14, a15, a16)) : wX_followLess_168 post (nI 4) sz en ep ct kn mv a1 a2 a3 a4 a5 a6 a7 a8 a9 a10 a11 a12 a13 a14 a15 a16 := by
  unfold wX_followLess_168
  rw [nI_1]
  unfold wpX_arrive
  exact rg_poss (fun _ => pk_le 5 5 (fun _ => H) (fun z => absurd z (by omega)) hsz) (fun _ => pk_le 5 5 (fun _ => H) (fun z => absurd z (by omega)) hsz)
theorem rg_131 {post : St2 → Prop} {sz en ep ct kn mv : Int32} {a1 a2 a3 a4 a5 a6 a7 a8 a9 a10 a11 a12 a13 a14 a15 a16 : Nat → Int32} {z0 : Int32} (hsz : sz = nI 5) (H : ∀ b15 b16 : Nat → Int32, post (sz, en, ep, ct, kn, mv, a1, a2, a3, a4, a5, a6, a7, a8, a9, a10, a11, a12, a13, a14, b15, b16)) : wX_followLess_131 post (nI 4) (nI 0) (nI 3) z0 (nI 0) sz en ep ct kn mv a1 a2 a3 a4 a5 a6 a7 a8 a9 a10 a11 a12 a13 a14 a15 a16 := by
  have i0 := pk_in (x := nI 0) 0 4 (by omega)
  have i3 := pk_in (x := nI 3) 3 4 (by omega)
  exact ⟨i0, nm_e ⟨i3, i0, br_c (fun _ => ⟨i0, i3, nm_e (rg_168 hsz (H _ _))⟩) (fun _ => ⟨i3, i3, nm_e (rg_168 hsz (H _ _))⟩)⟩⟩
theorem rg_84 {post : St2 → Prop} {sz en ep ct kn mv : Int32} {a1 a2 a3 a4 a5 a6 a7 a8 a9 a10 a11 a12 a13 a14 a15 a16 : Nat → Int32} {m : Nat} {z0 : Int32} (hsz : sz = nI 5) (hL : rg_L m a1 a2) (hB : rg_B a10 a11) (hlo : ∀ x, x < 4 → -100 ≤ (upd a15 3 z0 x).toInt ∧ (a16 x).toInt ≤ 100)
    (H : ∀ (mv' : Int32) (b9 b10 b11 b12 b15 b16 : Nat → Int32), rg_G a2 mv a9 a10 a11 mv' b9 b10 b11 → (∀ v, rg_R a2 v → (∀ x, x < 4 → (upd a15 3 z0 x).toInt ≤ v x ∧ v x ≤ (a16 x).toInt) → rg_C b9 b10 b11 1 v) → post (sz, en, ep, ct, kn, mv', a1, a2, a3, a4, a5, a6, a7, a8, b9, b10, b11, b12, a13, a14, b15, b16)) :
    wX_followLess_84 post (nI 4) (nI 0) (nI 3) (nI 1) z0 (nI 3) sz en ep ct kn mv a1 a2 a3 a4 a5 a6 a7 a8 a9 a10 a11 a12 a13 a14 a15 a16 := by
  have i0 := pk_in (x := nI 0) 0 4 (by omega)
  have i3 := pk_in (x := nI 3) 3 4 (by omega)
  refine ⟨i3, nm_r (show upd a15 (nI 3).toNatClampNeg z0 = upd a15 3 z0 by rw [nI_clamp (by omega)]) (rg_arrive 1 (by omega) hsz hL hB hlo (fun mv' b9 b10 b11 b12 g c => rg_take 4 (by omega) (fun l h _ => ?_)))⟩
  exact ⟨i0, i3, br_c (fun _ => ⟨i3, rg_131 hsz (fun b15 b16 => H _ _ _ _ _ _ _ g (c (by omega)))⟩) (fun _ => ⟨i0, rg_131 hsz (fun b15 b16 => H _ _ _ _ _ _ _ g (c (by omega)))⟩)⟩
theorem rg_44 {post : St2 → Prop} {sz en ep ct kn mv : Int32} {a1 a2 a3 a4 a5 a6 a7 a8 a9 a10 a11 a12 a13 a14 a15 a16 : Nat → Int32} {m : Nat} {z0 : Int32} (hsz : sz = nI 5) (hL : rg_L m a1 a2) (hB : rg_B a10 a11) (hb : ∀ x, x < 4 → -100 ≤ (a15 x).toInt ∧ (a15 x).toInt ≤ 100 ∧ (upd a16 0 z0 x).toInt ≤ 100)
    (H : ∀ (mv' : Int32) (b9 b10 b11 b12 b15 b16 : Nat → Int32), rg_G a2 mv a9 a10 a11 mv' b9 b10 b11 → (∀ v, rg_R a2 v → (∀ x, x < 4 → (a15 x).toInt ≤ v x ∧ v x ≤ (upd a16 0 z0 x).toInt) → v 0 < v 3 → rg_C b9 b10 b11 1 v) → post (sz, en, ep, ct, kn, mv', a1, a2, a3, a4, a5, a6, a7, a8, b9, b10, b11, b12, a13, a14, b15, b16)) :
    wX_followLess_44 post (nI 4) (nI 0) (nI 3) (nI 1) z0 (nI 0) sz en ep ct kn mv a1 a2 a3 a4 a5 a6 a7 a8 a9 a10 a11 a12 a13 a14 a15 a16 := by
  have i0 := pk_in (x := nI 0) 0 4 (by omega)
  have i3 := pk_in (x := nI 3) 3 4 (by omega)
  have e0 : (nI 0).toNatClampNeg = 0 := nI_clamp (by omega)
  have e3 : (nI 3).toNatClampNeg = 3 := nI_clamp (by omega)
  have q0 := hb 0 (by omega)
  have q3 := hb 3 (by omega)
  have u1 := rg_1
  have s1 : (a15 0 + 1).toInt = (a15 0).toInt + 1 := by
    rw [rg_add (by omega) (by omega) (by omega) (by omega), u1]
  unfold wX_followLess_44
  rw [e0, e3]
  refine ⟨i0, nm_e ⟨i3, i0, br_c (fun g => ⟨i0, ?_⟩) (fun g => ⟨i3, ?_⟩)⟩⟩
  · refine rg_84 hsz hL hB (fun x hx => ?_) (fun mv' b9 b10 b11 b12 b15 b16 hg c => H _ _ _ _ _ _ _ hg (fun v hv hx hlt => c v hv (fun x hx4 => ?_)))
    · have q := hb x hx
      refine ⟨?_, q.2.2⟩
      by_cases e : x = 3
      · rw [e, pk_us]
        omega
      · rw [pk_un e]
        exact q.1
    · have q := hx x hx4
      refine ⟨?_, q.2⟩
      by_cases e : x = 3
      · have r0 := hx 0 (by omega)
        rw [e, pk_us]
        omega
      · rw [pk_un e]
        exact q.1
  · refine rg_84 hsz hL hB (fun x hx => ?_) (fun mv' b9 b10 b11 b12 b15 b16 hg c => H _ _ _ _ _ _ _ hg (fun v hv hx hlt => c v hv (fun x hx4 => ?_)))
    · have q := hb x hx
      refine ⟨?_, q.2.2⟩
      by_cases e : x = 3
      · rw [e, pk_us]
        omega
      · rw [pk_un e]
        exact q.1
    · have q := hx x hx4
      refine ⟨?_, q.2⟩
      by_cases e : x = 3
      · have r0 := hx 3 (by omega)
        rw [e, pk_us]
        omega
      · rw [pk_un e]
        exact q.1
theorem rg_less {post : St2 → Prop} {sz en ep ct kn mv : Int32} {a1 a2 a3 a4 a5 a6 a7 a8 a9 a10 a11 a12 a13 a14 a15 a16 : Nat → Int32} {m : Nat} (hsz : sz = nI 5) (hL : rg_L m a1 a2) (hB : rg_B a10 a11) (hb : ∀ x, x < 4 → -100 ≤ (a15 x).toInt ∧ (a15 x).toInt ≤ 100 ∧ -100 ≤ (a16 x).toInt ∧ (a16 x).toInt ≤ 100)
    (H : ∀ (mv' : Int32) (b9 b10 b11 b12 b15 b16 : Nat → Int32), rg_G a2 mv a9 a10 a11 mv' b9 b10 b11 → (∀ v, rg_R a2 v → (∀ x, x < 4 → (a15 x).toInt ≤ v x ∧ v x ≤ (a16 x).toInt) → v 0 < v 3 → rg_C b9 b10 b11 1 v) → post (sz, en, ep, ct, kn, mv', a1, a2, a3, a4, a5, a6, a7, a8, b9, b10, b11, b12, a13, a14, b15, b16)) :
    wpX_followLess post (sz, en, ep, ct, kn, mv, a1, a2, a3, a4, a5, a6, a7, a8, a9, a10, a11, a12, a13, a14, a15, a16) (nI 4) (nI 0) (nI 3) (nI 1) := by
  have i0 := pk_in (x := nI 0) 0 4 (by omega)
  have i3 := pk_in (x := nI 3) 3 4 (by omega)
  have e0 : (nI 0).toNatClampNeg = 0 := nI_clamp (by omega)
  have e3 : (nI 3).toNatClampNeg = 3 := nI_clamp (by omega)
  have q0 := hb 0 (by omega)
  have q3 := hb 3 (by omega)
  have u1 := rg_1
  have s1 : (a16 3 - 1).toInt = (a16 3).toInt - 1 := by
    rw [rg_sub (by omega) (by omega) (by omega) (by omega), u1]
  unfold wpX_followLess
  rw [e0, e3]
  refine br_f (by decide) ⟨i0, i3, br_c (fun g => ⟨i3, ?_⟩) (fun g => ⟨i0, ?_⟩)⟩
  · refine rg_44 hsz hL hB (fun x hx => ?_) (fun mv' b9 b10 b11 b12 b15 b16 hg c => H _ _ _ _ _ _ _ hg (fun v hv hx hlt => c v hv (fun x hx4 => ?_) hlt))
    · have q := hb x hx
      refine ⟨q.1, q.2.1, ?_⟩
      by_cases e : x = 0
      · rw [e, pk_us]
        omega
      · rw [pk_un e]
        exact q.2.2.2
    · have q := hx x hx4
      refine ⟨q.1, ?_⟩
      by_cases e : x = 0
      · have r3 := hx 3 (by omega)
        rw [e, pk_us]
        omega
      · rw [pk_un e]
        exact q.2
  · refine rg_44 hsz hL hB (fun x hx => ?_) (fun mv' b9 b10 b11 b12 b15 b16 hg c => H _ _ _ _ _ _ _ hg (fun v hv hx hlt => c v hv (fun x hx4 => ?_) hlt))
    · have q := hb x hx
      refine ⟨q.1, q.2.1, ?_⟩
      by_cases e : x = 0
      · rw [e, pk_us]
        omega
      · rw [pk_un e]
        exact q.2.2.2
    · have q := hx x hx4
      refine ⟨q.1, ?_⟩
      by_cases e : x = 0
      · have r0 := hx 0 (by omega)
        rw [e, pk_us]
        omega
      · rw [pk_un e]
        exact q.2
theorem rg_f4 {post : St2 → Prop} {sz en ep ct kn mv : Int32} {a1 a2 a3 a4 a5 a6 a7 a8 a9 a10 a11 a12 a13 a14 a15 a16 : Nat → Int32} {n m : Nat} (hn : n ≤ 10) (hsz : sz = nI 5) (hP : rg_P n a3 a4 a5 a6) (hL : rg_L m a1 a2) (hB : rg_B a10 a11)
    (H : ∀ (mv' : Int32) (b9 b10 b11 b12 b15 b16 : Nat → Int32), rg_G a2 mv a9 a10 a11 mv' b9 b10 b11 → (∀ p : Int, 0 ≤ p → p < n → rg_C a9 a10 a11 4 (rg_v p 0 0 n) → rg_C b9 b10 b11 1 (rg_v p 0 0 n)) → post (sz, en, ep, ct, kn, mv', a1, a2, a3, a4, a5, a6, a7, a8, b9, b10, b11, b12, a13, a14, b15, b16)) :
    wpX_followOne post (sz, en, ep, ct, kn, mv, a1, a2, a3, a4, a5, a6, a7, a8, a9, a10, a11, a12, a13, a14, a15, a16) (nI 4) := by
  unfold wpX_followOne
  refine rg_take 4 (by omega) (fun l h hl => ?_)
  obtain ⟨p1, p2, p3, p4⟩ := hP.2.2.2.2
  have i4 := pk_in (x := nI 4) 4 14 (by omega)
  refine ⟨i4, nm_r (rg_at 4 (by omega) p1) ⟨i4, nm_r (rg_at 4 (by omega) p2) ⟨i4, nm_r (rg_at 4 (by omega) p3) ⟨i4, nm_r (rg_at 4 (by omega) p4) (br_t rfl (rg_less hsz hL hB (fun x hx => ?_) (fun mv' b9 b10 b11 b12 b15 b16 g c => H _ _ _ _ _ _ _ g (fun p hp0 hpn hc => c _ (rg_vR hL (by omega) (by omega) (by omega) (by omega) (by omega) (by omega)) (fun x hx => ?_) ?_))))⟩⟩⟩⟩
  · rw [(hl x hx).1, (hl x hx).2]
    exact hB (4 * 4 + x)
  · rw [(hl x hx).1, (hl x hx).2]
    exact hc.2 x hx
  · exact hpn
end
section
/-- what one round does -/
def rg_Q (n : Nat) (a9 a10 a11 : Nat → Int32) (mv' : Int32) (b9 b10 b11 b13 b14 : Nat → Int32) : Prop :=
  rg_B b10 b11 ∧ rg_C b9 b10 b11 0 (rg_v 0 0 0 0) ∧ b13 2 = 0 ∧ (9 ≤ n → (∀ p : Int, 0 ≤ p → p ≤ 7 → (p = 0 ∨ rg_C a9 a10 a11 1 (rg_v p 0 0 n)) → rg_C b9 b10 b11 1 (rg_v (p + 1) 0 0 n)) ∧ (rg_C a9 a10 a11 1 (rg_v 8 0 0 n) → rg_C b9 b10 b11 1 (rg_v 8 0 0 n) ∧ b14 1 = 0) ∧ (mv' = 0 → ∀ v, rg_C b9 b10 b11 1 v → rg_C a9 a10 a11 1 v))
/-- known before round r -/
def rg_I (n : Nat) (a9 a10 a11 a13 a14 : Nat → Int32) (mv : Int32) (r : Nat) : Prop :=
  rg_B a10 a11 ∧ rg_C a9 a10 a11 0 (rg_v 0 0 0 0) ∧ a13 2 = 0 ∧ (9 ≤ n → (1 ≤ r → rg_C a9 a10 a11 1 (rg_v ((min r 8 : Nat) : Int) 0 0 n)) ∧ (mv = 0 ∨ 9 ≤ r → a14 1 = 0))
theorem rg_Istep {n : Nat} {a9 a10 a11 a13 a14 b9 b10 b11 b13 b14 : Nat → Int32} {mv mv' : Int32} {r : Nat} (h : rg_I n a9 a10 a11 a13 a14 mv r) (q : rg_Q n a9 a10 a11 mv' b9 b10 b11 b13 b14) : rg_I n b9 b10 b11 b13 b14 mv' (r + 1) := by
  obtain ⟨hB, h0, hf, h9⟩ := h
  obtain ⟨q1, q2, q3, q4⟩ := q
  refine ⟨q1, q2, q3, fun hn => ?_⟩
  obtain ⟨k1, k2⟩ := h9 hn
  obtain ⟨s1, s2, s3⟩ := q4 hn
  have K8 : 8 ≤ r → rg_C a9 a10 a11 1 (rg_v 8 0 0 n) := fun hr => by
    have := k1 (by omega)
    rw [show ((min r 8 : Nat) : Int) = 8 by omega] at this
    exact this
  refine ⟨fun _ => ?_, fun hc => ?_⟩
  · by_cases h8 : r ≤ 7
    · rw [show ((min (r + 1) 8 : Nat) : Int) = (r : Int) + 1 by omega]
      refine s1 r (by omega) (by omega) ?_
      by_cases hr : r = 0
      · exact Or.inl (by omega)
      · have := k1 (by omega)
        rw [show ((min r 8 : Nat) : Int) = (r : Int) by omega] at this
        exact Or.inr this
    · rw [show ((min (r + 1) 8 : Nat) : Int) = 8 by omega]
      exact (s2 (K8 (by omega))).1
  · refine (s2 ?_).2
    rcases hc with e | e
    · have all : ∀ k : Nat, k ≤ 7 → rg_C a9 a10 a11 1 (rg_v ((k : Int) + 1) 0 0 n) := by
        intro k
        induction k with
        | zero => exact fun _ => s3 e _ (s1 _ (by omega) (by omega) (Or.inl (by omega)))
        | succ k ih =>
          intro hk
          have := ih (by omega)
          rw [show ((k + 1 : Nat) : Int) = (k : Int) + 1 by omega]
          exact s3 e _ (s1 _ (by omega) (by omega) (Or.inr this))
      exact all 7 (by omega)
    · exact K8 (by omega)
theorem rg_round {post : St2 → Prop} {J : Int32 → Int32 → Int32 → Int32 → Int32 → Int32 → Int32 → (Nat → Int32) → (Nat → Int32) → (Nat → Int32) → (Nat → Int32) → (Nat → Int32) → (Nat → Int32) → (Nat → Int32) → (Nat → Int32) → (Nat → Int32) → (Nat → Int32) → (Nat → Int32) → (Nat → Int32) → (Nat → Int32) → (Nat → Int32) → (Nat → Int32) → (Nat → Int32) → Prop} {sz en ep ct kn : Int32} {a1 a2 a3 a4 a5 a6 a7 a8 a9 a10 a11 a12 a13 a14 a15 a16 : Nat → Int32} {n m : Nat} (r : Nat) (hn : n ≤ 10) (hsz : sz = nI 5) (hP : rg_P n a3 a4 a5 a6) (hL : rg_L m a1 a2) (hB : rg_B a10 a11) (h0 : rg_C a9 a10 a11 0 (rg_v 0 0 0 0))
    (H : ∀ (mv' : Int32) (b9 b10 b11 b12 b13 b14 b15 b16 : Nat → Int32), rg_Q n a9 a10 a11 mv' b9 b10 b11 b13 b14 → J (nI (r + 1)) sz en ep ct kn mv' a1 a2 a3 a4 a5 a6 a7 a8 b9 b10 b11 b12 b13 b14 b15 b16) :
    ∃ fu, wX_analyse_102 post J (nI r) fu 0 sz en ep ct kn 0 a1 a2 a3 a4 a5 a6 a7 a8 a9 a10 a11 a12 a13 a14 a15 a16 := by
  refine ⟨6, pk_le 5 0 (fun z => absurd z (by omega)) (fun _ => ⟨pk_in 0 15 (by omega), br_f h0.1 (rg_f0 hn hsz hP hL hB (fun v1 c9 c10 c11 c12 c13 c15 c16 G1 F1 C1 => nm_r (show nI 0 + 1 = nI 1 from nI_1 0) ?_))⟩) hsz⟩
  have r1 := C1 h0
  refine pk_le 5 1 (fun z => absurd z (by omega)) (fun _ => ⟨pk_in 1 15 (by omega), br_f r1.1 (rg_f1 hn hsz hP hL G1.2.2 (fun v2 d9 d10 d11 d12 d13 d14 d15 d16 G2 F2 I2 C2 => nm_r (show nI 1 + 1 = nI 2 from nI_1 1) ?_))⟩) hsz
  have r2 := C2 0 100 (by omega) (by omega) (by omega) (by omega) r1
  have r2' := C2 0 0 (by omega) (by omega) (by omega) (by omega) r1
  refine pk_le 5 2 (fun z => absurd z (by omega)) (fun _ => ⟨pk_in 2 15 (by omega), br_f r2.1 (rg_f2 hn hsz hP hL G2.2.2 (fun v3 e9 e10 e11 e12 e13 e15 e16 G3 F3 C3 => nm_r (show nI 2 + 1 = nI 3 from nI_1 2) ?_))⟩) hsz
  have r3 := C3 0 (by omega) (by omega) r2'
  refine pk_le 5 3 (fun z => absurd z (by omega)) (fun _ => ⟨pk_in 3 15 (by omega), br_f r3.1 (rg_f3 hn hsz hP hL G3.2.2 (fun v4 f9 f10 f11 f12 f13 f15 f16 G4 F4 C4 => nm_r (show nI 3 + 1 = nI 4 from nI_1 3) ?_))⟩) hsz
  have r4 := C4 0 (by omega) (by omega) r3
  refine pk_le 5 4 (fun z => absurd z (by omega)) (fun _ => ⟨pk_in 4 15 (by omega), br_f r4.1 (rg_f4 hn hsz hP hL G4.2.2 (fun v5 g9 g10 g11 g12 g15 g16 G5 C5 => nm_r (show nI 4 + 1 = nI 5 from nI_1 4) ?_))⟩) hsz
  refine pk_le 5 5 (fun _ => nm_r (nI_1 r) (H v5 g9 g10 g11 g12 f13 d14 g15 g16 ⟨G5.2.2, ?_, ?_, fun h9 => ⟨?_, ?_, ?_⟩⟩)) (fun z => absurd z (by omega)) hsz
  · have R : rg_R a2 (rg_v 0 0 0 0) := rg_vR hL (by omega) (by omega) (by omega) (by omega) (by omega) (by omega)
    exact G5.1 _ _ R (G4.1 _ _ R (G3.1 _ _ R (G2.1 _ _ R (G1.1 _ _ R h0))))
  · rw [F4]
    exact F3 r2
  · intro p hp0 hp7 hc
    have R : rg_R a2 (rg_v p 0 0 n) := rg_vR hL (by omega) (by omega) (by omega) (by omega) (by omega) (by omega)
    have k1 : rg_C c9 c10 c11 1 (rg_v p 0 0 n) := by
      rcases hc with e | e
      · rw [e]
        exact r1
      · exact G1.1 _ _ R e
    exact C5 _ (by omega) (by omega) (C4 _ (by omega) (by omega) (C3 _ (by omega) (by omega) (C2 p 0 (by omega) (by omega) (by omega) (by omega) k1)))
  · intro hc
    have R : rg_R a2 (rg_v 8 0 0 n) := rg_vR hL (by omega) (by omega) (by omega) (by omega) (by omega) (by omega)
    have k1 := G1.1 _ _ R hc
    exact ⟨G5.1 _ _ R (G4.1 _ _ R (G3.1 _ _ R (G2.1 _ _ R k1))), I2 k1⟩
  · intro e
    have G := rg_Gtrans (rg_Gtrans (rg_Gtrans (rg_Gtrans G1 G2) G3) G4) G5
    exact fun v hv => (G.2.1 e).2 1 v hv
theorem rg_81 {post : St2 → Prop} {sz en ep ct kn mv : Int32} {a1 a2 a3 a4 a5 a6 a7 a8 a9 a10 a11 a12 a13 a14 a15 a16 : Nat → Int32} {n m : Nat} (hn : n ≤ 10) (hsz : sz = nI 5) (hP : rg_P n a3 a4 a5 a6) (hL : rg_L m a1 a2) (h : rg_I n a9 a10 a11 a13 a14 mv 0)
    (H : ∀ (mv' : Int32) (b9 b10 b11 b12 b13 b14 b15 b16 : Nat → Int32), b13 2 = 0 → (9 ≤ n → b14 1 = 0) → post (sz, en, ep, ct, 1, mv', a1, a2, a3, a4, a5, a6, a7, a8, b9, b10, b11, b12, b13, b14, b15, b16)) :
    ∃ fu, wX_analyse_81 post fu 0 sz en ep ct kn mv a1 a2 a3 a4 a5 a6 a7 a8 a9 a10 a11 a12 a13 a14 a15 a16 :=
  pk_loop (fun f i (s : Int32 × (Nat → Int32) × (Nat → Int32) × (Nat → Int32) × (Nat → Int32) × (Nat → Int32) × (Nat → Int32) × (Nat → Int32) × (Nat → Int32)) => wX_analyse_81 post f (nI i) sz en ep ct kn s.1 a1 a2 a3 a4 a5 a6 a7 a8 s.2.1 s.2.2.1 s.2.2.2.1 s.2.2.2.2.1 s.2.2.2.2.2.1 s.2.2.2.2.2.2.1 s.2.2.2.2.2.2.2.1 s.2.2.2.2.2.2.2.2)
    (fun i s => rg_I n s.2.1 s.2.2.1 s.2.2.2.1 s.2.2.2.2.2.1 s.2.2.2.2.2.2.1 s.1 i) 200 0 (mv, a9, a10, a11, a12, a13, a14, a15, a16) (by omega) h
    (fun f s g => pk_le 200 200 (fun _ => H _ _ _ _ _ _ _ _ _ g.2.2.1 (fun h9 => (g.2.2.2 h9).2 (Or.inr (by omega)))) (fun z => absurd z (by omega)))
    (fun f i s hi g hw => pk_le 200 i (fun z => absurd z (by omega)) (fun _ => br_c (fun e => H _ _ _ _ _ _ _ _ _ g.2.2.1 (fun h9 => (g.2.2.2 h9).2 (Or.inl e))) (fun _ => rg_round i hn hsz hP hL g.1 g.2.1 (fun mv' b9 b10 b11 b12 b13 b14 b15 b16 q => hw (mv', b9, b10, b11, b12, b13, b14, b15, b16) (rg_Istep g q)))))
theorem rg_near {post : Int32 → Prop} {sz en ep ct kn mv : Int32} {a1 a2 a3 a4 a5 a6 a7 a8 a9 a10 a11 a12 a13 a14 a15 a16 : Nat → Int32} {m : Nat} (x : Nat) (hx : x < 4) (hL : rg_L m a1 a2) (H : post 0) : wpX_nearestToZero post (sz, en, ep, ct, kn, mv, a1, a2, a3, a4, a5, a6, a7, a8, a9, a10, a11, a12, a13, a14, a15, a16) (nI x) := by
  unfold wpX_nearestToZero
  rw [nI_clamp (show x < 2 ^ 31 by omega)]
  have k1 := hL.1 x hx
  have k2 := hL.2.1 x hx
  have e0 := rg_0
  exact ⟨pk_in x 4 hx, br_t (rg_le.mpr (by omega)) ⟨pk_in x 4 hx, br_t (rg_le.mpr (by omega)) H⟩⟩
theorem rg_38 {post : St2 → Prop} {sz en ep ct kn mv : Int32} {a1 a2 a3 a4 a5 a6 a7 a8 a9 a10 a11 a12 a13 a14 a15 a16 : Nat → Int32} {n m : Nat} (hn : n ≤ 10) (hsz : sz = nI 5) (hP : rg_P n a3 a4 a5 a6) (hL : rg_L m a1 a2) (hB : rg_B a10 a11) (hf : a13 2 = 0) (hi : a14 1 = 0)
    (H : ∀ (mv' : Int32) (b9 b10 b11 b12 b13 b14 b15 b16 : Nat → Int32), b13 2 = 0 → (9 ≤ n → b14 1 = 0) → post (sz, en, ep, ct, 1, mv', a1, a2, a3, a4, a5, a6, a7, a8, b9, b10, b11, b12, b13, b14, b15, b16)) :
    ∃ fu, wX_analyse_38 post sz en ep ct kn mv fu 0 a1 a2 a3 a4 a5 a6 a7 a8 a9 a10 a11 a12 a13 a14 a15 a16 := by
  refine pk_loop (fun f i (s : (Nat → Int32) × (Nat → Int32)) => wX_analyse_38 post sz en ep ct kn mv f (nI i) a1 a2 a3 a4 a5 a6 a7 a8 a9 a10 a11 a12 a13 a14 s.1 s.2) (fun i s => ∀ x, x < i → s.1 x = 0 ∧ s.2 x = 0) 4 0 (a15, a16) (by omega) (fun x hx => absurd hx (by omega)) (fun f s g => ?_) (fun f i s hi g hw => ?_)
  · have e0 := rg_0
    refine pk_le 4 4 (fun _ => rg_arrive (m := m) 0 (by omega) hsz hL hB (fun x hx => ?_) (fun mv' b9 b10 b11 b12 G c => rg_81 hn hsz hP hL ⟨G.2.2, c (by omega) _ (rg_vR hL (by omega) (by omega) (by omega) (by omega) (by omega) (by omega)) (fun x hx => ?_), hf, fun _ => ⟨fun z => absurd z (by omega), fun _ => hi⟩⟩ H)) (fun z => absurd z (by omega))
    · rw [(g x hx).1, (g x hx).2]
      omega
    · rw [(g x hx).1, (g x hx).2, e0]
      exact rg_v4 (P := fun _ w => 0 ≤ w ∧ w ≤ 0) (by omega) (by omega) (by omega) (by omega) x hx
  · refine pk_le 4 i (fun z => absurd z (by omega)) (fun _ => rg_near i hi hL ⟨pk_in i 4 hi, nm_r (show upd s.1 (nI i).toNatClampNeg 0 = upd s.1 i 0 by rw [nI_clamp (by omega)]) ⟨pk_in i 4 hi, nm_r (show upd s.2 (nI i).toNatClampNeg 0 = upd s.2 i 0 by rw [nI_clamp (by omega)]) (nm_r (nI_1 i) (hw (upd s.1 i 0, upd s.2 i 0) (fun x hx => ?_)))⟩⟩)
    dsimp only
    by_cases e : x = i
    · rw [e, pk_us, pk_us]
      exact ⟨rfl, rfl⟩
    · rw [pk_un e, pk_un e]
      exact g x (by omega)
theorem rg_analyse {post : St2 → Prop} {sz en ep ct kn mv : Int32} {a1 a2 a3 a4 a5 a6 a7 a8 a9 a10 a11 a12 a13 a14 a15 a16 : Nat → Int32} {n m : Nat} (hk : kn = 0) (hn : n ≤ 10) (hsz : sz = nI 5) (hP : rg_P n a3 a4 a5 a6) (hL : rg_L m a1 a2) (hB : rg_B a10 a11) (hf : a13 2 = 0) (hi : a14 1 = 0)
    (H : ∀ (mv' : Int32) (b9 b10 b11 b12 b13 b14 b15 b16 : Nat → Int32), b13 2 = 0 → (9 ≤ n → b14 1 = 0) → post (sz, en, ep, ct, 1, mv', a1, a2, a3, a4, a5, a6, a7, a8, b9, b10, b11, b12, b13, b14, b15, b16)) :
    wpX_analyse post (sz, en, ep, ct, kn, mv, a1, a2, a3, a4, a5, a6, a7, a8, a9, a10, a11, a12, a13, a14, a15, a16) := by
  refine br_t hk (pk_loop (fun f i (s : (Nat → Int32) × (Nat → Int32)) => wX_analyse_10 post sz en ep ct kn mv f (nI i) a1 a2 a3 a4 a5 a6 a7 a8 s.1 a10 a11 s.2 a13 a14 a15 a16) (fun _ _ => True) 15 0 (a9, a12) (by omega) trivial (fun f s _ => ?_) (fun f i s hi _ hw => ?_))
  · exact pk_le 15 15 (fun _ => rg_38 hn hsz hP hL hB hf hi H) (fun z => absurd z (by omega))
  · exact pk_le 15 i (fun z => absurd z (by omega)) (fun _ => ⟨pk_in i 15 hi, nm_e ⟨pk_in i 15 hi, nm_e (nm_r (nI_1 i) (hw (_, _) trivial))⟩⟩)
end
section
theorem rg_givey {post : Int32 → St2 → Prop} {sz en ep ct kn mv : Int32} {a1 a2 a3 a4 a5 a6 a7 a8 a9 a10 a11 a12 a13 a14 a15 a16 : Nat → Int32} {v : Int32} (i x : Nat) (hi : i < 14) (hx : x < 4) (h1 : (a1 x).toInt ≤ v.toInt) (h2 : v.toInt ≤ (a2 x).toInt) (H : post 1 (sz, en, ep, ct, kn, mv, a1, a2, a3, a4, a5, a6, a7, upd a8 x v, a9, a10, a11, a12, a13, a14, a15, a16)) : wpX_give post (sz, en, ep, ct, kn, mv, a1, a2, a3, a4, a5, a6, a7, a8, a9, a10, a11, a12, a13, a14, a15, a16) (nI i) (nI x) v := by
  unfold wpX_give
  rw [nI_clamp (show x < 2 ^ 31 by omega)]
  have ix := pk_in (x := nI x) x 4 hx
  exact ⟨pk_in i 14 hi, br_c (fun _ => ⟨ix, br_f (by rw [rg_lt]; omega) ⟨ix, br_t (rg_le.mpr h2) ⟨ix, nm_e H⟩⟩⟩) (fun _ => ⟨ix, nm_e H⟩)⟩
theorem rg_given {post : Int32 → St2 → Prop} {sz en ep ct kn mv : Int32} {a1 a2 a3 a4 a5 a6 a7 a8 a9 a10 a11 a12 a13 a14 a15 a16 : Nat → Int32} {v : Int32} (i x : Nat) (hi : i < 14) (hx : x < 4) (hf : a13 i = 0) (h1 : (a1 x).toInt ≤ v.toInt) (h2 : (a2 x).toInt < v.toInt) (H : post 0 (sz, 2, nI i, ct, kn, mv, a1, a2, a3, a4, a5, a6, a7, a8, a9, a10, a11, a12, a13, a14, a15, a16)) : wpX_give post (sz, en, ep, ct, kn, mv, a1, a2, a3, a4, a5, a6, a7, a8, a9, a10, a11, a12, a13, a14, a15, a16) (nI i) (nI x) v := by
  unfold wpX_give
  rw [nI_clamp (show x < 2 ^ 31 by omega), nI_clamp (show i < 2 ^ 31 by omega)]
  have ix := pk_in (x := nI x) x 4 hx
  exact ⟨pk_in i 14 hi, br_t hf ⟨ix, br_f (by rw [rg_lt]; omega) ⟨ix, br_f (by rw [rg_le]; omega) H⟩⟩⟩
theorem rg_reachy {post : Int32 → St2 → Prop} {sz en ep ct kn mv : Int32} {a1 a2 a3 a4 a5 a6 a7 a8 a9 a10 a11 a12 a13 a14 a15 a16 : Nat → Int32} (i j : Nat) (hi : i < 14) (hj : j ≤ 7) (H : post 1 (sz, en, ep, ct, kn, mv, a1, a2, a3, a4, a5, a6, a7, a8, a9, a10, a11, a12, a13, a14, a15, a16)) : wpX_reach post (sz, en, ep, ct, kn, mv, a1, a2, a3, a4, a5, a6, a7, a8, a9, a10, a11, a12, a13, a14, a15, a16) (nI i) (nI j) :=
  ⟨pk_in i 14 hi, br_c (fun _ => br_f (nI_pos (by omega)) (br_t (nI_le (b := 7) hj (by decide)) H)) (fun _ => H)⟩
theorem rg_reachn {post : Int32 → St2 → Prop} {sz en ep ct kn mv : Int32} {a1 a2 a3 a4 a5 a6 a7 a8 a9 a10 a11 a12 a13 a14 a15 a16 : Nat → Int32} (i j : Nat) (hi : i < 14) (hj : 8 ≤ j) (hj' : j ≤ 100) (hf : a14 i = 0) (H : post 0 (sz, 3, nI i, ct, kn, mv, a1, a2, a3, a4, a5, a6, a7, a8, a9, a10, a11, a12, a13, a14, a15, a16)) : wpX_reach post (sz, en, ep, ct, kn, mv, a1, a2, a3, a4, a5, a6, a7, a8, a9, a10, a11, a12, a13, a14, a15, a16) (nI i) (nI j) :=
  ⟨pk_in i 14 hi, br_t (by rw [nI_clamp (by omega)]; exact hf) (br_f (nI_pos (by omega)) (br_f (nI_ge (b := j) (a := 7) (by omega) (by omega)) H))⟩
theorem rg_246 {post : Int32 → St2 → Prop} {sz en ep ct kn mv : Int32} {a1 a2 a3 a4 a5 a6 a7 a8 a9 a10 a11 a12 a13 a14 a15 a16 : Nat → Int32} (i : Nat) (H : post (nI (i + 1)) (sz, en, ep, ct, kn, mv, a1, a2, a3, a4, a5, a6, a7, a8, a9, a10, a11, a12, a13, a14, a15, a16)) : wX_work_246 post (nI i) 1 sz en ep ct kn mv a1 a2 a3 a4 a5 a6 a7 a8 a9 a10 a11 a12 a13 a14 a15 a16 := by
  unfold wX_work_246
  rw [nI_1]
  exact br_f rg_10 H
theorem rg_246n {post : Int32 → St2 → Prop} {sz en ep ct kn mv : Int32} {a1 a2 a3 a4 a5 a6 a7 a8 a9 a10 a11 a12 a13 a14 a15 a16 : Nat → Int32} {x : Int32} (H : post (-1) (sz, en, ep, ct, kn, mv, a1, a2, a3, a4, a5, a6, a7, a8, a9, a10, a11, a12, a13, a14, a15, a16)) : wX_work_246 post x 0 sz en ep ct kn mv a1 a2 a3 a4 a5 a6 a7 a8 a9 a10 a11 a12 a13 a14 a15 a16 := by
  unfold wX_work_246
  exact br_t rfl H
/-- the four variables -/
def rg_V (a8 : Nat → Int32) (p q r s : Nat) : Prop := a8 0 = nI p ∧ a8 1 = nI q ∧ a8 2 = nI r ∧ a8 3 = nI s
theorem rg_w0 {post : Int32 → St2 → Prop} {sz en ep ct kn mv : Int32} {a1 a2 a3 a4 a5 a6 a7 a8 a9 a10 a11 a12 a13 a14 a15 a16 : Nat → Int32} {n m : Nat} (hn : n ≤ 10) (hP : rg_P n a3 a4 a5 a6) (hL : rg_L m a1 a2) (H : post (nI 1) (sz, en, ep, ct, kn, mv, a1, a2, a3, a4, a5, a6, a7, upd a8 3 (nI n), a9, a10, a11, a12, a13, a14, a15, a16)) : wpX_work post (sz, en, ep, ct, kn, mv, a1, a2, a3, a4, a5, a6, a7, a8, a9, a10, a11, a12, a13, a14, a15, a16) (nI 0) := by
  unfold wpX_work
  obtain ⟨p1, p2, p3⟩ := hP.1
  have i4 := pk_in (x := nI 0) 0 14 (by omega)
  have en : (nI n).toInt = n := nI_toInt (by omega)
  have k1 := hL.1 3 (by omega)
  have k2 := hL.2.2.2.2.2.1
  exact ⟨i4, nm_r (rg_at 0 (by omega) p1) ⟨i4, nm_r (rg_at 0 (by omega) p2) ⟨i4, nm_e ⟨i4, nm_r (rg_at 0 (by omega) p3) (br_f (by decide) (br_t (by decide) (br_t rfl (rg_givey 0 3 (by omega) (by omega) (by omega) (by omega) (rg_246 0 H)))))⟩⟩⟩⟩
theorem rg_and7 {j : Nat} (hj : j ≤ 7) : nI j &&& 7 = nI j := by
  rw [pk_andN (by omega) 3 (by decide)]
  rw [show j % 2 ^ 3 = j by omega]
theorem rg_w1y {post : Int32 → St2 → Prop} {sz en ep ct kn mv : Int32} {a1 a2 a3 a4 a5 a6 a7 a8 a9 a10 a11 a12 a13 a14 a15 a16 : Nat → Int32} {n m j c : Nat} (hP : rg_P n a3 a4 a5 a6) (hL : rg_L m a1 a2) (hj : j ≤ 7) (h0 : a8 0 = nI j) (hc : a7 j = nI c) (hc8 : c < 8) (H : post (nI 2) (sz, en, ep, ct, kn, mv, a1, a2, a3, a4, a5, a6, a7, upd a8 2 (nI c), a9, a10, a11, a12, a13, a14, a15, a16)) : wpX_work post (sz, en, ep, ct, kn, mv, a1, a2, a3, a4, a5, a6, a7, a8, a9, a10, a11, a12, a13, a14, a15, a16) (nI 1) := by
  unfold wpX_work
  obtain ⟨p1, p2, p3, p4⟩ := hP.2.1
  have i4 := pk_in (x := nI 1) 1 14 (by omega)
  have i0 := pk_in (x := nI 0) 0 4 (by omega)
  have en : (nI c).toInt = c := nI_toInt (by omega)
  have k1 := hL.1 2 (by omega)
  have k2 := hL.2.2.2.2.1
  have e7 : a8 (nI 0).toNatClampNeg + 0 = nI j := by
    rw [nI_clamp (by omega), h0, Int32.add_zero]
  have ec : a7 (nI j &&& 7).toNatClampNeg = nI c := by
    rw [rg_and7 hj, nI_clamp (by omega), hc]
  refine ⟨i4, nm_r (rg_at 1 (by omega) p1) ⟨i4, nm_r (rg_at 1 (by omega) p2) ⟨i4, nm_r (rg_at 1 (by omega) p3) ⟨i4, nm_r (rg_at 1 (by omega) p4) (br_f (by decide) (br_t (by decide) (br_f (by decide) (br_f (by decide) (br_f (by decide) (br_f (by decide) ⟨i0, nm_r e7 (rg_reachy 1 j (by omega) hj (br_f rg_10 (br_t rfl ⟨pk_in j 8 (by omega) (rg_and7 hj), ?_⟩)))⟩))))))⟩⟩⟩⟩
  rw [ec]
  exact rg_givey 1 2 (by omega) (by omega) (by omega) (by omega) (rg_246 1 H)
theorem rg_w1n {post : Int32 → St2 → Prop} {sz en ep ct kn mv : Int32} {a1 a2 a3 a4 a5 a6 a7 a8 a9 a10 a11 a12 a13 a14 a15 a16 : Nat → Int32} {n : Nat} (hP : rg_P n a3 a4 a5 a6) (hi : a14 1 = 0) (h0 : a8 0 = nI 8) (H : post (-1) (sz, 3, nI 1, ct, kn, mv, a1, a2, a3, a4, a5, a6, a7, a8, a9, a10, a11, a12, a13, a14, a15, a16)) : wpX_work post (sz, en, ep, ct, kn, mv, a1, a2, a3, a4, a5, a6, a7, a8, a9, a10, a11, a12, a13, a14, a15, a16) (nI 1) := by
  unfold wpX_work
  obtain ⟨p1, p2, p3, p4⟩ := hP.2.1
  have i4 := pk_in (x := nI 1) 1 14 (by omega)
  have i0 := pk_in (x := nI 0) 0 4 (by omega)
  have e7 : a8 (nI 0).toNatClampNeg + 0 = nI 8 := by
    rw [nI_clamp (by omega), h0, Int32.add_zero]
  exact ⟨i4, nm_r (rg_at 1 (by omega) p1) ⟨i4, nm_r (rg_at 1 (by omega) p2) ⟨i4, nm_r (rg_at 1 (by omega) p3) ⟨i4, nm_r (rg_at 1 (by omega) p4) (br_f (by decide) (br_t (by decide) (br_f (by decide) (br_f (by decide) (br_f (by decide) (br_f (by decide) ⟨i0, nm_r e7 (rg_reachn 1 8 (by omega) (by omega) (by omega) hi (br_t rfl (br_t rfl (rg_246n H))))⟩))))))⟩⟩⟩⟩
theorem rg_w2y {post : Int32 → St2 → Prop} {sz en ep ct kn mv : Int32} {a1 a2 a3 a4 a5 a6 a7 a8 a9 a10 a11 a12 a13 a14 a15 a16 : Nat → Int32} {n m s c : Nat} (hP : rg_P n a3 a4 a5 a6) (hL : rg_L m a1 a2) (h1 : a8 1 = nI s) (h2 : a8 2 = nI c) (hs : s + c ≤ m) (H : post (nI 3) (sz, en, ep, ct, kn, mv, a1, a2, a3, a4, a5, a6, a7, upd a8 1 (nI (s + c)), a9, a10, a11, a12, a13, a14, a15, a16)) : wpX_work post (sz, en, ep, ct, kn, mv, a1, a2, a3, a4, a5, a6, a7, a8, a9, a10, a11, a12, a13, a14, a15, a16) (nI 2) := by
  unfold wpX_work
  obtain ⟨p1, p2, p3, p4⟩ := hP.2.2.1
  have i4 := pk_in (x := nI 2) 2 14 (by omega)
  have k1 := hL.1 1 (by omega)
  have k2 := hL.2.2.2.1
  have k3 := hL.2.2.2.2.2.2
  have en : (nI (s + c)).toInt = (s + c : Nat) := nI_toInt (by omega)
  have es : a8 (nI 1).toNatClampNeg + a8 (nI 2).toNatClampNeg = nI (s + c) := by
    rw [nI_clamp (by omega), nI_clamp (by omega), h1, h2, nI_add]
  refine ⟨i4, nm_r (rg_at 2 (by omega) p1) ⟨i4, nm_r (rg_at 2 (by omega) p2) ⟨i4, nm_r (rg_at 2 (by omega) p3) ⟨i4, nm_r (rg_at 2 (by omega) p4) (br_f (by decide) (br_t (by decide) (br_f (by decide) (br_f (by decide) (br_t rfl ⟨pk_in 1 4 (by omega), pk_in 2 4 (by omega), ?_⟩)))))⟩⟩⟩⟩
  rw [es]
  exact rg_givey 2 1 (by omega) (by omega) (by omega) (by omega) (rg_246 2 H)
theorem rg_w2n {post : Int32 → St2 → Prop} {sz en ep ct kn mv : Int32} {a1 a2 a3 a4 a5 a6 a7 a8 a9 a10 a11 a12 a13 a14 a15 a16 : Nat → Int32} {n m s c : Nat} (hP : rg_P n a3 a4 a5 a6) (hL : rg_L m a1 a2) (hf : a13 2 = 0) (h1 : a8 1 = nI s) (h2 : a8 2 = nI c) (hs : m < s + c) (hs' : s + c ≤ 100) (H : post (-1) (sz, 2, nI 2, ct, kn, mv, a1, a2, a3, a4, a5, a6, a7, a8, a9, a10, a11, a12, a13, a14, a15, a16)) : wpX_work post (sz, en, ep, ct, kn, mv, a1, a2, a3, a4, a5, a6, a7, a8, a9, a10, a11, a12, a13, a14, a15, a16) (nI 2) := by
  unfold wpX_work
  obtain ⟨p1, p2, p3, p4⟩ := hP.2.2.1
  have i4 := pk_in (x := nI 2) 2 14 (by omega)
  have k1 := hL.1 1 (by omega)
  have k2 := hL.2.2.2.1
  have k3 := hL.2.2.2.2.2.2
  have en : (nI (s + c)).toInt = (s + c : Nat) := nI_toInt (by omega)
  have es : a8 (nI 1).toNatClampNeg + a8 (nI 2).toNatClampNeg = nI (s + c) := by
    rw [nI_clamp (by omega), nI_clamp (by omega), h1, h2, nI_add]
  refine ⟨i4, nm_r (rg_at 2 (by omega) p1) ⟨i4, nm_r (rg_at 2 (by omega) p2) ⟨i4, nm_r (rg_at 2 (by omega) p3) ⟨i4, nm_r (rg_at 2 (by omega) p4) (br_f (by decide) (br_t (by decide) (br_f (by decide) (br_f (by decide) (br_t rfl ⟨pk_in 1 4 (by omega), pk_in 2 4 (by omega), ?_⟩)))))⟩⟩⟩⟩
  rw [es]
  exact rg_given 2 1 (by omega) (by omega) hf (by omega) (by omega) (rg_246n H)
theorem rg_w3 {post : Int32 → St2 → Prop} {sz en ep ct kn mv : Int32} {a1 a2 a3 a4 a5 a6 a7 a8 a9 a10 a11 a12 a13 a14 a15 a16 : Nat → Int32} {n m j : Nat} (hP : rg_P n a3 a4 a5 a6) (hL : rg_L m a1 a2) (hj : j ≤ 8) (h0 : a8 0 = nI j) (H : post (nI 4) (sz, en, ep, ct, kn, mv, a1, a2, a3, a4, a5, a6, a7, upd a8 0 (nI (j + 1)), a9, a10, a11, a12, a13, a14, a15, a16)) : wpX_work post (sz, en, ep, ct, kn, mv, a1, a2, a3, a4, a5, a6, a7, a8, a9, a10, a11, a12, a13, a14, a15, a16) (nI 3) := by
  unfold wpX_work
  obtain ⟨p1, p2, p3, p4⟩ := hP.2.2.2.1
  have i4 := pk_in (x := nI 3) 3 14 (by omega)
  have k1 := hL.1 0 (by omega)
  have k2 := hL.2.2.1
  have en : (nI (j + 1)).toInt = (j + 1 : Nat) := nI_toInt (by omega)
  have es : a8 (nI 0).toNatClampNeg + 1 = nI (j + 1) := by
    rw [nI_clamp (by omega), h0, nI_1]
  refine ⟨i4, nm_r (rg_at 3 (by omega) p1) ⟨i4, nm_r (rg_at 3 (by omega) p2) ⟨i4, nm_r (rg_at 3 (by omega) p3) ⟨i4, nm_r (rg_at 3 (by omega) p4) (br_f (by decide) (br_t (by decide) (br_f (by decide) (br_t rfl ⟨pk_in 0 4 (by omega), ?_⟩))))⟩⟩⟩⟩
  rw [es]
  exact rg_givey 3 0 (by omega) (by omega) (by omega) (by omega) (rg_246 3 H)
theorem rg_w4 {post : Int32 → St2 → Prop} {sz en ep ct kn mv : Int32} {a1 a2 a3 a4 a5 a6 a7 a8 a9 a10 a11 a12 a13 a14 a15 a16 : Nat → Int32} {n j : Nat} (hn : n ≤ 10) (hP : rg_P n a3 a4 a5 a6) (hj : j ≤ 10) (h0 : a8 0 = nI j) (h3 : a8 3 = nI n) (H1 : j < n → post (nI 1) (sz, en, ep, ct, kn, mv, a1, a2, a3, a4, a5, a6, a7, a8, a9, a10, a11, a12, a13, a14, a15, a16)) (H2 : n ≤ j → post (nI 5) (sz, en, ep, ct, kn, mv, a1, a2, a3, a4, a5, a6, a7, a8, a9, a10, a11, a12, a13, a14, a15, a16)) : wpX_work post (sz, en, ep, ct, kn, mv, a1, a2, a3, a4, a5, a6, a7, a8, a9, a10, a11, a12, a13, a14, a15, a16) (nI 4) := by
  unfold wpX_work
  obtain ⟨p1, p2, p3, p4⟩ := hP.2.2.2.2
  have i4 := pk_in (x := nI 4) 4 14 (by omega)
  exact ⟨i4, nm_r (rg_at 4 (by omega) p1) ⟨i4, nm_r (rg_at 4 (by omega) p2) ⟨i4, nm_r (rg_at 4 (by omega) p3) ⟨i4, nm_r (rg_at 4 (by omega) p4) (br_t rfl ⟨pk_in 0 4 (by omega), pk_in 3 4 (by omega), pk_le n j (fun z => H2 z) (fun z => H1 z) (rg_at 3 (by omega) h3) (rg_at 0 (by omega) h0)⟩)⟩⟩⟩⟩
end
section
theorem rg_77n {post : Int32 → St2 → Prop} {sz en ep ct kn mv : Int32} {a1 a2 a3 a4 a5 a6 a7 a8 a9 a10 a11 a12 a13 a14 a15 a16 : Nat → Int32} (hsz : sz = nI 5) (H : post en (sz, en, ep, ct, kn, mv, a1, a2, a3, a4, a5, a6, a7, a8, a9, a10, a11, a12, a13, a14, a15, a16)) : wX_run_77 post (-1) sz en ep ct kn mv a1 a2 a3 a4 a5 a6 a7 a8 a9 a10 a11 a12 a13 a14 a15 a16 := by
  subst hsz
  exact br_t (by decide) (br_t (by decide) H)
theorem rg_77d {post : Int32 → St2 → Prop} {sz en ep ct kn mv : Int32} {a1 a2 a3 a4 a5 a6 a7 a8 a9 a10 a11 a12 a13 a14 a15 a16 : Nat → Int32} (hsz : sz = nI 5) (H : post 1 (sz, 1, -1, ct, kn, mv, a1, a2, a3, a4, a5, a6, a7, a8, a9, a10, a11, a12, a13, a14, a15, a16)) : wX_run_77 post (nI 5) sz en ep ct kn mv a1 a2 a3 a4 a5 a6 a7 a8 a9 a10 a11 a12 a13 a14 a15 a16 := by
  subst hsz
  exact br_f (by decide) H
theorem rg_rn {post : Int32 → St2 → Prop} {sz en ep ct kn mv : Int32} {a1 a2 a3 a4 a5 a6 a7 a8 a9 a10 a11 a12 a13 a14 a15 a16 : Nat → Int32} {f : Nat} {k : Int32} (hsz : sz = nI 5) (H : post en (sz, en, ep, ct, kn, mv, a1, a2, a3, a4, a5, a6, a7, a8, a9, a10, a11, a12, a13, a14, a15, a16)) : wX_run_37 post (f + 1) (-1) k sz en ep ct kn mv a1 a2 a3 a4 a5 a6 a7 a8 a9 a10 a11 a12 a13 a14 a15 a16 :=
  br_c (fun _ => rg_77n hsz H) (fun _ => br_t (by decide) (rg_77n hsz H))
theorem rg_rd {post : Int32 → St2 → Prop} {sz en ep ct kn mv : Int32} {a1 a2 a3 a4 a5 a6 a7 a8 a9 a10 a11 a12 a13 a14 a15 a16 : Nat → Int32} {f : Nat} {k : Int32} (hsz : sz = nI 5) (H : post 1 (sz, 1, -1, ct, kn, mv, a1, a2, a3, a4, a5, a6, a7, a8, a9, a10, a11, a12, a13, a14, a15, a16)) : wX_run_37 post (f + 1) (nI 5) k sz en ep ct kn mv a1 a2 a3 a4 a5 a6 a7 a8 a9 a10 a11 a12 a13 a14 a15 a16 :=
  br_c (fun _ => rg_77d hsz H) (fun _ => br_f (nI_pos (by omega)) (pk_le 5 5 (fun _ => rg_77d hsz H) (fun z => absurd z (by omega)) hsz))
theorem rg_body {post : Int32 → St2 → Prop} {sz en ep kn mv : Int32} {a1 a2 a3 a4 a5 a6 a7 a8 a9 a10 a11 a12 a13 a14 a15 a16 : Nat → Int32} {n m c f j s l k : Nat} (hn : n ≤ 10) (hsz : sz = nI 5) (hP : rg_P n a3 a4 a5 a6) (hL : rg_L m a1 a2) (hf : a13 2 = 0) (hc : a7 j = nI c) (hc8 : c < 8) (hv : rg_V a8 j s l n) (hj : j ≤ 7) (hs : s ≤ m) (hk : k + 4 ≤ 120)
    (Hr : m < s + c → ∀ b8, rg_V b8 j s c n → post 2 (sz, 2, nI 2, nI (k + 2), kn, mv, a1, a2, a3, a4, a5, a6, a7, b8, a9, a10, a11, a12, a13, a14, a15, a16))
    (Hc : s + c ≤ m → ∀ b8, rg_V b8 (j + 1) (s + c) c n → j + 1 < n → wX_run_37 post (f + 1) (nI 1) (nI (k + 4)) sz en ep (nI (k + 4)) kn mv a1 a2 a3 a4 a5 a6 a7 b8 a9 a10 a11 a12 a13 a14 a15 a16)
    (Hd : s + c ≤ m → ∀ b8, rg_V b8 (j + 1) (s + c) c n → n ≤ j + 1 → post 1 (sz, 1, -1, nI (k + 4), kn, mv, a1, a2, a3, a4, a5, a6, a7, b8, a9, a10, a11, a12, a13, a14, a15, a16)) :
    wX_run_37 post (f + 5) (nI 1) (nI k) sz en ep (nI k) kn mv a1 a2 a3 a4 a5 a6 a7 a8 a9 a10 a11 a12 a13 a14 a15 a16 := by
  obtain ⟨v0, v1, v2, v3⟩ := hv
  have m63 := hL.2.2.2.2.2.2
  refine pk_le 120 k (fun z => absurd z (by omega)) (fun _ => br_f (nI_pos (by omega)) (pk_le 5 1 (fun z => absurd z (by omega)) (fun _ => nm_r (nI_1 k) (rg_w1y hP hL hj v0 hc hc8 (nm_r (nI_1 k) ?_))) hsz))
  refine pk_le 120 (k + 1) (fun z => absurd z (by omega)) (fun _ => br_f (nI_pos (by omega)) (pk_le 5 2 (fun z => absurd z (by omega)) (fun _ => nm_r (nI_1 (k + 1)) ?_) hsz))
  have u0 : upd a8 2 (nI c) 0 = nI j := (pk_un (by decide)).trans v0
  have u1 : upd a8 2 (nI c) 1 = nI s := (pk_un (by decide)).trans v1
  have u3 : upd a8 2 (nI c) 3 = nI n := (pk_un (by decide)).trans v3
  by_cases hm : s + c ≤ m
  · refine rg_w2y hP hL u1 pk_us hm (nm_r (nI_1 (k + 1)) ?_)
    refine pk_le 120 (k + 2) (fun z => absurd z (by omega)) (fun _ => br_f (nI_pos (by omega)) (pk_le 5 3 (fun z => absurd z (by omega)) (fun _ => nm_r (nI_1 (k + 2)) (rg_w3 hP hL (by omega) ((pk_un (by decide)).trans u0) (nm_r (nI_1 (k + 2)) ?_))) hsz))
    have V : rg_V (upd (upd (upd a8 2 (nI c)) 1 (nI (s + c))) 0 (nI (j + 1))) (j + 1) (s + c) c n := ⟨pk_us, (pk_un (by decide)).trans pk_us, (pk_un (by decide)).trans ((pk_un (by decide)).trans pk_us), (pk_un (by decide)).trans ((pk_un (by decide)).trans u3)⟩
    refine pk_le 120 (k + 3) (fun z => absurd z (by omega)) (fun _ => br_f (nI_pos (by omega)) (pk_le 5 4 (fun z => absurd z (by omega)) (fun _ => nm_r (nI_1 (k + 3)) (rg_w4 hn hP (by omega) V.1 V.2.2.2 (fun z => nm_r (nI_1 (k + 3)) (Hc hm _ V z)) (fun z => nm_r (nI_1 (k + 3)) (rg_rd hsz (Hd hm _ V z))))) hsz))
  · exact rg_w2n hP hL hf u1 pk_us (by omega) (by omega) (nm_r (nI_1 (k + 1)) (rg_rn hsz (Hr (by omega) _ ⟨u0, u1, pk_us, u3⟩)))
theorem rg_out {post : Int32 → St2 → Prop} {sz en ep kn mv : Int32} {a1 a2 a3 a4 a5 a6 a7 a8 a9 a10 a11 a12 a13 a14 a15 a16 : Nat → Int32} {n f k : Nat} (hsz : sz = nI 5) (hP : rg_P n a3 a4 a5 a6) (hi : a14 1 = 0) (h0 : a8 0 = nI 8) (hk : k + 4 ≤ 120) (H : post 3 (sz, 3, nI 1, nI (k + 1), kn, mv, a1, a2, a3, a4, a5, a6, a7, a8, a9, a10, a11, a12, a13, a14, a15, a16)) :
    wX_run_37 post (f + 2) (nI 1) (nI k) sz en ep (nI k) kn mv a1 a2 a3 a4 a5 a6 a7 a8 a9 a10 a11 a12 a13 a14 a15 a16 :=
  pk_le 120 k (fun z => absurd z (by omega)) (fun _ => br_f (nI_pos (by omega)) (pk_le 5 1 (fun z => absurd z (by omega)) (fun _ => nm_r (nI_1 k) (rg_w1n hP hi h0 (nm_r (nI_1 k) (rg_rn hsz H)))) hsz))
/-- sums, and the number read last -/
def rg_s (c : Nat → Nat) : Nat → Nat
  | 0 => 0
  | k + 1 => rg_s c k + c k
def rg_l (c : Nat → Nat) : Nat → Nat
  | 0 => 0
  | k + 1 => c k
theorem rg_loop {post : Int32 → St2 → Prop} {sz en ep kn mv : Int32} {a1 a2 a3 a4 a5 a6 a7 a9 a10 a11 a12 a13 a14 a15 a16 : Nat → Int32} {n m R : Nat} {c : Nat → Nat} (hn : n ≤ 10) (hsz : sz = nI 5) (hP : rg_P n a3 a4 a5 a6) (hL : rg_L m a1 a2) (hf : a13 2 = 0) (hi : 9 ≤ n → a14 1 = 0) (hR : (n = 0 ∧ R = 1) ∨ (0 < n ∧ R = n)) (hc : ∀ j, j < 8 → a7 j = nI (c j)) (hc8 : ∀ j, c j < 8)
    (H1 : ∀ K b8, K < R → K < 8 → (∀ i, i ≤ K → rg_s c i ≤ m) → m < rg_s c (K + 1) → rg_V b8 K (rg_s c K) (c K) n → post 2 (sz, 2, nI 2, nI (1 + 4 * K + 2), kn, mv, a1, a2, a3, a4, a5, a6, a7, b8, a9, a10, a11, a12, a13, a14, a15, a16))
    (H2 : ∀ b8, R ≤ 8 → (∀ i, i ≤ R → rg_s c i ≤ m) → rg_V b8 R (rg_s c R) (rg_l c R) n → post 1 (sz, 1, -1, nI (1 + 4 * R), kn, mv, a1, a2, a3, a4, a5, a6, a7, b8, a9, a10, a11, a12, a13, a14, a15, a16))
    (H3 : ∀ b8, 8 < R → (∀ i, i ≤ 8 → rg_s c i ≤ m) → rg_V b8 8 (rg_s c 8) (rg_l c 8) n → post 3 (sz, 3, nI 1, nI (1 + 4 * 8 + 1), kn, mv, a1, a2, a3, a4, a5, a6, a7, b8, a9, a10, a11, a12, a13, a14, a15, a16)) :
    ∀ (d j : Nat) (a8 : Nat → Int32), j + d = 8 → j < R → (∀ i, i ≤ j → rg_s c i ≤ m) → rg_V a8 j (rg_s c j) (rg_l c j) n → wX_run_37 post (4 * d + 9 + 1) (nI 1) (nI (1 + 4 * j)) sz en ep (nI (1 + 4 * j)) kn mv a1 a2 a3 a4 a5 a6 a7 a8 a9 a10 a11 a12 a13 a14 a15 a16 := by
  intro d
  induction d with
  | zero =>
    intro j a8 hj hjR hs hv
    have e : j = 8 := by omega
    subst e
    exact rg_out hsz hP (hi (by omega)) hv.1 (by omega) (H3 a8 hjR hs hv)
  | succ d ih =>
    intro j a8 hj hjR hs hv
    have e : 4 * (d + 1) + 9 + 1 = (4 * d + 9) + 5 := by omega
    rw [e]
    refine rg_body hn hsz hP hL hf (hc j (by omega)) (hc8 j) hv (by omega) (hs j (by omega)) (by omega) (fun z b8 hb => ?_) (fun z b8 hb hlt => ?_) (fun z b8 hb hle => ?_)
    · exact H1 j b8 hjR (by omega) hs z hb
    · exact ih (j + 1) b8 (by omega) (by omega) (fun i hi => by
        by_cases e : i ≤ j
        · exact hs i e
        · have e' : i = j + 1 := by omega
          subst e'
          exact z) hb
    · have eR : R = j + 1 := by omega
      subst eR
      exact H2 b8 (by omega) (fun i hi => by
        by_cases e : i ≤ j
        · exact hs i e
        · have e' : i = j + 1 := by omega
          subst e'
          exact z) hb
theorem rg_run {post : Int32 → St2 → Prop} {sz en ep ct kn mv : Int32} {a1 a2 a3 a4 a5 a6 a7 a8 a9 a10 a11 a12 a13 a14 a15 a16 : Nat → Int32} {n m R : Nat} {c : Nat → Nat} (hk : kn = 0) (hn : n ≤ 10) (hsz : sz = nI 5) (hP : rg_P n a3 a4 a5 a6) (hL : rg_L m a1 a2) (hB : rg_B a10 a11) (hf : a13 2 = 0) (hi : a14 1 = 0) (hR : (n = 0 ∧ R = 1) ∨ (0 < n ∧ R = n)) (hc : ∀ j, j < 8 → a7 j = nI (c j)) (hc8 : ∀ j, c j < 8)
    (H1 : ∀ K kn' mv' b8 b9 b10 b11 b12 b13 b14 b15 b16, K < R → K < 8 → (∀ i, i ≤ K → rg_s c i ≤ m) → m < rg_s c (K + 1) → rg_V b8 K (rg_s c K) (c K) n → post 2 (sz, 2, nI 2, nI (1 + 4 * K + 2), kn', mv', a1, a2, a3, a4, a5, a6, a7, b8, b9, b10, b11, b12, b13, b14, b15, b16))
    (H2 : ∀ kn' mv' b8 b9 b10 b11 b12 b13 b14 b15 b16, R ≤ 8 → (∀ i, i ≤ R → rg_s c i ≤ m) → rg_V b8 R (rg_s c R) (rg_l c R) n → post 1 (sz, 1, -1, nI (1 + 4 * R), kn', mv', a1, a2, a3, a4, a5, a6, a7, b8, b9, b10, b11, b12, b13, b14, b15, b16))
    (H3 : ∀ kn' mv' b8 b9 b10 b11 b12 b13 b14 b15 b16, 8 < R → (∀ i, i ≤ 8 → rg_s c i ≤ m) → rg_V b8 8 (rg_s c 8) (rg_l c 8) n → post 3 (sz, 3, nI 1, nI (1 + 4 * 8 + 1), kn', mv', a1, a2, a3, a4, a5, a6, a7, b8, b9, b10, b11, b12, b13, b14, b15, b16)) :
    wpX_run post (sz, en, ep, ct, kn, mv, a1, a2, a3, a4, a5, a6, a7, a8, a9, a10, a11, a12, a13, a14, a15, a16) := by
  unfold wpX_run
  refine rg_analyse hk hn hsz hP hL hB hf hi (fun mv' b9 b10 b11 b12 b13 b14 b15 b16 f2 i9 => ?_)
  refine pk_loop (fun f i (s : Nat → Int32) => wX_run_6 post sz en ep ct 1 mv' f (nI i) a1 a2 a3 a4 a5 a6 a7 s b9 b10 b11 b12 b13 b14 b15 b16) (fun i s => ∀ x, x < i → s x = 0) 4 0 a8 (by omega) (fun x hx => absurd hx (by omega)) (fun f s g => ?_) (fun f i s hi g hw => ?_)
  · refine pk_le 4 4 (fun _ => ⟨43, pk_le 120 0 (fun z => absurd z (by omega)) (fun _ => br_f (by decide) (pk_le 5 0 (fun z => absurd z (by omega)) (fun _ => nm_r (show (0 : Int32) + 1 = nI (1 + 4 * 0) by decide) (rg_w0 hn hP hL (nm_r (show (0 : Int32) + 1 = nI (1 + 4 * 0) by decide) (rg_loop hn hsz hP hL f2 i9 hR hc hc8 (fun K b8 => H1 K 1 mv' b8 b9 b10 b11 b12 b13 b14 b15 b16) (fun b8 => H2 1 mv' b8 b9 b10 b11 b12 b13 b14 b15 b16) (fun b8 => H3 1 mv' b8 b9 b10 b11 b12 b13 b14 b15 b16) 8 0 _ (by omega) (by omega) (fun i hi => ?_) ?_)))) hsz))⟩) (fun z => absurd z (by omega))
    · have e : i = 0 := by omega
      subst e
      exact Nat.zero_le m
    · exact ⟨(pk_un (by decide)).trans (g 0 (by omega)), (pk_un (by decide)).trans (g 1 (by omega)), (pk_un (by decide)).trans (g 2 (by omega)), pk_us⟩
  · refine pk_le 4 i (fun z => absurd z (by omega)) (fun _ => rg_near i hi hL ⟨pk_in i 4 hi, nm_r (show upd s (nI i).toNatClampNeg 0 = upd s i 0 by rw [nI_clamp (by omega)]) (nm_r (nI_1 i) (hw (upd s i 0) (fun x hx => ?_)))⟩)
    by_cases e : x = i
    · rw [e, pk_us]
    · rw [pk_un e]
      exact g x (by omega)
end
section
theorem rg_bad {post : Int32 → Prop} {sz en ep ct kn mv : Int32} {a1 a2 a3 a4 a5 a6 a7 a8 a9 a10 a11 a12 a13 a14 a15 a16 : Nat → Int32} {p0 : Int32} (x : Nat) (hx : x ≤ 3) (H : post 0) (hp : p0 = nI x := by rfl) : wpX_bad post (sz, en, ep, ct, kn, mv, a1, a2, a3, a4, a5, a6, a7, a8, a9, a10, a11, a12, a13, a14, a15, a16) p0 := by
  subst hp
  exact br_f (nI_pos (by omega)) (br_t (nI_le (b := 3) hx (by decide)) H)
theorem rg_bnum {post : Int32 → Prop} {sz en ep ct kn mv : Int32} {a1 a2 a3 a4 a5 a6 a7 a8 a9 a10 a11 a12 a13 a14 a15 a16 : Nat → Int32} {p0 : Int32} (h1 : -100 ≤ p0.toInt) (h2 : p0.toInt ≤ 100) (H : post 0) : wpX_badNumber post (sz, en, ep, ct, kn, mv, a1, a2, a3, a4, a5, a6, a7, a8, a9, a10, a11, a12, a13, a14, a15, a16) p0 := by
  have e1 := rg_100
  have e2 := rg_m100
  exact br_f (by rw [rg_lt]; omega) (br_t (by rw [rg_le]; omega) H)
theorem rg_app {post : Int32 → St2 → Prop} {sz en ep ct kn mv : Int32} {a1 a2 a3 a4 a5 a6 a7 a8 a9 a10 a11 a12 a13 a14 a15 a16 : Nat → Int32} {p0 p1 p2 p3 : Int32} (k : Nat) (hk : k < 14) (hsz : sz = nI k) (H : post (nI k) (nI (k + 1), en, ep, ct, 0, mv, a1, a2, upd a3 k p0, upd a4 k p1, upd a5 k p2, upd a6 k p3, a7, a8, a9, a10, a11, a12, a13, a14, a15, a16)) : wpX_append post (sz, en, ep, ct, kn, mv, a1, a2, a3, a4, a5, a6, a7, a8, a9, a10, a11, a12, a13, a14, a15, a16) p0 p1 p2 p3 := by
  subst hsz
  unfold wpX_append
  dsimp only
  rw [nI_clamp (show k < 2 ^ 31 by omega)]
  have ik := pk_in (x := nI k) k 14 hk
  exact pk_eq k 14 (fun z => absurd z (by omega)) (fun _ => ⟨ik, nm_e ⟨ik, nm_e ⟨ik, nm_e ⟨ik, nm_e (nm_r (nI_1 k) (show post (nI (k + 1) - 1) _ by rw [nI_pred]; exact H))⟩⟩⟩⟩)
theorem rg_setc {post : Int32 → St2 → Prop} {sz en ep ct kn mv : Int32} {a1 a2 a3 a4 a5 a6 a7 a8 a9 a10 a11 a12 a13 a14 a15 a16 : Nat → Int32} {v : Int32} (i : Nat) (hi : i < 8) (h1 : -100 ≤ v.toInt) (h2 : v.toInt ≤ 100) (H : post (a7 i) (sz, en, ep, ct, kn, mv, a1, a2, a3, a4, a5, a6, upd a7 i v, a8, a9, a10, a11, a12, a13, a14, a15, a16)) : wpX_setCell post (sz, en, ep, ct, kn, mv, a1, a2, a3, a4, a5, a6, a7, a8, a9, a10, a11, a12, a13, a14, a15, a16) (nI i) v := by
  unfold wpX_setCell
  rw [nI_clamp (show i < 2 ^ 31 by omega)]
  exact br_f (nI_pos (by omega)) (br_f (nI_nlt (a := 7) (b := i) (by omega) (by omega)) (rg_bnum h1 h2 (br_t rfl ⟨pk_in i 8 hi, nm_e ⟨pk_in i 8 hi, nm_e H⟩⟩)))
theorem rg_range {post : Int32 → St2 → Prop} {sz en ep ct kn mv : Int32} {a1 a2 a3 a4 a5 a6 a7 a8 a9 a10 a11 a12 a13 a14 a15 a16 : Nat → Int32} (m : Nat) (hm : m ≤ 63) (H : post 0 (sz, en, ep, ct, 0, mv, upd a1 1 (-100), upd a2 1 (nI m), a3, a4, a5, a6, a7, a8, a9, a10, a11, a12, a13, a14, a15, a16)) : wpX_range post (sz, en, ep, ct, kn, mv, a1, a2, a3, a4, a5, a6, a7, a8, a9, a10, a11, a12, a13, a14, a15, a16) 1 (-100) (nI m) := by
  have em : (nI m).toInt = m := nI_toInt (by omega)
  have e2 := rg_m100
  unfold wpX_range
  exact rg_bad 1 (by omega) (br_t rfl (rg_bnum (by omega) (by omega) (br_t rfl (rg_bnum (by omega) (by omega) (br_t rfl (br_t (by rw [rg_le]; omega) ⟨pk_in 1 4 (by omega), nm_r (show upd a1 (1 : Int32).toNatClampNeg (-100) = upd a1 1 (-100) from rfl) ⟨pk_in 1 4 (by omega), nm_r (show upd a2 (1 : Int32).toNatClampNeg (nI m) = upd a2 1 (nI m) from rfl) H⟩⟩))))))
theorem rg_const {post : Int32 → St2 → Prop} {sz en ep ct kn mv : Int32} {a1 a2 a3 a4 a5 a6 a7 a8 a9 a10 a11 a12 a13 a14 a15 a16 : Nat → Int32} (n : Nat) (hn : n ≤ 10) (k : Nat) (hk : k < 14) (hsz : sz = nI k) (H : post (nI k) (nI (k + 1), en, ep, ct, 0, mv, a1, a2, upd a3 k 0, upd a4 k 3, upd a5 k 0, upd a6 k (nI n), a7, a8, a9, a10, a11, a12, a13, a14, a15, a16)) : wpX_constant post (sz, en, ep, ct, kn, mv, a1, a2, a3, a4, a5, a6, a7, a8, a9, a10, a11, a12, a13, a14, a15, a16) 3 (nI n) := by
  have em : (nI n).toInt = n := nI_toInt (by omega)
  unfold wpX_constant
  exact rg_bad 3 (by omega) (br_t rfl (rg_bnum (by omega) (by omega) (br_t rfl (rg_app k hk hsz H))))
theorem rg_load {post : Int32 → St2 → Prop} {sz en ep ct kn mv : Int32} {a1 a2 a3 a4 a5 a6 a7 a8 a9 a10 a11 a12 a13 a14 a15 a16 : Nat → Int32} (k : Nat) (hk : k < 14) (hsz : sz = nI k) (H : post (nI k) (nI (k + 1), en, ep, ct, 0, mv, a1, a2, upd a3 k 4, upd a4 k 2, upd a5 k 0, upd a6 k 0, a7, a8, a9, a10, a11, a12, a13, a14, a15, a16)) : wpX_load post (sz, en, ep, ct, kn, mv, a1, a2, a3, a4, a5, a6, a7, a8, a9, a10, a11, a12, a13, a14, a15, a16) 2 0 0 := by
  unfold wpX_load
  unfold wpX_access
  exact rg_bad 2 (by omega) (br_t rfl (rg_bad 0 (by omega) (br_t rfl (br_f (by decide) (br_t (by decide) (rg_app k hk hsz H))))))
theorem rg_sum {post : Int32 → St2 → Prop} {sz en ep ct kn mv : Int32} {a1 a2 a3 a4 a5 a6 a7 a8 a9 a10 a11 a12 a13 a14 a15 a16 : Nat → Int32} (k : Nat) (hk : k < 14) (hsz : sz = nI k) (H : post (nI k) (nI (k + 1), en, ep, ct, 0, mv, a1, a2, upd a3 k 2, upd a4 k 1, upd a5 k 1, upd a6 k 2, a7, a8, a9, a10, a11, a12, a13, a14, a15, a16)) : wpX_sum post (sz, en, ep, ct, kn, mv, a1, a2, a3, a4, a5, a6, a7, a8, a9, a10, a11, a12, a13, a14, a15, a16) 1 1 2 := by
  unfold wpX_sum
  exact rg_bad 1 (by omega) (br_t rfl (rg_bad 1 (by omega) (br_t rfl (rg_bad 2 (by omega) (br_t rfl (rg_app k hk hsz H))))))
theorem rg_plus {post : Int32 → St2 → Prop} {sz en ep ct kn mv : Int32} {a1 a2 a3 a4 a5 a6 a7 a8 a9 a10 a11 a12 a13 a14 a15 a16 : Nat → Int32} (k : Nat) (hk : k < 14) (hsz : sz = nI k) (H : post (nI k) (nI (k + 1), en, ep, ct, 0, mv, a1, a2, upd a3 k 1, upd a4 k 0, upd a5 k 0, upd a6 k 1, a7, a8, a9, a10, a11, a12, a13, a14, a15, a16)) : wpX_plus post (sz, en, ep, ct, kn, mv, a1, a2, a3, a4, a5, a6, a7, a8, a9, a10, a11, a12, a13, a14, a15, a16) 0 0 1 := by
  have e1 := rg_1
  unfold wpX_plus
  exact rg_bad 0 (by omega) (br_t rfl (rg_bad 0 (by omega) (br_t rfl (rg_bnum (by omega) (by omega) (br_t rfl (rg_app k hk hsz H))))))
theorem rg_lessA {post : Int32 → St2 → Prop} {sz en ep ct kn mv : Int32} {a1 a2 a3 a4 a5 a6 a7 a8 a9 a10 a11 a12 a13 a14 a15 a16 : Nat → Int32} (k : Nat) (hk : k < 14) (hsz : sz = nI k) (H : post (nI k) (nI (k + 1), en, ep, ct, 0, mv, a1, a2, upd a3 k 6, upd a4 k 0, upd a5 k 3, upd a6 k 1, a7, a8, a9, a10, a11, a12, a13, a14, a15, a16)) : wpX_less post (sz, en, ep, ct, kn, mv, a1, a2, a3, a4, a5, a6, a7, a8, a9, a10, a11, a12, a13, a14, a15, a16) 0 3 1 := by
  unfold wpX_less
  exact rg_bad 0 (by omega) (br_t rfl (rg_bad 3 (by omega) (br_t rfl (br_f (by decide) (br_t (by decide) (rg_app k hk hsz H))))))
theorem rg_var {post : Int32 → Prop} {sz en ep ct kn mv : Int32} {a1 a2 a3 a4 a5 a6 a7 a8 a9 a10 a11 a12 a13 a14 a15 a16 : Nat → Int32} {p0 v : Int32} (x : Nat) (hx : x ≤ 3) (hv : a8 x = v) (H : post v) (hp : p0 = nI x := by rfl) : wpX_variable post (sz, en, ep, ct, kn, mv, a1, a2, a3, a4, a5, a6, a7, a8, a9, a10, a11, a12, a13, a14, a15, a16) p0 := by
  subst hp
  subst hv
  unfold wpX_variable
  rw [nI_clamp (show x < 2 ^ 31 by omega)]
  exact rg_bad x hx (br_t rfl ⟨pk_in x 4 (by omega), H⟩)
theorem rg_cell0 {post : Int32 → Prop} {sz en ep ct kn mv : Int32} {a1 a2 a3 a4 a5 a6 a7 a8 a9 a10 a11 a12 a13 a14 a15 a16 : Nat → Int32} {v : Int32} (hv : a7 0 = v) (H : post v) : wpX_cell post (sz, en, ep, ct, kn, mv, a1, a2, a3, a4, a5, a6, a7, a8, a9, a10, a11, a12, a13, a14, a15, a16) 0 := by
  subst hv
  exact br_f (by decide) (br_t (by decide) ⟨pk_in 0 8 (by omega), H⟩)
theorem rg_init {post : St2 → Prop} (H : ∀ b1 b2 : Nat → Int32, (∀ x, x < 4 → b1 x = -100 ∧ b2 x = 100) → post (0, 0, -1, 0, 0, 0, b1, b2, (fun _ => 0), (fun _ => 0), (fun _ => 0), (fun _ => 0), (fun _ => 0), (fun _ => 0), (fun _ => 0), (fun _ => 0), (fun _ => 0), (fun _ => 0), (fun _ => 0), (fun _ => 0), (fun _ => 0), (fun _ => 0))) : wpX_init post 16 262 (0, 0, 0, 0, 0, 0) := by
  unfold wpX_init
  refine ⟨by omega, by omega, by omega, by omega, by omega, by omega, by omega, by omega, by omega, by omega, by omega, by omega, by omega, by omega, by omega, by omega, by omega, by omega, by omega, by omega, by omega, by omega, by omega, by omega, by omega, by omega, by omega, by omega, by omega, by omega, by omega, by omega, ?_⟩
  refine pk_loop (fun f i (s : (Nat → Int32) × (Nat → Int32)) => wX_init_129 post 16 262 16 262 0 0 0 0 0 0 f (nI i) s.1 s.2 (fun _ => 0) (fun _ => 0) (fun _ => 0) (fun _ => 0) (fun _ => 0) (fun _ => 0) (fun _ => 0) (fun _ => 0) (fun _ => 0) (fun _ => 0) (fun _ => 0) (fun _ => 0) (fun _ => 0) (fun _ => 0)) (fun i s => ∀ x, x < i → s.1 x = -100 ∧ s.2 x = 100) 4 0 ((fun _ => 0), (fun _ => 0)) (by omega) (fun x hx => absurd hx (by omega)) (fun f s g => ?_) (fun f i s hi g hw => ?_)
  · exact pk_le 4 4 (fun _ => H s.1 s.2 g) (fun z => absurd z (by omega))
  · refine pk_le 4 i (fun z => absurd z (by omega)) (fun _ => ⟨pk_in i 4 hi, nm_r (show upd s.1 (nI i).toNatClampNeg (-100) = upd s.1 i (-100) by rw [nI_clamp (by omega)]) ⟨pk_in i 4 hi, nm_r (show upd s.2 (nI i).toNatClampNeg 100 = upd s.2 i 100 by rw [nI_clamp (by omega)]) (nm_r (nI_1 i) (hw (upd s.1 i (-100), upd s.2 i 100) (fun x hx => ?_)))⟩⟩)
    dsimp only
    by_cases e : x = i
    · rw [e, pk_us, pk_us]
      exact ⟨rfl, rfl⟩
    · rw [pk_un e, pk_un e]
      exact g x (by omega)
end
section
def rg_c (x0 : Int32) (i : Nat) : Nat := (x0 >>> ((3 * nI i) &&& 31)).toBitVec.toNat % 2 ^ 3
theorem rg_cE (x0 : Int32) (i : Nat) : (x0 >>> ((3 * nI i) &&& 31)) &&& 7 = nI (rg_c x0 i) := pk_and _ 3 (by decide)
theorem rg_c8 (x0 : Int32) (i : Nat) : rg_c x0 i < 8 := Nat.mod_lt _ (by decide)
theorem rg_c0 (x0 : Int32) : nI (rg_c x0 0) = x0 &&& 7 := by
  rw [← rg_cE]
  rw [show (3 : Int32) * nI 0 = 0 by decide, sb_shr0]
theorem rg_339 {post : Int32 → St0 → Prop} {mc ms kc ks : Nat} {x0 x4 x6 x7 x8 x10 x11 x12 x13 z0 : Int32} {sz en ep ct kn mv : Int32} {a1 a2 a3 a4 a5 a6 a7 a8 a9 a10 a11 a12 a13 a14 a15 a16 : Nat → Int32} (H : post 1 ()) (e6 : x6 = 4) (e7 : x7 = x10) (e1 : en = x10) (e2 : ep = x12) (e3 : ct = z0) (v0 : a8 0 = x11) (v1 : a8 1 = x8) (v2 : a8 2 = x13) (v3 : a8 3 = x4) (c0 : a7 0 = x0 &&& 7) :
    wL_lawOf_339 post mc ms x0 x4 x6 x7 x8 x10 x11 x12 x13 z0 kc ks sz en ep ct kn mv a1 a2 a3 a4 a5 a6 a7 a8 a9 a10 a11 a12 a13 a14 a15 a16 := by
  unfold wL_lawOf_339
  exact br_t e6 (br_t e7 (br_t e1 (br_t e2 (br_t e3 (rg_var 0 (by omega) v0 (br_t rfl (rg_var 1 (by omega) v1 (br_t rfl (rg_var 2 (by omega) v2 (br_t rfl (rg_var 3 (by omega) v3 (br_t rfl (rg_cell0 c0 (br_t rfl H))))))))))))))
theorem rg_296 {post : Int32 → St0 → Prop} {mc ms kc ks : Nat} {x0 x4 x6 x7 x8 x9 x10 x11 x12 x13 : Int32} {sz en ep ct kn mv : Int32} {a1 a2 a3 a4 a5 a6 a7 a8 a9 a10 a11 a12 a13 a14 a15 a16 : Nat → Int32} (H : post 1 ()) (e6 : x6 = 4) (e7 : x7 = x10) (e1 : en = x10) (e2 : ep = x12) (e3 : ct = x9) (v0 : a8 0 = x11) (v1 : a8 1 = x8) (v2 : a8 2 = x13) (v3 : a8 3 = x4) (c0 : a7 0 = x0 &&& 7) :
    wL_lawOf_296 post mc ms x0 x4 x6 x7 x8 x9 x10 x11 x12 x13 kc ks sz en ep ct kn mv a1 a2 a3 a4 a5 a6 a7 a8 a9 a10 a11 a12 a13 a14 a15 a16 :=
  br_t rfl (br_t rfl (br_t rfl (rg_339 H e6 e7 e1 e2 e3 v0 v1 v2 v3 c0)))
theorem rg_297 {post : Int32 → St0 → Prop} {mc ms kc ks : Nat} {x0 x4 x6 x7 x8 x9 x10 x11 x12 x13 : Int32} {sz en ep ct kn mv : Int32} {a1 a2 a3 a4 a5 a6 a7 a8 a9 a10 a11 a12 a13 a14 a15 a16 : Nat → Int32} (H : post 1 ()) (e6 : x6 = 4) (e7 : x7 = 3) (e1 : en = 3) (e2 : ep = 1) (e3 : ct = x9 + 1) (v0 : a8 0 = x11) (v1 : a8 1 = x8) (v2 : a8 2 = x13) (v3 : a8 3 = x4) (c0 : a7 0 = x0 &&& 7) :
    wL_lawOf_297 post mc ms x0 x4 x6 x7 x8 x9 x10 x11 x12 x13 1 kc ks sz en ep ct kn mv a1 a2 a3 a4 a5 a6 a7 a8 a9 a10 a11 a12 a13 a14 a15 a16 :=
  br_f rg_10 (br_f rg_10 (br_f rg_10 (rg_339 H e6 e7 e1 e2 e3 v0 v1 v2 v3 c0)))
theorem rg_192a {post : Int32 → St0 → Prop} {mc ms kc ks : Nat} {J : Int32 → Int32 → Int32 → Int32 → Int32 → Int32 → Int32 → Prop} {x0 x4 x5 x6 x7 x8 x9 x11 x14 x15 x16 : Int32} {sz en ep ct kn mv : Int32} {a1 a2 a3 a4 a5 a6 a7 a8 a9 a10 a11 a12 a13 a14 a15 a16 : Nat → Int32} (H : J (x8 + x16) (x9 + 4) 1 (x11 + 1) (-1) x16 (x15 + 1)) :
    wL_lawOf_192 post mc ms J x0 x4 x5 x6 x7 x8 x9 x11 x14 x15 x16 0 kc ks sz en ep ct kn mv a1 a2 a3 a4 a5 a6 a7 a8 a9 a10 a11 a12 a13 a14 a15 a16 :=
  br_t rfl (br_t rfl (br_t rfl (br_t rfl (br_t rfl (nm_e (nm_e H))))))
theorem rg_192r {post : Int32 → St0 → Prop} {mc ms kc ks : Nat} {J : Int32 → Int32 → Int32 → Int32 → Int32 → Int32 → Int32 → Prop} {x0 x4 x5 x6 x7 x8 x9 x11 x14 x15 x16 : Int32} {sz en ep ct kn mv : Int32} {a1 a2 a3 a4 a5 a6 a7 a8 a9 a10 a11 a12 a13 a14 a15 a16 : Nat → Int32} (H : J x8 (x9 + 2) 2 x11 2 x16 (x15 + 1)) :
    wL_lawOf_192 post mc ms J x0 x4 x5 x6 x7 x8 x9 x11 x14 x15 x16 1 kc ks sz en ep ct kn mv a1 a2 a3 a4 a5 a6 a7 a8 a9 a10 a11 a12 a13 a14 a15 a16 :=
  br_f rg_10 (br_f rg_10 (br_f rg_10 (br_f rg_10 (br_f rg_10 (nm_e (nm_e H))))))
theorem rg_idle {post : Int32 → St0 → Prop} {mc ms kc ks R : Nat} {x0 x4 x5 x6 x7 x8 x9 x10 x11 x12 x13 x14 : Int32} {sz en ep ct kn mv : Int32} {a1 a2 a3 a4 a5 a6 a7 a8 a9 a10 a11 a12 a13 a14 a15 a16 : Nat → Int32} (h14 : x14 = nI R) (hR : R ≤ 10) (hfin : wL_lawOf_146 post mc ms x0 x4 x5 x6 x7 x14 kc ks sz en ep ct kn mv a1 a2 a3 a4 a5 a6 a7 a8 a9 a10 a11 a12 a13 a14 a15 a16 1 x8 x9 x10 x11 x12 x13 (nI 8)) :
    ∀ d i : Nat, i + d = 8 → (¬ x10 = 1 ∨ R ≤ i) → wL_lawOf_146 post mc ms x0 x4 x5 x6 x7 x14 kc ks sz en ep ct kn mv a1 a2 a3 a4 a5 a6 a7 a8 a9 a10 a11 a12 a13 a14 a15 a16 (d + 1) x8 x9 x10 x11 x12 x13 (nI i) := by
  intro d
  induction d with
  | zero =>
    intro i hi _
    have e : i = 8 := by omega
    subst e
    exact hfin
  | succ d ih =>
    intro i hi h
    refine pk_le 8 i (fun z => absurd z (by omega)) (fun _ => br_c (fun g => pk_le R i (fun z => nm_r (nI_1 i) (ih (i + 1) (by omega) (Or.inr (by omega)))) (fun z => ?_) h14) (fun g => nm_r (nI_1 i) (ih (i + 1) (by omega) (Or.inl g))))
    rcases h with h | h
    · exact absurd g h
    · exact absurd z (by omega)
theorem rg_acc {post : Int32 → St0 → Prop} {mc ms kc ks R m K f : Nat} {x0 x4 x6 x7 x14 : Int32} {sz en ep ct kn mv : Int32} {a1 a2 a3 a4 a5 a6 a7 a8 a9 a10 a11 a12 a13 a14 a15 a16 : Nat → Int32} (h14 : x14 = nI R) (hR : R ≤ 10) (hm : m ≤ 63) (hK : K ≤ 8) (hKR : K ≤ R) (hs : ∀ i, i ≤ K → rg_s (rg_c x0) i ≤ m)
    (hfin : wL_lawOf_146 post mc ms x0 x4 (nI m) x6 x7 x14 kc ks sz en ep ct kn mv a1 a2 a3 a4 a5 a6 a7 a8 a9 a10 a11 a12 a13 a14 a15 a16 f (nI (rg_s (rg_c x0) K)) (nI (1 + 4 * K)) 1 (nI K) (-1) (nI (rg_l (rg_c x0) K)) (nI K)) :
    ∀ d i : Nat, i + d = K → wL_lawOf_146 post mc ms x0 x4 (nI m) x6 x7 x14 kc ks sz en ep ct kn mv a1 a2 a3 a4 a5 a6 a7 a8 a9 a10 a11 a12 a13 a14 a15 a16 (f + d) (nI (rg_s (rg_c x0) i)) (nI (1 + 4 * i)) 1 (nI i) (-1) (nI (rg_l (rg_c x0) i)) (nI i) := by
  intro d
  induction d with
  | zero =>
    intro i hi
    have e : i = K := by omega
    subst e
    exact hfin
  | succ d ih =>
    intro i hi
    have k := ih (i + 1) (by omega)
    have q : rg_s (rg_c x0) i + rg_c x0 i ≤ m := hs (i + 1) (by omega)
    refine pk_le 8 i (fun z => absurd z (by omega)) (fun _ => br_t rfl (pk_le R i (fun z => absurd z (by omega)) (fun _ => nm_r (rg_cE x0 i) (pk_le (rg_s (rg_c x0) i + rg_c x0 i) m (fun _ => rg_192a ?_) (fun z => absurd z (by omega)) (nI_add _ _))) h14))
    rw [nI_add, nI_1, show nI (1 + 4 * i) + 4 = nI (1 + 4 * (i + 1)) from nI_add (1 + 4 * i) 4]
    exact k
/-- refused behind K rounds -/
theorem rg_law1 {post : Int32 → St0 → Prop} {mc ms kc ks n R m K : Nat} {x0 x14 : Int32} {sz kn mv : Int32} {a1 a2 a3 a4 a5 a6 a7 a8 a9 a10 a11 a12 a13 a14 a15 a16 : Nat → Int32} (H : post 1 ()) (h14 : x14 = nI R) (hR : R ≤ 10) (hm : m ≤ 63) (hK : K < 8) (hKR : K < R) (hs : ∀ i, i ≤ K → rg_s (rg_c x0) i ≤ m) (hx : m < rg_s (rg_c x0) (K + 1))
    (hv : rg_V a8 K (rg_s (rg_c x0) K) (rg_c x0 K) n) (h7 : a7 0 = x0 &&& 7) :
    ∃ fu, wL_lawOf_146 post mc ms x0 (nI n) (nI m) (nI 4) 2 x14 kc ks sz 2 (nI 2) (nI (1 + 4 * K + 2)) kn mv a1 a2 a3 a4 a5 a6 a7 a8 a9 a10 a11 a12 a13 a14 a15 a16 fu 0 1 1 0 (-1) 0 0 := by
  refine ⟨((8 - (K + 1)) + 1 + 1) + K, rg_acc (K := K) h14 hR hm (by omega) (by omega) hs ?_ K 0 (by omega)⟩
  have q : m < rg_s (rg_c x0) K + rg_c x0 K := hx
  have q1 := hs K (by omega)
  have q2 := rg_c8 x0 K
  refine pk_le 8 K (fun z => absurd z (by omega)) (fun _ => br_t rfl (pk_le R K (fun z => absurd z (by omega)) (fun _ => nm_r (rg_cE x0 K) (pk_le (rg_s (rg_c x0) K + rg_c x0 K) m (fun z => absurd z (by omega)) (fun _ => rg_192r ?_) (nI_add _ _))) h14))
  rw [nI_1]
  refine rg_idle h14 hR ?_ (8 - (K + 1)) (K + 1) (by omega) (Or.inl (by decide))
  exact pk_le 8 8 (fun _ => br_f (by decide) (rg_296 H rfl rfl rfl rfl (nI_add (1 + 4 * K) 2).symm hv.1 hv.2.1 hv.2.2.1 hv.2.2.2 h7)) (fun z => absurd z (by omega))
/-- all R rounds done -/
theorem rg_law2 {post : Int32 → St0 → Prop} {mc ms kc ks n R m : Nat} {x0 x14 : Int32} {sz kn mv : Int32} {a1 a2 a3 a4 a5 a6 a7 a8 a9 a10 a11 a12 a13 a14 a15 a16 : Nat → Int32} (H : post 1 ()) (h14 : x14 = nI R) (hR : R ≤ 8) (hm : m ≤ 63) (hs : ∀ i, i ≤ R → rg_s (rg_c x0) i ≤ m)
    (hv : rg_V a8 R (rg_s (rg_c x0) R) (rg_l (rg_c x0) R) n) (h7 : a7 0 = x0 &&& 7) :
    ∃ fu, wL_lawOf_146 post mc ms x0 (nI n) (nI m) (nI 4) 1 x14 kc ks sz 1 (-1) (nI (1 + 4 * R)) kn mv a1 a2 a3 a4 a5 a6 a7 a8 a9 a10 a11 a12 a13 a14 a15 a16 fu 0 1 1 0 (-1) 0 0 := by
  refine ⟨((8 - R) + 1) + R, rg_acc (K := R) h14 (by omega) hm (by omega) (by omega) hs ?_ R 0 (by omega)⟩
  refine rg_idle h14 (by omega) ?_ (8 - R) R (by omega) (Or.inr (by omega))
  exact pk_le 8 8 (fun _ => br_t rfl (pk_le R 8 (fun _ => rg_296 H rfl rfl rfl rfl rfl hv.1 hv.2.1 hv.2.2.1 hv.2.2.2 h7) (fun z => absurd z (by omega)) h14)) (fun z => absurd z (by omega))
/-- outside behind eight rounds -/
theorem rg_law3 {post : Int32 → St0 → Prop} {mc ms kc ks n R m : Nat} {x0 x14 : Int32} {sz kn mv : Int32} {a1 a2 a3 a4 a5 a6 a7 a8 a9 a10 a11 a12 a13 a14 a15 a16 : Nat → Int32} (H : post 1 ()) (h14 : x14 = nI R) (hR : R ≤ 10) (hR8 : 8 < R) (hm : m ≤ 63) (hs : ∀ i, i ≤ 8 → rg_s (rg_c x0) i ≤ m)
    (hv : rg_V a8 8 (rg_s (rg_c x0) 8) (rg_l (rg_c x0) 8) n) (h7 : a7 0 = x0 &&& 7) :
    ∃ fu, wL_lawOf_146 post mc ms x0 (nI n) (nI m) (nI 4) 3 x14 kc ks sz 3 (nI 1) (nI (1 + 4 * 8 + 1)) kn mv a1 a2 a3 a4 a5 a6 a7 a8 a9 a10 a11 a12 a13 a14 a15 a16 fu 0 1 1 0 (-1) 0 0 := by
  refine ⟨1 + 8, rg_acc (K := 8) h14 (by omega) hm (by omega) (by omega) hs ?_ 8 0 (by omega)⟩
  exact pk_le 8 8 (fun _ => br_t rfl (pk_le R 8 (fun z => absurd z (by omega)) (fun _ => rg_297 H rfl rfl rfl rfl (nI_1 (1 + 4 * 8)).symm hv.1 hv.2.1 hv.2.2.1 hv.2.2.2 h7) h14)) (fun z => absurd z (by omega))
theorem rg_sel {A B : Prop} {n R : Nat} (hn : n ≤ 10) (hR : (n = 0 ∧ R = 1) ∨ (0 < n ∧ R = n)) (f : 1 = nI R → A) (g : nI n = nI R → B) : (nI n = 0 → A) ∧ (¬ nI n = 0 → B) := by
  rcases hR with ⟨z1, z2⟩ | ⟨z1, z2⟩
  · subst z1 z2
    exact br_t rfl (f rfl)
  · subst z2
    exact br_f (nI_ne0 z1 (by omega)) (g rfl)
theorem rg_Lset {m : Nat} {b1 b2 : Nat → Int32} (hm : m ≤ 63) (hb : ∀ x, x < 4 → b1 x = -100 ∧ b2 x = 100) : rg_L m (upd b1 1 (-100)) (upd b2 1 (nI m)) := by
  have em : (nI m).toInt = m := nI_toInt (by omega)
  have e2 := rg_m100
  have e1 := rg_100
  have k0 := hb 0 (by omega)
  have k2 := hb 2 (by omega)
  have k3 := hb 3 (by omega)
  have w0 : (upd b2 1 (nI m) 0).toInt = 100 := by rw [pk_un (by decide), k0.2, e1]
  have w1 : (upd b2 1 (nI m) 1).toInt = m := by rw [pk_us, em]
  have w2 : (upd b2 1 (nI m) 2).toInt = 100 := by rw [pk_un (by decide), k2.2, e1]
  have w3 : (upd b2 1 (nI m) 3).toInt = 100 := by rw [pk_un (by decide), k3.2, e1]
  refine ⟨rg_all4 ?_ ?_ ?_ ?_, rg_all4 (by omega) (by omega) (by omega) (by omega), w0, w1, w2, w3, hm⟩
  · rw [pk_un (by decide), k0.1, e2]
  · rw [pk_us, e2]
  · rw [pk_un (by decide), k2.1, e2]
  · rw [pk_un (by decide), k3.1, e2]
end
section
theorem rg_26 {post : Int32 → St0 → Prop} {mc ms kc ks n R m : Nat} {x0 : Int32} {b1 b2 : Nat → Int32} (H : post 1 ()) (hn : n ≤ 10) (hR : (n = 0 ∧ R = 1) ∨ (0 < n ∧ R = n)) (hm : m ≤ 63) (hb : ∀ x, x < 4 → b1 x = -100 ∧ b2 x = 100) :
    ∃ fu, wL_lawOf_26 post mc ms x0 (nI n) (nI m) kc ks fu 0 0 0 (-1) 0 0 0 b1 b2 (fun _ => 0) (fun _ => 0) (fun _ => 0) (fun _ => 0) (fun _ => 0) (fun _ => 0) (fun _ => 0) (fun _ => 0) (fun _ => 0) (fun _ => 0) (fun _ => 0) (fun _ => 0) (fun _ => 0) (fun _ => 0) := by
  refine pk_loop (fun f i (s : Nat → Int32) => wL_lawOf_26 post mc ms x0 (nI n) (nI m) kc ks f (nI i) 0 0 (-1) 0 0 0 b1 b2 (fun _ => 0) (fun _ => 0) (fun _ => 0) (fun _ => 0) s (fun _ => 0) (fun _ => 0) (fun _ => 0) (fun _ => 0) (fun _ => 0) (fun _ => 0) (fun _ => 0) (fun _ => 0) (fun _ => 0)) (fun i s => ∀ j, j < i → s j = nI (rg_c x0 j)) 8 0 (fun _ => 0) (by omega) (fun x hx => absurd hx (by omega)) (fun f s g => ?_) (fun f i s hi g hw => ?_)
  · have h7 : s 0 = x0 &&& 7 := (g 0 (by omega)).trans (rg_c0 x0)
    refine pk_le 8 8 (fun _ => rg_range m hm (rg_const n hn 0 (by omega) rfl (rg_load 1 (by omega) rfl (rg_sum 2 (by omega) rfl (rg_plus 3 (by omega) rfl (rg_lessA 4 (by omega) rfl (rg_run (n := n) (m := m) (R := R) (c := rg_c x0) rfl hn rfl ?_ (rg_Lset hm hb) ?_ rfl rfl hR g (rg_c8 x0) ?_ ?_ ?_))))))) (fun z => absurd z (by omega))
    · exact ⟨⟨rfl, rfl, rfl⟩, ⟨rfl, rfl, rfl, rfl⟩, ⟨rfl, rfl, rfl, rfl⟩, ⟨rfl, rfl, rfl, rfl⟩, ⟨rfl, rfl, rfl, rfl⟩⟩
    · have e0 := rg_0
      intro j
      show -100 ≤ (0 : Int32).toInt ∧ (0 : Int32).toInt ≤ 100 ∧ -100 ≤ (0 : Int32).toInt ∧ (0 : Int32).toInt ≤ 100
      omega
    · exact fun K kn' mv' b8 b9 b10 b11 b12 b13 b14 b15 b16 k1 k2 k3 k4 k5 => rg_sel hn hR (fun e => rg_law1 H e (by omega) hm k2 k1 k3 k4 k5 h7) (fun e => rg_law1 H e (by omega) hm k2 k1 k3 k4 k5 h7)
    · exact fun kn' mv' b8 b9 b10 b11 b12 b13 b14 b15 b16 k1 k2 k3 => rg_sel hn hR (fun e => rg_law2 H e k1 hm k2 k3 h7) (fun e => rg_law2 H e k1 hm k2 k3 h7)
    · exact fun kn' mv' b8 b9 b10 b11 b12 b13 b14 b15 b16 k1 k2 k3 => rg_sel hn hR (fun e => rg_law3 H e (by omega) k1 hm k2 k3 h7) (fun e => rg_law3 H e (by omega) k1 hm k2 k3 h7)
  · have q := rg_c8 x0 i
    have eq : (nI (rg_c x0 i)).toInt = rg_c x0 i := nI_toInt (by omega)
    refine pk_le 8 i (fun z => absurd z (by omega)) (fun _ => ?_)
    rw [rg_cE]
    refine rg_setc i hi (by omega) (by omega) (nm_r (nI_1 i) (hw (upd s i (nI (rg_c x0 i))) (fun x hx => ?_)))
    by_cases e : x = i
    · rw [e, pk_us]
    · rw [pk_un e]
      exact g x (by omega)
theorem rg_lawOf {post : Int32 → St0 → Prop} (H : post 1 ()) (x0 p1 p2 : Int32) : wpL_lawOf post 160 2560 () x0 p1 p2 := by
  obtain ⟨j, hj, ej⟩ := pk_andE p1 (m := 15) 4 (by decide)
  obtain ⟨m, hm, em⟩ := pk_andE p2 (m := 63) 6 (by decide)
  have e4 : (p1 &&& 15) - (p1 &&& 15) / 11 * 11 = nI (j % 11) := by
    rw [ej]
    exact pk_rem (d := 11) (by omega) (by omega) (by omega)
  refine ⟨by omega, by omega, 16, 262, by omega, by omega, rg_init (fun b1 b2 hb => ⟨by decide, nm_r e4 (nm_r em ?_)⟩)⟩
  exact rg_26 (R := if j % 11 = 0 then 1 else j % 11) H (by omega) (by
    by_cases e : j % 11 = 0
    · rw [if_pos e]
      exact Or.inl ⟨e, rfl⟩
    · rw [if_neg e]
      exact Or.inr ⟨by omega, rfl⟩) (by omega) hb
theorem rg_cellAt {post : Int32 → Prop} {L : Nat} {xs : Nat → Int32} {p1 : Int32} (k : Nat) (hk : k ≤ 2) (hL : L ≤ 3) (H : ∀ v, post v) (hp : p1 = nI k := by rfl) : wpL_cellAt post L xs () p1 := by
  subst hp
  exact pk_le L k (fun _ => H 0) (fun z => ⟨pk_in k L z, H _⟩)
theorem i_vc (xs : Nat → Int32) (L : Nat) (hL : L ≤ 3) : wpL_law (fun r => r = 1) L xs := by
  unfold wpL_law
  exact rg_cellAt 0 (by omega) hL (fun r1 => rg_cellAt 1 (by omega) hL (fun r2 => rg_cellAt 2 (by omega) hL (fun r3 => ⟨160, 2560, by omega, by omega, rg_lawOf rfl r1 r2 r3⟩)))
end
