section
/-! places -/
theorem sd_16 (n : Nat) : nI n * 16 = nI (n * 16) := pk_mul n 16
theorem sd_8 (n : Nat) : nI n * 8 = nI (n * 8) := pk_mul n 8
theorem sd_16a (n i : Nat) : nI n * 16 + nI i = nI (n * 16 + i) := by rw [sd_16, nI_add]
theorem sd_8a (n i : Nat) : nI n * 8 + nI i = nI (n * 8 + i) := by rw [sd_8, nI_add]
/-- a store at a place known as a natural -/
theorem sd_up {P : (Nat → Int32) → Prop} {f : Nat → Int32} {x v : Int32} (i : Nat) (hi : i < 2 ^ 31) (h : P (upd f i v)) (hx : x = nI i := by rfl) : ∀ a, a = upd f x.toNatClampNeg v → P a := by
  subst hx
  rw [nI_clamp hi]
  exact nm_e h
/-- a read at a place known as a natural -/
theorem sd_rd {P : Int32 → Prop} {f : Nat → Int32} {x : Int32} (i : Nat) (hi : i < 2 ^ 31) (h : P (f i)) (hx : x = nI i := by rfl) : P (f x.toNatClampNeg) := by
  subst hx
  rw [nI_clamp hi]
  exact h
theorem sd_bn {post : Int32 → Prop} {n : Nat} (hn : n < 3) (hp : post 0) : wpX_badNode post () (nI n) :=
  br_f (nI_pos (by omega)) (br_t (nI_lt (b := 3) hn (by decide)) hp)
theorem sd_bb {post : Int32 → Prop} {b : Nat} (hb : b < 16) (hp : post 0) : wpX_badBlock post () (nI b) :=
  br_f (nI_pos (by omega)) (br_t (nI_lt (b := 16) hb (by decide)) hp)
theorem sd_n1 {P R : Prop} {n : Nat} (hn : n < 3) (h : P) : wpX_badNode (fun r => (r = 0 → P) ∧ (¬ r = 0 → R)) () (nI n) := sd_bn hn (br_t rfl h)
theorem sd_b1 {P R : Prop} {b : Nat} (hb : b < 16) (h : P) : wpX_badBlock (fun r => (r = 0 → P) ∧ (¬ r = 0 → R)) () (nI b) := sd_bb hb (br_t rfl h)
/-! the journal: a block that isn't there -/
theorem sd_jn {post : Int32 → Prop} {F : Int32} {a1 a2 a3 a4 a5 a6 a7 a8 a9 a10 a11 a12 : Nat → Int32} {n k : Nat} {x : Int32} (hn : n < 3) (hk : k ≤ 16) (h3 : a3 n = nI k) (h4 : ∀ i, n * 16 ≤ i → i < n * 16 + k → ¬ a4 i = x) (hp : post (-1)) : wpX_journaled post (F, a1, a2, a3, a4, a5, a6, a7, a8, a9, a10, a11, a12) (nI n) x := by
  have e : nI n * 16 + a3 (nI n).toNatClampNeg = nI (n * 16 + k) := by rw [nI_clamp (by omega), h3, sd_16a]
  refine nm_r (sd_16 n) ?_
  exact pk_loop (σ := Unit) (fun f i _ => wX_journaled_5 post (nI n) x F a1 a2 a3 a4 a5 a6 a7 a8 a9 a10 a11 a12 f (nI i)) (fun i _ => n * 16 ≤ i) (n * 16 + k) (n * 16) () (by omega) (Nat.le_refl _)
    (fun f _ _ => ⟨pk_in n 3 hn, pk_le (n * 16 + k) (n * 16 + k) (fun _ => hp) (fun z => absurd z (by omega)) e⟩)
    (fun f i _ hi hl hw => ⟨pk_in n 3 hn, pk_le (n * 16 + k) i (fun z => absurd z (by omega)) (fun _ => ⟨pk_in i 48 (by omega), br_f (by rw [nI_clamp (by omega)]; exact h4 i hl hi) (nm_r (nI_1 i) (hw () (by omega)))⟩) e⟩)
/-! the cache: a block that isn't there; one that is; whichever -/
theorem sd_cn {post : Int32 → Prop} {a1 a2 a3 a4 a5 a6 a7 a8 a9 a10 a11 a12 : Nat → Int32} {n r : Nat} {x : Int32} (hn : n < 3) (hr : r ≤ 8) (h9 : ∀ i, n * 8 ≤ i → i < n * 8 + r → ¬ a9 i = x) (hp : post (-1)) : wpX_cached post (nI r, a1, a2, a3, a4, a5, a6, a7, a8, a9, a10, a11, a12) (nI n) x := by
  refine nm_r (sd_8 n) ?_
  exact pk_loop (σ := Unit) (fun f i _ => wX_cached_5 post (nI n) x (nI r) a1 a2 a3 a4 a5 a6 a7 a8 a9 a10 a11 a12 f (nI i)) (fun i _ => n * 8 ≤ i) (n * 8 + r) (n * 8) () (by omega) (Nat.le_refl _)
    (fun f _ _ => pk_le (n * 8 + r) (n * 8 + r) (fun _ => hp) (fun z => absurd z (by omega)) (sd_8a n r))
    (fun f i _ hi hl hw => pk_le (n * 8 + r) i (fun z => absurd z (by omega)) (fun _ => ⟨pk_in i 24 (by omega), br_f (by rw [nI_clamp (by omega)]; exact h9 i hl hi) (nm_r (nI_1 i) (hw () (by omega)))⟩) (sd_8a n r))
theorem sd_cf {post : Int32 → Prop} {a1 a2 a3 a4 a5 a6 a7 a8 a9 a10 a11 a12 : Nat → Int32} {n r : Nat} {x : Int32} (j : Nat) (hn : n < 3) (hr : r ≤ 8) (h0 : n * 8 ≤ j) (h1 : j < n * 8 + r) (h9 : ∀ i, n * 8 ≤ i → i < j → ¬ a9 i = x) (hj : a9 j = x) (hp : post (nI j)) : wpX_cached post (nI r, a1, a2, a3, a4, a5, a6, a7, a8, a9, a10, a11, a12) (nI n) x := by
  refine nm_r (sd_8 n) ?_
  exact pk_loop (σ := Unit) (fun f i _ => wX_cached_5 post (nI n) x (nI r) a1 a2 a3 a4 a5 a6 a7 a8 a9 a10 a11 a12 f (nI i)) (fun i _ => n * 8 ≤ i) j (n * 8) () h0 (Nat.le_refl _)
    (fun f _ _ => pk_le (n * 8 + r) j (fun z => absurd z (by omega)) (fun _ => ⟨pk_in j 24 (by omega), br_t (by rw [nI_clamp (by omega)]; exact hj) hp⟩) (sd_8a n r))
    (fun f i _ hi hl hw => pk_le (n * 8 + r) i (fun z => absurd z (by omega)) (fun _ => ⟨pk_in i 24 (by omega), br_f (by rw [nI_clamp (by omega)]; exact h9 i hl hi) (nm_r (nI_1 i) (hw () (by omega)))⟩) (sd_8a n r))
theorem sd_ca {post : Int32 → Prop} {a1 a2 a3 a4 a5 a6 a7 a8 a9 a10 a11 a12 : Nat → Int32} {n r : Nat} {x : Int32} (hn : n < 3) (hr : r ≤ 8) (hp : post (-1)) (hq : ∀ j, n * 8 ≤ j → j < n * 8 + r → post (nI j)) : wpX_cached post (nI r, a1, a2, a3, a4, a5, a6, a7, a8, a9, a10, a11, a12) (nI n) x := by
  refine nm_r (sd_8 n) ?_
  exact pk_loop (σ := Unit) (fun f i _ => wX_cached_5 post (nI n) x (nI r) a1 a2 a3 a4 a5 a6 a7 a8 a9 a10 a11 a12 f (nI i)) (fun i _ => n * 8 ≤ i) (n * 8 + r) (n * 8) () (by omega) (Nat.le_refl _)
    (fun f _ _ => pk_le (n * 8 + r) (n * 8 + r) (fun _ => hp) (fun z => absurd z (by omega)) (sd_8a n r))
    (fun f i _ hi hl hw => pk_le (n * 8 + r) i (fun z => absurd z (by omega)) (fun _ => ⟨pk_in i 24 (by omega), br_c (fun _ => hq i hl hi) (fun _ => nm_r (nI_1 i) (hw () (by omega)))⟩) (sd_8a n r))
/-! is a block at risk -/
theorem sd_u0 {post : Int32 → Prop} {a1 a2 a3 a4 a5 a6 a7 a8 a9 a10 a11 a12 : Nat → Int32} {n r : Nat} {x : Int32} (hn : n < 3) (hr : r ≤ 8) (h3 : a3 n = nI 0) (h11 : ∀ i, n * 8 ≤ i → i < n * 8 + r → a11 i = 0) (hp : post 0) : wpX_isUnsafe post (nI r, a1, a2, a3, a4, a5, a6, a7, a8, a9, a10, a11, a12) (nI n) x :=
  sd_jn hn (by omega) h3 (fun i h0 h1 => absurd h1 (by omega)) (br_t (by decide)
    (sd_ca hn hr (br_t (by decide) hp) (fun j h0 h1 => br_f (nI_pos (by omega)) ⟨pk_in j 24 (by omega), br_t (by rw [nI_clamp (by omega)]; exact h11 j h0 h1) hp⟩)))
theorem sd_u1 {post : Int32 → Prop} {a1 a2 a3 a4 a5 a6 a7 a8 a9 a10 a11 a12 : Nat → Int32} {n r : Nat} {x : Int32} (j : Nat) (hn : n < 3) (hr : r ≤ 8) (h3 : a3 n = nI 0) (h0 : n * 8 ≤ j) (h1 : j < n * 8 + r) (h9 : ∀ i, n * 8 ≤ i → i < j → ¬ a9 i = x) (hj : a9 j = x) (h11 : ¬ a11 j = 0) (hp : post 1) : wpX_isUnsafe post (nI r, a1, a2, a3, a4, a5, a6, a7, a8, a9, a10, a11, a12) (nI n) x :=
  sd_jn hn (by omega) h3 (fun i h0 h1 => absurd h1 (by omega)) (br_t (by decide)
    (sd_cf j hn hr h0 h1 h9 hj (br_f (nI_pos (by omega)) ⟨pk_in j 24 (by omega), br_f (by rw [nI_clamp (by omega)]; exact h11) hp⟩)))
theorem sd_dc {post : St2 → Prop} {F : Int32} {a1 a2 a3 a4 a5 a6 a7 a8 a9 a10 a11 a12 : Nat → Int32} (j : Nat) (hj : j < 24) (hp : post (F, a1, a2, a3, a4, a5, a6, a7, a8, upd a9 j (-1), a10, upd a11 j 0, a12)) : wpX_dropCell post (F, a1, a2, a3, a4, a5, a6, a7, a8, a9, a10, a11, a12) (nI j) :=
  ⟨pk_in j 24 hj, sd_up j (by omega) ⟨pk_in j 24 hj, sd_up j (by omega) hp⟩⟩
/-! how many are at risk: an empty journal, the first d cells dirty -/
theorem sd_uc {post : Int32 → Prop} {a1 a2 a3 a4 a5 a6 a7 a8 a9 a10 a11 a12 : Nat → Int32} {n r : Nat} (d : Nat) (hn : n < 3) (hr : r ≤ 8) (hd : d ≤ r) (h3 : a3 n = nI 0) (h11 : ∀ i, n * 8 ≤ i → i < n * 8 + r → (a11 i = 0 ↔ n * 8 + d ≤ i)) (hp : post (nI d)) : wpX_unsafeCount post (nI r, a1, a2, a3, a4, a5, a6, a7, a8, a9, a10, a11, a12) (nI n) := by
  refine ⟨pk_in n 3 hn, nm_r (show a3 (nI n).toNatClampNeg = nI 0 by rw [nI_clamp (by omega), h3]) (nm_r (sd_8 n) ?_)⟩
  refine pk_loop (σ := Int32) (fun f i s => wX_unsafeCount_12 post (nI n) (nI r) a1 a2 a3 a4 a5 a6 a7 a8 a9 a10 a11 a12 f s (nI i)) (fun i s => n * 8 ≤ i ∧ s = nI (min (i - n * 8) d)) (n * 8 + r) (n * 8) (nI 0) (by omega) ⟨Nat.le_refl _, by rw [Nat.sub_self, Nat.zero_min]⟩ ?_ ?_
  · intro f s hs
    refine pk_le (n * 8 + r) (n * 8 + r) (fun _ => ?_) (fun z => absurd z (by omega)) (sd_8a n r)
    rw [hs.2, show min (n * 8 + r - n * 8) d = d by omega]
    exact hp
  · intro f i s hi hs hw
    refine pk_le (n * 8 + r) i (fun z => absurd z (by omega)) (fun _ => ⟨pk_in i 24 (by omega), ?_⟩) (sd_8a n r)
    rw [nI_clamp (show i < 2 ^ 31 by omega)]
    refine br_c (fun z => nm_r (nI_1 i) (hw s ⟨by omega, ?_⟩)) (fun z => ⟨pk_in i 24 (by omega), ?_⟩)
    · have := (h11 i hs.1 hi).mp z
      rw [hs.2]
      exact congrArg nI (by omega)
    · have hz : ¬ n * 8 + d ≤ i := fun q => z ((h11 i hs.1 hi).mpr q)
      refine sd_jn hn (by omega) h3 (fun i h0 h1 => absurd h1 (by omega)) (br_f (by decide) (nm_r (e' := nI (min (i + 1 - n * 8) d)) ?_ (nm_r (nI_1 i) (hw _ ⟨by omega, rfl⟩))))
      rw [hs.2, nI_1]
      exact congrArg nI (by have := hs.1; omega)
end
section
/-! a new entry in the journal -/
theorem sd_wj {post : St2 → Prop} {F : Int32} {a1 a2 a3 a4 a5 a6 a7 a8 a9 a10 a11 a12 : Nat → Int32} {n k : Nat} {x v : Int32} (hn : n < 3) (hk : k < 16) (h3 : a3 n = nI k) (h4 : ∀ i, n * 16 ≤ i → i < n * 16 + k → ¬ a4 i = x)
    (hp : post (F, a1, a2, upd a3 n (nI (k + 1)), upd a4 (n * 16 + k) x, upd a5 (n * 16 + k) v, a6, a7, a8, a9, a10, a11, a12)) : wpX_writeJournal post (F, a1, a2, a3, a4, a5, a6, a7, a8, a9, a10, a11, a12) (nI n) x v := by
  have e : nI n * 16 + a3 (nI n).toNatClampNeg = nI (n * 16 + k) := by rw [nI_clamp (by omega), h3, sd_16a]
  refine sd_jn hn (by omega) h3 h4 (br_f (by decide) ⟨pk_in n 3 hn, nm_r e ⟨pk_in n 3 hn, pk_in n 3 hn, ?_⟩⟩)
  refine nm_r (e' := upd a3 n (nI (k + 1))) (by rw [nI_clamp (by omega), h3, nI_1]) ?_
  exact ⟨pk_in (n * 16 + k) 48 (by omega), sd_up (n * 16 + k) (by omega) ⟨pk_in (n * 16 + k) 48 (by omega), sd_up (n * 16 + k) (by omega) hp⟩⟩
/-- what the filling has done ahead of cell i -/
def sd_FI (n d : Nat) (a3 a9 a10 a11 : Nat → Int32) (i : Nat) (s : (Nat → Int32) × (Nat → Int32) × (Nat → Int32) × (Nat → Int32)) : Prop :=
  n * 8 ≤ i ∧ s.1 n = nI (min (i - n * 8) d) ∧ (∀ o, o ≠ n → s.1 o = a3 o) ∧ (∀ t, t < min (i - n * 8) d → s.2.1 (n * 16 + t) = a9 (n * 8 + t) ∧ s.2.2.1 (n * 16 + t) = a10 (n * 8 + t)) ∧ (∀ t, n * 8 ≤ t → t < i → s.2.2.2 t = 0) ∧ (∀ t, t < n * 8 ∨ i ≤ t → s.2.2.2 t = a11 t)
/-- a clean cell -/
theorem sd_FI0 {n d i : Nat} {a3 a9 a10 a11 b3 b4 b5 b11 : Nat → Int32} (h : sd_FI n d a3 a9 a10 a11 i (b3, b4, b5, b11)) (hz : a11 i = 0) (hd : n * 8 + d ≤ i) : sd_FI n d a3 a9 a10 a11 (i + 1) (b3, b4, b5, b11) := by
  obtain ⟨h0, h1, h2, h3, h4, h5⟩ := h
  refine ⟨by omega, ?_, h2, ?_, ?_, fun t ht => h5 t (by omega)⟩
  · rw [show min (i + 1 - n * 8) d = min (i - n * 8) d by omega]
    exact h1
  · rw [show min (i + 1 - n * 8) d = min (i - n * 8) d by omega]
    exact h3
  · intro t t0 t1
    by_cases e : t = i
    · rw [e]
      exact (h5 i (by omega)).trans hz
    · exact h4 t t0 (by omega)
/-- a dirty cell -/
theorem sd_FI1 {n d i : Nat} {a3 a9 a10 a11 b3 b4 b5 b11 : Nat → Int32} (h : sd_FI n d a3 a9 a10 a11 i (b3, b4, b5, b11)) (hd : i < n * 8 + d) :
    sd_FI n d a3 a9 a10 a11 (i + 1) (upd b3 n (nI (i - n * 8 + 1)), upd b4 (n * 16 + (i - n * 8)) (a9 i), upd b5 (n * 16 + (i - n * 8)) (a10 i), upd b11 i 0) := by
  obtain ⟨h0, h1, h2, h3, h4, h5⟩ := h
  refine ⟨by omega, ?_, ?_, ?_, ?_, ?_⟩
  · show upd b3 n (nI (i - n * 8 + 1)) n = _
    rw [pk_us]
    exact congrArg nI (by omega)
  · intro o ho
    exact (pk_un ho).trans (h2 o ho)
  · intro t ht
    show upd b4 (n * 16 + (i - n * 8)) (a9 i) (n * 16 + t) = _ ∧ upd b5 (n * 16 + (i - n * 8)) (a10 i) (n * 16 + t) = _
    by_cases e : t = i - n * 8
    · rw [e, pk_us, pk_us, show n * 8 + (i - n * 8) = i by omega]
      exact ⟨rfl, rfl⟩
    · rw [pk_un (by omega), pk_un (by omega)]
      exact h3 t (by omega)
  · intro t t0 t1
    show upd b11 i 0 t = 0
    by_cases e : t = i
    · rw [e, pk_us]
    · rw [pk_un e]
      exact h4 t t0 (by omega)
  · intro t ht
    show upd b11 i 0 t = a11 t
    rw [pk_un (by omega)]
    exact h5 t (by omega)
theorem sd_fj {post : St2 → Prop} {a1 a2 a3 a4 a5 a6 a7 a8 a9 a10 a11 a12 : Nat → Int32} {n r : Nat} (d : Nat) (hn : n < 3) (hr : r ≤ 8) (hd : d ≤ r) (h3 : a3 n = nI 0)
    (h11 : ∀ i, n * 8 ≤ i → i < n * 8 + r → (a11 i = 0 ↔ n * 8 + d ≤ i)) (h9 : ∀ i j, i < d → j < d → a9 (n * 8 + i) = a9 (n * 8 + j) → i = j)
    (hp : ∀ b3 b4 b5 b11, b3 n = nI d → (∀ o, o ≠ n → b3 o = a3 o) → (∀ t, t < d → b4 (n * 16 + t) = a9 (n * 8 + t) ∧ b5 (n * 16 + t) = a10 (n * 8 + t)) → (∀ t, n * 8 ≤ t → t < n * 8 + r → b11 t = 0) → (∀ t, t < n * 8 ∨ n * 8 + r ≤ t → b11 t = a11 t) →
      post (nI r, a1, a2, b3, b4, b5, a6, a7, a8, a9, a10, b11, a12)) : wpX_fillJournal post (nI r, a1, a2, a3, a4, a5, a6, a7, a8, a9, a10, a11, a12) (nI n) := by
  refine nm_r (sd_8 n) ?_
  refine pk_loop (fun f i s => wX_fillJournal_5 post (nI n) f (nI i) (nI r) a1 a2 (s.1) (s.2.1) (s.2.2.1) a6 a7 a8 a9 a10 (s.2.2.2) a12) (sd_FI n d a3 a9 a10 a11) (n * 8 + r) (n * 8) (a3, a4, a5, a11) (by omega) ?_ ?_ ?_
  · refine ⟨Nat.le_refl _, ?_, fun _ _ => rfl, fun t ht => absurd ht (by omega), fun t t0 t1 => absurd t1 (by omega), fun _ _ => rfl⟩
    rw [Nat.sub_self, Nat.zero_min]
    exact h3
  · intro f s hs
    obtain ⟨b3, b4, b5, b11⟩ := s
    obtain ⟨g0, g1, g2, g3, g4, g5⟩ := hs
    rw [show min (n * 8 + r - n * 8) d = d by omega] at g1 g3
    exact pk_le (n * 8 + r) (n * 8 + r) (fun _ => hp b3 b4 b5 b11 g1 g2 g3 g4 g5) (fun z => absurd z (by omega)) (sd_8a n r)
  · intro f i s hi hs hw
    obtain ⟨b3, b4, b5, b11⟩ := s
    have g := hs
    obtain ⟨g0, g1, g2, g3, g4, g5⟩ := hs
    have e11 : b11 i = a11 i := g5 i (by omega)
    refine pk_le (n * 8 + r) i (fun z => absurd z (by omega)) (fun _ => ⟨pk_in i 24 (by omega), ?_⟩) (sd_8a n r)
    dsimp only
    rw [nI_clamp (show i < 2 ^ 31 by omega), e11]
    refine br_c (fun z => nm_r (nI_1 i) (hw (b3, b4, b5, b11) (sd_FI0 g z ((h11 i g0 hi).mp z)))) (fun z => ⟨pk_in i 24 (by omega), pk_in i 24 (by omega), ?_⟩)
    have hz : i < n * 8 + d := by
      rcases Nat.lt_or_ge i (n * 8 + d) with q | q
      · exact q
      · exact absurd ((h11 i g0 hi).mpr q) z
    have em : min (i - n * 8) d = i - n * 8 := by omega
    rw [em] at g1 g3
    refine sd_wj (k := i - n * 8) hn (by omega) g1 (fun q q0 q1 => ?_) ⟨pk_in i 24 (by omega), nm_e (nm_r (nI_1 i) (hw _ (sd_FI1 g hz)))⟩
    have e := (g3 (q - n * 16) (by omega)).1
    rw [show n * 16 + (q - n * 16) = q by omega] at e
    intro w
    have w2 : b4 q = a9 i := w
    have w3 : a9 (n * 8 + (q - n * 16)) = a9 (n * 8 + (i - n * 8)) := by
      rw [show n * 8 + (i - n * 8) = i by omega]
      exact e.symm.trans w2
    have := h9 _ _ (by omega) (by omega) w3
    omega
/-! the sum -/
def sd_sm (a4 a5 : Nat → Int32) (p k : Nat) : Nat → Int32
  | 0 => 7 + nI k
  | t + 1 => (sd_sm a4 a5 p k t * 31 + a4 (p + t)) * 31 + a5 (p + t)
theorem sd_so {post : Int32 → Prop} {F : Int32} {a1 a2 a3 a4 a5 a6 a7 a8 a9 a10 a11 a12 : Nat → Int32} {n k : Nat} (hn : n < 3) (hk : k ≤ 16) (h3 : a3 n = nI k) (hp : post (sd_sm a4 a5 (n * 16) k k)) : wpX_sumOf post (F, a1, a2, a3, a4, a5, a6, a7, a8, a9, a10, a11, a12) (nI n) := by
  have e : nI n * 16 + a3 (nI n).toNatClampNeg = nI (n * 16 + k) := by rw [nI_clamp (by omega), h3, sd_16a]
  refine ⟨pk_in n 3 hn, nm_r (e' := 7 + nI k) (by rw [nI_clamp (by omega), h3]) (nm_r (sd_16 n) ?_)⟩
  refine pk_loop (σ := Int32) (fun f i s => wX_sumOf_15 post (nI n) F a1 a2 a3 a4 a5 a6 a7 a8 a9 a10 a11 a12 f s (nI i)) (fun i s => n * 16 ≤ i ∧ s = sd_sm a4 a5 (n * 16) k (i - n * 16)) (n * 16 + k) (n * 16) (7 + nI k) (by omega) ⟨Nat.le_refl _, by rw [Nat.sub_self]; rfl⟩ ?_ ?_
  · intro f s hs
    refine ⟨pk_in n 3 hn, pk_le (n * 16 + k) (n * 16 + k) (fun _ => ?_) (fun z => absurd z (by omega)) e⟩
    rw [hs.2, show n * 16 + k - n * 16 = k by omega]
    exact hp
  · intro f i s hi hs hw
    have h0 := hs.1
    refine ⟨pk_in n 3 hn, pk_le (n * 16 + k) i (fun z => absurd z (by omega)) (fun _ => ⟨pk_in i 48 (by omega), nm_e ⟨pk_in i 48 (by omega), nm_e (nm_r (nI_1 i) (hw _ ⟨by omega, ?_⟩))⟩⟩) e⟩
    rw [nI_clamp (show i < 2 ^ 31 by omega), show i + 1 - n * 16 = (i - n * 16) + 1 by omega, hs.2]
    show _ = (sd_sm a4 a5 (n * 16) k (i - n * 16) * 31 + a4 (n * 16 + (i - n * 16))) * 31 + a5 (n * 16 + (i - n * 16))
    rw [show n * 16 + (i - n * 16) = i by omega]
theorem sd_mj {post : St2 → Prop} {F : Int32} {a1 a2 a3 a4 a5 a6 a7 a8 a9 a10 a11 a12 : Nat → Int32} {n k : Nat} (hn : n < 3) (hk : k ≤ 16) (h3 : a3 n = nI k) (hp : post (F, a1, a2, a3, a4, a5, upd a6 n (sd_sm a4 a5 (n * 16) k k), upd a7 n 1, a8, a9, a10, a11, a12)) : wpX_markJournal post (F, a1, a2, a3, a4, a5, a6, a7, a8, a9, a10, a11, a12) (nI n) :=
  sd_so hn hk h3 ⟨pk_in n 3 hn, sd_up n (by omega) ⟨pk_in n 3 hn, sd_up n (by omega) hp⟩⟩
theorem sd_ej {post : St2 → Prop} {F : Int32} {a1 a2 a3 a4 a5 a6 a7 a8 a9 a10 a11 a12 : Nat → Int32} {n : Nat} (hn : n < 3) (hp : post (F, a1, a2, upd a3 n 0, a4, a5, a6, upd a7 n 0, a8, a9, a10, a11, a12)) : wpX_emptyJournal post (F, a1, a2, a3, a4, a5, a6, a7, a8, a9, a10, a11, a12) (nI n) :=
  ⟨pk_in n 3 hn, sd_up n (by omega) ⟨pk_in n 3 hn, sd_up n (by omega) hp⟩⟩
/-! a journal brought home -/
theorem sd_bh {post : St2 → Prop} {F : Int32} {a1 a2 a3 a4 a5 a6 a7 a8 a9 a10 a11 a12 : Nat → Int32} {n k : Nat} (bl : Nat → Nat) (hn : n < 3) (hk : k ≤ 16) (h3 : a3 n = nI k) (h4 : ∀ t, t < k → a4 (n * 16 + t) = nI (bl t)) (hb : ∀ t, t < k → bl t < 16) (hi : ∀ s t, s < k → t < k → bl s = bl t → s = t)
    (hp : ∀ b2, (∀ t, t < k → b2 (bl t) = a5 (n * 16 + t)) → (∀ x, (∀ t, t < k → x ≠ bl t) → b2 x = a2 x) → post (F, a1, b2, upd a3 n 0, a4, a5, a6, upd a7 n 0, a8, a9, a10, a11, a12)) : wpX_bringHome post (F, a1, a2, a3, a4, a5, a6, a7, a8, a9, a10, a11, a12) (nI n) := by
  have e : nI n * 16 + a3 (nI n).toNatClampNeg = nI (n * 16 + k) := by rw [nI_clamp (by omega), h3, sd_16a]
  refine nm_r (sd_16 n) ?_
  refine pk_loop (σ := Nat → Int32) (fun f i s => wX_bringHome_5 post (nI n) F f (nI i) a1 s a3 a4 a5 a6 a7 a8 a9 a10 a11 a12) (fun i s => n * 16 ≤ i ∧ (∀ t, t < i - n * 16 → s (bl t) = a5 (n * 16 + t)) ∧ (∀ x, (∀ t, t < k → x ≠ bl t) → s x = a2 x)) (n * 16 + k) (n * 16) a2 (by omega) ⟨Nat.le_refl _, fun t ht => absurd ht (by omega), fun _ _ => rfl⟩ ?_ ?_
  · intro f s hs
    obtain ⟨_, g1, g2⟩ := hs
    rw [show n * 16 + k - n * 16 = k by omega] at g1
    exact ⟨pk_in n 3 hn, pk_le (n * 16 + k) (n * 16 + k) (fun _ => sd_ej hn (hp s g1 g2)) (fun z => absurd z (by omega)) e⟩
  · intro f i s hi' hs hw
    obtain ⟨g0, g1, g2⟩ := hs
    have e4 : a4 (nI i).toNatClampNeg = nI (bl (i - n * 16)) := by
      rw [nI_clamp (by omega), ← h4 (i - n * 16) (by omega), show n * 16 + (i - n * 16) = i by omega]
    have b16 := hb (i - n * 16) (by omega)
    refine ⟨pk_in n 3 hn, pk_le (n * 16 + k) i (fun z => absurd z (by omega)) (fun _ => ⟨pk_in i 48 (by omega), pk_in i 48 (by omega), pk_in (bl (i - n * 16)) 16 b16 e4, sd_up (bl (i - n * 16)) (by omega) (nm_r (nI_1 i) (hw _ ⟨by omega, ?_, ?_⟩)) e4⟩) e⟩
    · intro t ht
      rw [nI_clamp (show i < 2 ^ 31 by omega)]
      by_cases q : t = i - n * 16
      · rw [q, pk_us, show n * 16 + (i - n * 16) = i by omega]
      · rw [pk_un (fun w => q (hi t (i - n * 16) (by omega) (by omega) w))]
        exact g1 t (by omega)
    · intro x hx
      rw [pk_un (hx _ (by omega))]
      exact g2 x hx
/-! a node makes its writes safe -/
theorem sd_ms {post : Int32 → St2 → Prop} {a1 a2 a3 a4 a5 a6 a7 a8 a9 a10 a11 a12 : Nat → Int32} {n r : Nat} (d : Nat) (bl : Nat → Nat) (hn : n < 3) (hr : r ≤ 8) (hd : d ≤ r) (h3 : a3 n = nI 0)
    (h11 : ∀ i, n * 8 ≤ i → i < n * 8 + r → (a11 i = 0 ↔ n * 8 + d ≤ i)) (h9 : ∀ t, t < d → a9 (n * 8 + t) = nI (bl t)) (hb : ∀ t, t < d → bl t < 16) (hi : ∀ s t, s < d → t < d → bl s = bl t → s = t)
    (hp : ∀ b2 b3 b4 b5 b6 b7 b11, (∀ t, t < d → b2 (bl t) = a10 (n * 8 + t)) → b3 n = 0 → (∀ o, o ≠ n → b3 o = a3 o) → b7 n = 0 → (∀ o, o ≠ n → b7 o = a7 o) → (∀ t, n * 8 ≤ t → t < n * 8 + r → b11 t = 0) → (∀ t, t < n * 8 ∨ n * 8 + r ≤ t → b11 t = a11 t) →
      post (nI d) (nI r, a1, b2, b3, b4, b5, b6, b7, a8, a9, a10, b11, a12)) : wpX_makeSafe post (nI r, a1, a2, a3, a4, a5, a6, a7, a8, a9, a10, a11, a12) (nI n) := by
  refine sd_uc d hn hr hd h3 h11 ?_
  refine sd_fj d hn hr hd h3 h11 (fun s t hs ht e => ?_) ?_
  · rw [h9 s hs, h9 t ht, nI_eq (by have := hb s hs; omega) (by have := hb t ht; omega)] at e
    exact hi s t hs ht e
  · intro b3 b4 b5 b11 g1 g2 g3 g4 g5
    refine sd_mj (k := d) hn (by omega) g1 ?_
    refine sd_bh (k := d) bl hn (by omega) g1 (fun t ht => (g3 t ht).1.trans (h9 t ht)) hb hi (fun b2 q1 q2 => ?_)
    refine hp _ _ _ _ _ _ _ (fun t ht => (q1 t ht).trans (g3 t ht).2) pk_us (fun o ho => (pk_un ho).trans (g2 o ho)) pk_us (fun o ho => ?_) g4 g5
    rw [pk_un ho, pk_un ho]
end
section
/-! locks: from node o on, nobody is in the way -/
theorem sd_tk {post : St2 → Prop} {F : Int32} {a1 a2 a3 a4 a5 a6 a7 a8 a9 a10 a11 a12 : Nat → Int32} {m b : Nat} {md : Int32} (hm : m < 3) (hb : b < 16)
    (hp : ∀ b8, (∀ i, i ≠ m * 16 + b → b8 i = a8 i) → b8 (m * 16 + b) = (if md ≤ a8 (m * 16 + b) then a8 (m * 16 + b) else md) → post (F, a1, a2, a3, a4, a5, a6, a7, b8, a9, a10, a11, a12)) :
    ∀ f o, o + f = 3 → (∀ i, i < 3 → o ≤ i → i ≠ m → a8 (i * 16 + b) = 0) → wX_take_3 post (nI m) (nI b) md (f + 1) (nI o) F a1 a2 a3 a4 a5 a6 a7 a8 a9 a10 a11 a12 := by
  intro f
  induction f with
  | zero =>
    intro o ho h
    refine pk_le 3 o (fun _ => ?_) (fun z => absurd z (by omega))
    rw [sd_16a, nI_clamp (show m * 16 + b < 2 ^ 31 by omega)]
    exact ⟨pk_in (m * 16 + b) 48 (by omega), br_c (fun z => hp a8 (fun _ _ => rfl) (by rw [if_pos z])) (fun z => ⟨pk_in (m * 16 + b) 48 (by omega), nm_e (hp _ (fun i hi => pk_un hi) (by rw [pk_us, if_neg z]))⟩)⟩
  | succ f ih =>
    intro o ho h
    refine pk_le 3 o (fun z => absurd z (by omega)) (fun _ => pk_eq o m (fun e => nm_r (nI_1 o) (ih (o + 1) (by omega) (fun i i0 i1 => h i i0 (by omega)))) (fun e => ?_))
    exact ⟨pk_in (o * 16 + b) 48 (by omega) (sd_16a o b), br_t (by rw [sd_16a, nI_clamp (by omega)]; exact h o (by omega) (by omega) e) (nm_r (nI_1 o) (ih (o + 1) (by omega) (fun i i0 i1 => h i i0 (by omega))))⟩
/-- nobody ahead of node q is in the way -/
theorem sd_tp {post : St2 → Prop} {F : Int32} {a1 a2 a3 a4 a5 a6 a7 a8 a9 a10 a11 a12 : Nat → Int32} {m b q : Nat} {md : Int32} (hm : m < 3) (hb : b < 16) (hq : q < 3) (f : Nat) (hw : wX_take_3 post (nI m) (nI b) md f (nI q) F a1 a2 a3 a4 a5 a6 a7 a8 a9 a10 a11 a12) (h : ∀ i, i < q → i ≠ m → a8 (i * 16 + b) = 0) :
    ∀ k o, o + k = q → wX_take_3 post (nI m) (nI b) md (f + k) (nI o) F a1 a2 a3 a4 a5 a6 a7 a8 a9 a10 a11 a12 := by
  intro k
  induction k with
  | zero =>
    intro o ho
    have e : o = q := by omega
    rw [e]
    exact hw
  | succ k ih =>
    intro o ho
    refine pk_le 3 o (fun z => absurd z (by omega)) (fun _ => pk_eq o m (fun e => nm_r (nI_1 o) (ih (o + 1) (by omega))) (fun e => ?_))
    exact ⟨pk_in (o * 16 + b) 48 (by omega) (sd_16a o b), br_t (by rw [sd_16a, nI_clamp (by omega)]; exact h o (by omega) e) (nm_r (nI_1 o) (ih (o + 1) (by omega)))⟩
/-- a writer steps back from a reader -/
theorem sd_sb {post : St2 → Prop} {a1 a2 a3 a4 a5 a6 a7 a8 a9 a10 a11 a12 : Nat → Int32} {n r b : Nat} (d : Nat) (bl : Nat → Nat) (hn : n < 3) (hbb : b < 16) (hr : r ≤ 8) (hd0 : 0 < d) (hd : d ≤ r) (h3 : a3 n = nI 0)
    (h11 : ∀ i, n * 8 ≤ i → i < n * 8 + r → (a11 i = 0 ↔ n * 8 + d ≤ i)) (h9 : ∀ t, t < d → a9 (n * 8 + t) = nI (bl t)) (hb : ∀ t, t < d → bl t < 16) (hi : ∀ s t, s < d → t < d → bl s = bl t → s = t) (h0 : bl 0 = b)
    (hp : ∀ b2 b3 b4 b5 b6 b7 b11, (∀ t, t < d → b2 (bl t) = a10 (n * 8 + t)) → b3 n = 0 → (∀ o, o ≠ n → b3 o = a3 o) → b7 n = 0 → (∀ o, o ≠ n → b7 o = a7 o) → (∀ t, n * 8 ≤ t → t < n * 8 + r → b11 t = 0) → (∀ t, t < n * 8 ∨ n * 8 + r ≤ t → b11 t = a11 t) →
      post (nI r, a1, b2, b3, b4, b5, b6, b7, upd a8 (n * 16 + b) 1, a9, a10, b11, a12)) : wpX_stepBack post (nI r, a1, a2, a3, a4, a5, a6, a7, a8, a9, a10, a11, a12) (nI n) (nI b) 1 := by
  unfold wpX_stepBack
  refine sd_u1 (n * 8) hn hr h3 (Nat.le_refl _) (by omega) (fun i i0 i1 => absurd i1 (by omega)) (by have := h9 0 hd0; rw [h0] at this; exact this) (fun z => absurd ((h11 (n * 8) (Nat.le_refl _) (by omega)).mp z) (by omega)) ?_
  refine br_f (by decide) (sd_ms d bl hn hr hd h3 h11 h9 hb hi ?_)
  intro b2 b3 b4 b5 b6 b7 b11 q1 q2 q3 q4 q5 q6 q7
  exact br_f (by decide) ⟨pk_in (n * 16 + b) 48 (by omega) (sd_16a n b), sd_up (n * 16 + b) (by omega) (hp b2 b3 b4 b5 b6 b7 b11 q1 q2 q3 q4 q5 q6 q7) (sd_16a n b)⟩
/-! a block comes into the cache -/
theorem sd_fc {post : Int32 → St2 → Prop} {a1 a2 a3 a4 a5 a6 a7 a8 a9 a10 a11 a12 : Nat → Int32} {n r : Nat} (j : Nat) (hn : n < 3) (hr : r ≤ 8) (h0 : n * 8 ≤ j) (h1 : j < n * 8 + r) (h9 : ∀ i, n * 8 ≤ i → i < j → ¬ a9 i = -1) (hj : a9 j = -1) (hp : post (nI j) (nI r, a1, a2, a3, a4, a5, a6, a7, a8, a9, a10, a11, a12)) : wpX_freeCell post (nI r, a1, a2, a3, a4, a5, a6, a7, a8, a9, a10, a11, a12) (nI n) :=
  sd_cf j hn hr h0 h1 h9 hj (br_f (nI_pos (by omega)) hp)
theorem sd_bf {post : Int32 → St2 → Prop} {a1 a2 a3 a4 a5 a6 a7 a8 a9 a10 a11 a12 : Nat → Int32} {n r b : Nat} (j : Nat) (hn : n < 3) (hr : r ≤ 8) (h0 : n * 8 ≤ j) (h1 : j < n * 8 + r) (h9 : ∀ i, n * 8 ≤ i → i < j → ¬ a9 i = nI b) (hj : a9 j = nI b) (hp : post (nI j) (nI r, a1, a2, a3, a4, a5, a6, a7, a8, a9, a10, a11, a12)) : wpX_bringIn post (nI r, a1, a2, a3, a4, a5, a6, a7, a8, a9, a10, a11, a12) (nI n) (nI b) :=
  sd_cf j hn hr h0 h1 h9 hj (br_f (nI_pos (by omega)) hp)
theorem sd_bi {post : Int32 → St2 → Prop} {a1 a2 a3 a4 a5 a6 a7 a8 a9 a10 a11 a12 : Nat → Int32} {n r b : Nat} (j : Nat) (hn : n < 3) (hb : b < 16) (hr : r ≤ 8) (h3 : a3 n = nI 0) (hc : ∀ i, n * 8 ≤ i → i < n * 8 + r → ¬ a9 i = nI b) (h0 : n * 8 ≤ j) (h1 : j < n * 8 + r) (h9 : ∀ i, n * 8 ≤ i → i < j → ¬ a9 i = -1) (hj : a9 j = -1)
    (hp : post (nI j) (nI r, a1, a2, a3, a4, a5, a6, a7, a8, upd a9 j (nI b), upd a10 j (a2 b), a11, a12)) : wpX_bringIn post (nI r, a1, a2, a3, a4, a5, a6, a7, a8, a9, a10, a11, a12) (nI n) (nI b) := by
  refine sd_cn hn hr hc (br_t (by decide) (sd_fc j hn hr h0 h1 h9 hj (sd_jn hn (by omega) h3 (fun i h0 h1 => absurd h1 (by omega)) ⟨pk_in j 24 (by omega), sd_up j (by omega) (br_t (by decide) ⟨pk_in b 16 hb, pk_in j 24 (by omega), ?_⟩)⟩)))
  exact nm_r (e' := upd a10 j (a2 b)) (by rw [nI_clamp (show j < 2 ^ 31 by omega), nI_clamp (show b < 2 ^ 31 by omega)]) hp
theorem sd_nm {b : Nat} (hb : b < 16) : ¬ (-1 : Int32) = nI b := by
  intro e
  have := congrArg Int32.toInt e
  rw [nI_toInt (by omega)] at this
  have h : (-1 : Int32).toInt = -1 := by decide
  omega
/-! write: a block that isn't in the cache, d cells in use, all dirty -/
theorem sd_wn {post : Int32 → St2 → Prop} {a1 a2 a3 a4 a5 a6 a7 a8 a9 a10 a11 a12 : Nat → Int32} {n r b : Nat} {v : Int32} (d : Nat) (hn : n < 3) (hb : b < 16) (hr : r ≤ 8) (hd : d < r) (h1 : ¬ a1 n = 0) (h3 : a3 n = nI 0) (h8 : ∀ o, o < 3 → o ≠ n → a8 (o * 16 + b) = 0)
    (h9 : ∀ i, n * 8 ≤ i → i < n * 8 + d → ¬ a9 i = -1 ∧ ¬ a9 i = nI b) (h9' : ∀ i, n * 8 + d ≤ i → i < n * 8 + r → a9 i = -1) (h11 : ∀ i, n * 8 ≤ i → i < n * 8 + r → (a11 i = 0 ↔ n * 8 + d ≤ i))
    (hp : ∀ b8, (∀ i, i ≠ n * 16 + b → b8 i = a8 i) → b8 (n * 16 + b) = (if 2 ≤ a8 (n * 16 + b) then a8 (n * 16 + b) else 2) →
      post (nI (d + 1)) (nI r, a1, a2, a3, a4, a5, a6, a7, b8, upd a9 (n * 8 + d) (nI b), upd (upd a10 (n * 8 + d) (a2 b)) (n * 8 + d) v, upd a11 (n * 8 + d) 1, a12)) : wpX_write post (nI r, a1, a2, a3, a4, a5, a6, a7, a8, a9, a10, a11, a12) (nI n) (nI b) v := by
  unfold wpX_write
  refine sd_n1 hn (sd_b1 hb ⟨pk_in n 3 hn, br_f (by rw [nI_clamp (by omega)]; exact h1) ?_⟩)
  refine ⟨4, sd_tk hn hb (fun b8 q0 q1 => ?_) 3 0 rfl (fun i i0 _ i2 => h8 i i0 i2)⟩
  refine sd_bi (n * 8 + d) hn hb hr h3 (fun i i0 i1 => ?_) (by omega) (by omega) (fun i i0 i1 => (h9 i i0 i1).1) (h9' _ (Nat.le_refl _) (by omega)) ?_
  · rcases Nat.lt_or_ge i (n * 8 + d) with q | q
    · exact (h9 i i0 q).2
    · rw [h9' i q i1]
      exact sd_nm hb
  · refine ⟨pk_in (n * 8 + d) 24 (by omega), sd_up (n * 8 + d) (by omega) ⟨pk_in (n * 8 + d) 24 (by omega), sd_up (n * 8 + d) (by omega) ?_⟩⟩
    refine sd_uc (d + 1) hn hr (by omega) h3 (fun i i0 i1 => ?_) (hp b8 q0 q1)
    by_cases e : i = n * 8 + d
    · rw [e, pk_us]
      exact ⟨fun z => absurd z (by decide), fun z => absurd z (by omega)⟩
    · rw [pk_un e, h11 i i0 i1]
      omega
/-! write: a block in the dirty cell j -/
theorem sd_wo {post : Int32 → St2 → Prop} {a1 a2 a3 a4 a5 a6 a7 a8 a9 a10 a11 a12 : Nat → Int32} {n r b : Nat} {v : Int32} (d j : Nat) (hn : n < 3) (hb : b < 16) (hr : r ≤ 8) (hd : d ≤ r) (hj : j < d) (h1 : ¬ a1 n = 0) (h3 : a3 n = nI 0) (h8 : ∀ o, o < 3 → o ≠ n → a8 (o * 16 + b) = 0)
    (h9 : ∀ i, n * 8 ≤ i → i < n * 8 + j → ¬ a9 i = nI b) (h9' : a9 (n * 8 + j) = nI b) (h11 : ∀ i, n * 8 ≤ i → i < n * 8 + r → (a11 i = 0 ↔ n * 8 + d ≤ i))
    (hp : ∀ b8, (∀ i, i ≠ n * 16 + b → b8 i = a8 i) → b8 (n * 16 + b) = (if 2 ≤ a8 (n * 16 + b) then a8 (n * 16 + b) else 2) →
      post (nI d) (nI r, a1, a2, a3, a4, a5, a6, a7, b8, a9, upd a10 (n * 8 + j) v, upd a11 (n * 8 + j) 1, a12)) : wpX_write post (nI r, a1, a2, a3, a4, a5, a6, a7, a8, a9, a10, a11, a12) (nI n) (nI b) v := by
  unfold wpX_write
  refine sd_n1 hn (sd_b1 hb ⟨pk_in n 3 hn, br_f (by rw [nI_clamp (by omega)]; exact h1) ?_⟩)
  refine ⟨4, sd_tk hn hb (fun b8 q0 q1 => ?_) 3 0 rfl (fun i i0 _ i2 => h8 i i0 i2)⟩
  refine sd_bf (n * 8 + j) hn hr (by omega) (by omega) h9 h9' ?_
  refine ⟨pk_in (n * 8 + j) 24 (by omega), sd_up (n * 8 + j) (by omega) ⟨pk_in (n * 8 + j) 24 (by omega), sd_up (n * 8 + j) (by omega) ?_⟩⟩
  refine sd_uc d hn hr hd h3 (fun i i0 i1 => ?_) (hp b8 q0 q1)
  by_cases e : i = n * 8 + j
  · rw [e, pk_us]
    exact ⟨fun z => absurd z (by decide), fun z => absurd z (by omega)⟩
  · rw [pk_un e]
    exact h11 i i0 i1
/-! read by the node itself: the block lies in its first cell -/
theorem sd_rs {post : Int32 → St2 → Prop} {a1 a2 a3 a4 a5 a6 a7 a8 a9 a10 a11 a12 : Nat → Int32} {n r b : Nat} (hn : n < 3) (hb : b < 16) (hr : r ≤ 8) (hr0 : 0 < r) (h1 : ¬ a1 n = 0) (h8 : ∀ o, o < 3 → o ≠ n → a8 (o * 16 + b) = 0) (h9 : a9 (n * 8) = nI b)
    (hp : ∀ b8, post (a10 (n * 8)) (nI r, a1, a2, a3, a4, a5, a6, a7, b8, a9, a10, a11, a12)) : wpX_read post (nI r, a1, a2, a3, a4, a5, a6, a7, a8, a9, a10, a11, a12) (nI n) (nI b) := by
  unfold wpX_read
  refine sd_n1 hn (sd_b1 hb ⟨pk_in n 3 hn, br_f (by rw [nI_clamp (by omega)]; exact h1) ?_⟩)
  refine ⟨4, sd_tk hn hb (fun b8 q0 q1 => ?_) 3 0 rfl (fun i i0 _ i2 => h8 i i0 i2)⟩
  refine sd_bf (n * 8) hn hr (by omega) (by omega) (fun i i0 i1 => absurd i1 (by omega)) h9 ⟨pk_in (n * 8) 24 (by omega), ?_⟩
  rw [nI_clamp (by omega)]
  exact hp b8
/-! read by another node -/
theorem sd_ro {post : Int32 → St2 → Prop} {a1 a2 a3 a4 a5 a6 a7 a8 a9 a10 a11 a12 : Nat → Int32} {n m r b : Nat} (d : Nat) (bl : Nat → Nat) (hn : n < 3) (hm : m < 3) (hnm : m ≠ n) (hbb : b < 16) (hr : r ≤ 8) (hd0 : 0 < d) (hd : d ≤ r) (h1 : ¬ a1 m = 0) (h3 : ∀ o, o < 3 → a3 o = nI 0) (h7 : ∀ o, o < 3 → a7 o = 0)
    (h8 : ¬ a8 (n * 16 + b) = 0) (h8' : ∀ o, o < 3 → o ≠ n → a8 (o * 16 + b) = 0) (h9' : ∀ i, m * 8 ≤ i → i < m * 8 + r → a9 i = -1)
    (h11 : ∀ i, n * 8 ≤ i → i < n * 8 + r → (a11 i = 0 ↔ n * 8 + d ≤ i)) (h11' : ∀ i, i < 24 → i < n * 8 ∨ n * 8 + r ≤ i → a11 i = 0) (h9 : ∀ t, t < d → a9 (n * 8 + t) = nI (bl t)) (hb : ∀ t, t < d → bl t < 16) (hi : ∀ s t, s < d → t < d → bl s = bl t → s = t) (h0 : bl 0 = b)
    (hp : ∀ b2 b3 b4 b5 b6 b7 b8 b9 b10 b11, (∀ t, t < d → b2 (bl t) = a10 (n * 8 + t)) → (∀ o, o < 3 → b3 o = 0) → (∀ o, o < 3 → b7 o = 0) → (∀ i, i < 24 → b11 i = 0) →
      post (a10 (n * 8)) (nI r, a1, b2, b3, b4, b5, b6, b7, b8, b9, b10, b11, a12)) : wpX_read post (nI r, a1, a2, a3, a4, a5, a6, a7, a8, a9, a10, a11, a12) (nI m) (nI b) := by
  unfold wpX_read
  refine sd_n1 hm (sd_b1 hbb ⟨pk_in m 3 hm, br_f (by rw [nI_clamp (by omega)]; exact h1) ?_⟩)
  refine ⟨(2 - n + 1) + 1 + n, sd_tp hm hbb hn ((2 - n + 1) + 1) ?_ (fun i i0 i1 => h8' i (by omega) (by omega)) n 0 (by omega)⟩
  refine pk_le 3 n (fun z => absurd z (by omega)) (fun _ => pk_eq n m (fun e => absurd e.symm hnm) (fun e => ⟨pk_in (n * 16 + b) 48 (by omega) (sd_16a n b), br_f (by rw [sd_16a, nI_clamp (by omega)]; exact h8) ?_⟩))
  refine sd_sb d bl hn hbb hr hd0 hd (h3 n hn) h11 h9 hb hi h0 ?_
  intro b2 b3 b4 b5 b6 b7 b11 q1 q2 q3 q4 q5 q6 q7
  have q3' : ∀ o, o < 3 → b3 o = 0 := by
    intro o ho
    by_cases e : o = n
    · rw [e]
      exact q2
    · exact (q3 o e).trans (h3 o ho)
  have q5' : ∀ o, o < 3 → b7 o = 0 := by
    intro o ho
    by_cases e : o = n
    · rw [e]
      exact q4
    · exact (q5 o e).trans (h7 o ho)
  have q7' : ∀ i, i < 24 → b11 i = 0 := by
    intro i hi'
    by_cases e : i < n * 8 ∨ n * 8 + r ≤ i
    · exact (q7 i e).trans (h11' i hi' e)
    · exact q6 i (by omega) (by omega)
  refine nm_r (nI_1 n) (sd_tk hm hbb (fun b8 g0 g1 => ?_) (2 - n) (n + 1) (by omega) (fun i i0 i1 i2 => ?_))
  rotate_left
  · rw [pk_un (by omega)]
    exact h8' i i0 (by omega)
  refine sd_bi (m * 8) hm hbb hr (q3' m hm) (fun i i0 i1 => by rw [h9' i i0 i1]; exact sd_nm hbb) (Nat.le_refl _) (by omega) (fun i i0 i1 => absurd i1 (by omega)) (h9' _ (Nat.le_refl _) (by omega)) ⟨pk_in (m * 8) 24 (by omega), ?_⟩
  rw [nI_clamp (by omega), pk_us]
  have e := q1 0 hd0
  rw [h0] at e
  rw [e]
  exact hp _ _ _ _ _ _ _ _ _ _ q1 q3' q5' q7'
end
section
/-! a node dies: its cells dropped, its locks freed -/
theorem sd_dl {post : St2 → Prop} {F : Int32} {a1 a2 a3 a4 a5 a6 a7 a8 a9 a10 a11 a12 : Nat → Int32} {n : Nat} (hn : n < 3)
    (H : ∀ b9 b11, (∀ t, n * 8 ≤ t → t < n * 8 + 8 → b11 t = 0) → (∀ t, t < n * 8 ∨ n * 8 + 8 ≤ t → b11 t = a11 t) → ∀ f, wX_die_12 post (nI n) (f + 1) (nI (n * 8 + 8)) F a1 a2 a3 a4 a5 a6 a7 a8 b9 a10 b11 a12) :
    ∃ f, wX_die_12 post (nI n) f (nI (n * 8)) F a1 a2 a3 a4 a5 a6 a7 a8 a9 a10 a11 a12 := by
  refine pk_loop (σ := (Nat → Int32) × (Nat → Int32)) (fun f i s => wX_die_12 post (nI n) f (nI i) F a1 a2 a3 a4 a5 a6 a7 a8 (s.1) a10 (s.2) a12) (fun i s => n * 8 ≤ i ∧ (∀ t, n * 8 ≤ t → t < i → s.2 t = 0) ∧ (∀ t, t < n * 8 ∨ i ≤ t → s.2 t = a11 t)) (n * 8 + 8) (n * 8) (a9, a11) (by omega) ⟨Nat.le_refl _, fun t t0 t1 => absurd t1 (by omega), fun _ _ => rfl⟩ ?_ ?_
  · intro f s hs
    exact H s.1 s.2 hs.2.1 hs.2.2 f
  · intro f i s hi hs hw
    obtain ⟨g0, g1, g2⟩ := hs
    refine pk_le (n * 8 + 8) i (fun z => absurd z (by omega)) (fun _ => sd_dc i (by omega) (nm_r (nI_1 i) (hw (upd s.1 i (-1), upd s.2 i 0) ⟨by omega, ?_, ?_⟩))) (sd_8a n 8)
    · intro t t0 t1
      show upd s.2 i 0 t = 0
      by_cases e : t = i
      · rw [e, pk_us]
      · rw [pk_un e]
        exact g1 t t0 (by omega)
    · intro t ht
      show upd s.2 i 0 t = a11 t
      rw [pk_un (by omega)]
      exact g2 t (by omega)
theorem sd_ll {post : St2 → Prop} {F : Int32} {a1 a2 a3 a4 a5 a6 a7 a8 a9 a10 a11 a12 : Nat → Int32} {n : Nat} (hn : n < 3) (hp : ∀ b8, post (F, a1, a2, a3, a4, a5, a6, a7, b8, a9, a10, a11, a12)) : ∃ f, wX_die_59 post (nI n) F f 0 a1 a2 a3 a4 a5 a6 a7 a8 a9 a10 a11 a12 :=
  pk_loop (σ := Nat → Int32) (fun f i s => wX_die_59 post (nI n) F f (nI i) a1 a2 a3 a4 a5 a6 a7 s a9 a10 a11 a12) (fun _ _ => True) 16 0 a8 (by omega) trivial
    (fun f s _ => pk_le 16 16 (fun _ => hp s) (fun z => absurd z (by omega)))
    (fun f i s hi _ hw => pk_le 16 i (fun z => absurd z (by omega)) (fun _ => ⟨pk_in (n * 16 + i) 48 (by omega) (sd_16a n i), nm_e (nm_r (nI_1 i) (hw _ trivial))⟩))
/-- its journal isn't marked -/
theorem sd_d0 {post : St2 → Prop} {F : Int32} {a1 a2 a3 a4 a5 a6 a7 a8 a9 a10 a11 a12 : Nat → Int32} {n : Nat} (hn : n < 3) (h7 : a7 n = 0)
    (hp : ∀ b8 b9 b11, (∀ t, n * 8 ≤ t → t < n * 8 + 8 → b11 t = 0) → (∀ t, t < n * 8 ∨ n * 8 + 8 ≤ t → b11 t = a11 t) → post (F, upd a1 n 0, a2, upd a3 n 0, a4, a5, a6, upd a7 n 0, b8, b9, a10, b11, a12)) : wpX_die post (F, a1, a2, a3, a4, a5, a6, a7, a8, a9, a10, a11, a12) (nI n) := by
  refine ⟨pk_in n 3 hn, sd_up n (by omega) (nm_r (sd_8 n) (sd_dl hn (fun b9 b11 q1 q2 f => ?_)))⟩
  refine pk_le (n * 8 + 8) (n * 8 + 8) (fun _ => ⟨pk_in n 3 hn, br_t (by rw [nI_clamp (by omega)]; exact h7) (br_t rfl (sd_ej hn (sd_ll hn (fun b8 => hp b8 b9 b11 q1 q2))))⟩) (fun z => absurd z (by omega)) (sd_8a n 8)
/-- its journal is whole -/
theorem sd_d1 {post : St2 → Prop} {F : Int32} {a1 a2 a3 a4 a5 a6 a7 a8 a9 a10 a11 a12 : Nat → Int32} {n k : Nat} (bl : Nat → Nat) (hn : n < 3) (hk : k ≤ 16) (h7 : ¬ a7 n = 0) (h6 : a6 n = sd_sm a4 a5 (n * 16) k k) (h3 : a3 n = nI k) (h4 : ∀ t, t < k → a4 (n * 16 + t) = nI (bl t)) (hb : ∀ t, t < k → bl t < 16) (hi : ∀ s t, s < k → t < k → bl s = bl t → s = t)
    (hp : ∀ b2 b8 b9 b11, (∀ t, t < k → b2 (bl t) = a5 (n * 16 + t)) → (∀ x, (∀ t, t < k → x ≠ bl t) → b2 x = a2 x) → (∀ t, n * 8 ≤ t → t < n * 8 + 8 → b11 t = 0) → (∀ t, t < n * 8 ∨ n * 8 + 8 ≤ t → b11 t = a11 t) → post (F, upd a1 n 0, b2, upd a3 n 0, a4, a5, a6, upd a7 n 0, b8, b9, a10, b11, a12)) : wpX_die post (F, a1, a2, a3, a4, a5, a6, a7, a8, a9, a10, a11, a12) (nI n) := by
  refine ⟨pk_in n 3 hn, sd_up n (by omega) (nm_r (sd_8 n) (sd_dl hn (fun b9 b11 q1 q2 f => ?_)))⟩
  refine pk_le (n * 8 + 8) (n * 8 + 8) (fun _ => ⟨pk_in n 3 hn, br_f (by rw [nI_clamp (by omega)]; exact h7) (sd_so hn hk h3 ⟨pk_in n 3 hn, br_t (by rw [nI_clamp (by omega)]; exact h6.symm) (br_f (by decide) ?_)⟩)⟩) (fun z => absurd z (by omega)) (sd_8a n 8)
  exact sd_bh bl hn hk h3 h4 hb hi (fun b2 g1 g2 => sd_ll hn (fun b8 => hp b2 b8 b9 b11 g1 g2 q1 q2))
/-! a crash amid a sync -/
theorem sd_cr {post : Int32 → St2 → Prop} {a1 a2 a3 a4 a5 a6 a7 a8 a9 a10 a11 a12 : Nat → Int32} {n r : Nat} {late : Int32} (d : Nat) (bl : Nat → Nat) (hn : n < 3) (hr : r ≤ 8) (hd : d ≤ r) (h1 : ¬ a1 n = 0) (h3 : ∀ o, o < 3 → a3 o = 0) (h7 : ∀ o, o < 3 → a7 o = 0)
    (h11 : ∀ i, n * 8 ≤ i → i < n * 8 + r → (a11 i = 0 ↔ n * 8 + d ≤ i)) (h11' : ∀ i, i < 24 → i < n * 8 ∨ n * 8 + r ≤ i → a11 i = 0) (h9 : ∀ t, t < d → a9 (n * 8 + t) = nI (bl t)) (hb : ∀ t, t < d → bl t < 16) (hi : ∀ s t, s < d → t < d → bl s = bl t → s = t)
    (hp : ∀ b2 b3 b4 b5 b6 b7 b8 b9 b11, (late = 0 → b2 = a2) → (¬ late = 0 → (∀ t, t < d → b2 (bl t) = a10 (n * 8 + t)) ∧ (∀ x, (∀ t, t < d → x ≠ bl t) → b2 x = a2 x)) → (∀ o, o < 3 → b3 o = 0) → (∀ i, i < 24 → b11 i = 0) →
      post (nI d) (nI r, upd a1 n 0, b2, b3, b4, b5, b6, b7, b8, b9, a10, b11, a12)) : wpX_crashInSync post (nI r, a1, a2, a3, a4, a5, a6, a7, a8, a9, a10, a11, a12) (nI n) late := by
  unfold wpX_crashInSync
  refine sd_n1 hn ⟨pk_in n 3 hn, br_f (by rw [nI_clamp (by omega)]; exact h1) ?_⟩
  refine sd_uc d hn hr hd (h3 n hn) h11 ?_
  refine sd_fj d hn hr hd (h3 n hn) h11 (fun s t hs ht e => ?_) ?_
  · rw [h9 s hs, h9 t ht, nI_eq (by have := hb s hs; omega) (by have := hb t ht; omega)] at e
    exact hi s t hs ht e
  intro b3 b4 b5 b11 g1 g2 g3 g4 g5
  have k3 : ∀ o, o < 3 → upd b3 n 0 o = 0 := by
    intro o ho
    by_cases e : o = n
    · rw [e, pk_us]
    · rw [pk_un e, g2 o e]
      exact h3 o ho
  have k11 : ∀ c11 : Nat → Int32, (∀ t, n * 8 ≤ t → t < n * 8 + 8 → c11 t = 0) → (∀ t, t < n * 8 ∨ n * 8 + 8 ≤ t → c11 t = b11 t) → ∀ i, i < 24 → c11 i = 0 := by
    intro c11 w1 w2 i i0
    by_cases e : i < n * 8 ∨ n * 8 + 8 ≤ i
    · rw [w2 i e, g5 i (by omega)]
      exact h11' i i0 (by omega)
    · exact w1 i (by omega) (by omega)
  refine br_c (fun z => sd_d0 hn (h7 n hn) (fun b8 b9 c11 w1 w2 => ?_)) (fun z => sd_mj (k := d) hn (by omega) g1 (sd_d1 (k := d) bl hn (by omega) (by rw [pk_us]; decide) pk_us g1 (fun t ht => (g3 t ht).1.trans (h9 t ht)) hb hi (fun b2 b8 b9 c11 v1 v2 w1 w2 => ?_)))
  · exact hp _ _ _ _ _ _ _ _ _ (fun _ => rfl) (fun y => absurd z y) k3 (k11 c11 w1 w2)
  · exact hp _ _ _ _ _ _ _ _ _ (fun y => absurd y z) (fun _ => ⟨fun t ht => (v1 t ht).trans (g3 t ht).2, v2⟩) k3 (k11 c11 w1 w2)
/-! questions -/
theorem sd_oc {post : Int32 → Prop} {a1 a2 a3 a4 a5 a6 a7 a8 a9 a10 a11 a12 : Nat → Int32} {r : Nat} {x : Int32} (hr : r ≤ 8) (h3 : ∀ o, o < 3 → a3 o = 0) (h11 : ∀ i, i < 24 → a11 i = 0) (hp : post (-4)) : wpX_ownerOf post (nI r, a1, a2, a3, a4, a5, a6, a7, a8, a9, a10, a11, a12) x :=
  pk_loop (σ := Unit) (fun f i _ => wX_ownerOf_2 post x (nI r) a1 a2 a3 a4 a5 a6 a7 a8 a9 a10 a11 a12 f (nI i)) (fun _ _ => True) 3 0 () (by omega) trivial
    (fun f _ _ => pk_le 3 3 (fun _ => hp) (fun z => absurd z (by omega)))
    (fun f i _ hi _ hw => pk_le 3 i (fun z => absurd z (by omega)) (fun _ => sd_u0 hi hr (h3 i hi) (fun t _ t1 => h11 t (by omega)) (br_t rfl (nm_r (nI_1 i) (hw () trivial)))))
theorem sd_on {post : Int32 → Prop} {a1 a2 a3 a4 a5 a6 a7 a8 a9 a10 a11 a12 : Nat → Int32} {n r : Nat} {x : Int32} (hn : n < 3) (hr : r ≤ 8) (hr0 : 0 < r) (h3 : ∀ o, o < 3 → a3 o = 0) (h11' : ∀ i, i < n * 8 → a11 i = 0) (h9 : a9 (n * 8) = x) (h11 : ¬ a11 (n * 8) = 0) (hp : post (nI n)) : wpX_ownerOf post (nI r, a1, a2, a3, a4, a5, a6, a7, a8, a9, a10, a11, a12) x :=
  pk_loop (σ := Unit) (fun f i _ => wX_ownerOf_2 post x (nI r) a1 a2 a3 a4 a5 a6 a7 a8 a9 a10 a11 a12 f (nI i)) (fun _ _ => True) n 0 () (by omega) trivial
    (fun f _ _ => pk_le 3 n (fun z => absurd z (by omega)) (fun _ => sd_u1 (n * 8) hn hr (h3 n hn) (Nat.le_refl _) (by omega) (fun i i0 i1 => absurd i1 (by omega)) h9 h11 (br_f (by decide) hp)))
    (fun f i _ hi _ hw => pk_le 3 i (fun z => absurd z (by omega)) (fun _ => sd_u0 (by omega) hr (h3 i (by omega)) (fun t _ t1 => h11' t (by omega)) (br_t rfl (nm_r (nI_1 i) (hw () trivial)))))
theorem sd_ow {post : Int32 → Prop} {F : Int32} {a1 a2 a3 a4 a5 a6 a7 a8 a9 a10 a11 a12 : Nat → Int32} {b : Nat} (hb : b < 16) (hp : wpX_ownerOf post (F, a1, a2, a3, a4, a5, a6, a7, a8, a9, a10, a11, a12) (nI b)) : wpX_owner post (F, a1, a2, a3, a4, a5, a6, a7, a8, a9, a10, a11, a12) (nI b) := by
  unfold wpX_owner
  exact sd_b1 hb hp
theorem sd_ct {post : Int32 → Prop} {a1 a2 a3 a4 a5 a6 a7 a8 a9 a10 a11 a12 : Nat → Int32} {r b : Nat} (hb : b < 16) (hr : r ≤ 8) (h3 : ∀ o, o < 3 → a3 o = 0) (h11 : ∀ i, i < 24 → a11 i = 0) (hp : post (a2 b)) : wpX_content post (nI r, a1, a2, a3, a4, a5, a6, a7, a8, a9, a10, a11, a12) (nI b) := by
  unfold wpX_content
  refine sd_b1 hb (sd_oc hr h3 h11 (br_f (by decide) ⟨pk_in b 16 hb, ?_⟩))
  rw [nI_clamp (by omega)]
  exact hp
theorem sd_sf {post : Int32 → Prop} {F : Int32} {a1 a2 a3 a4 a5 a6 a7 a8 a9 a10 a11 a12 : Nat → Int32} {b : Nat} (hb : b < 16) (hp : post (a2 b)) : wpX_safe post (F, a1, a2, a3, a4, a5, a6, a7, a8, a9, a10, a11, a12) (nI b) := by
  unfold wpX_safe
  refine sd_b1 hb ⟨pk_in b 16 hb, ?_⟩
  rw [nI_clamp (by omega)]
  exact hp
theorem sd_pu {post : Int32 → Prop} {F : Int32} {a1 a2 a3 a4 a5 a6 a7 a8 a9 a10 a11 a12 : Nat → Int32} {n : Nat} (hn : n < 3) (h1 : a1 n = 0) (hp : post 0) : wpX_up post (F, a1, a2, a3, a4, a5, a6, a7, a8, a9, a10, a11, a12) (nI n) := by
  unfold wpX_up
  exact sd_n1 hn ⟨pk_in n 3 hn, br_t (by rw [nI_clamp (by omega)]; exact h1) hp⟩
theorem sd_us {post : Int32 → Prop} {a1 a2 a3 a4 a5 a6 a7 a8 a9 a10 a11 a12 : Nat → Int32} {n r : Nat} (hn : n < 3) (hr : r ≤ 8) (h3 : ∀ o, o < 3 → a3 o = 0) (h11 : ∀ i, i < 24 → a11 i = 0) (hp : post 0) : wpX_unsafe post (nI r, a1, a2, a3, a4, a5, a6, a7, a8, a9, a10, a11, a12) (nI n) := by
  unfold wpX_unsafe
  exact sd_n1 hn (sd_uc 0 hn hr (by omega) (h3 n hn) (fun i i0 i1 => ⟨fun _ => by omega, fun _ => h11 i (by omega)⟩) hp)
end
section
/-! the law's end: all clean, node n down -/
theorem sd_253 {post : Int32 → St0 → Prop} {mc ms kc ks : Nat} {a1 a2 a3 a4 a5 a6 a7 a8 a9 a10 a11 a12 : Nat → Int32} {n b c r : Nat} {w x10 z0 : Int32} (hn : n < 3) (hb : b < 16) (hc : c < 16) (hr : r ≤ 8) (h1 : a1 n = 0) (h3 : ∀ o, o < 3 → a3 o = 0) (h11 : ∀ i, i < 24 → a11 i = 0)
    (hz : z0 = 0 → a2 b = 0 ∧ a2 c = 0) (hz' : ¬ z0 = 0 → a2 b = x10 ∧ a2 c = w) (hp : post 1 ()) : wL_lawOf_253 post mc ms w (nI n) (nI b) (nI c) x10 z0 kc ks (nI r) a1 a2 a3 a4 a5 a6 a7 a8 a9 a10 a11 a12 := by
  have L : ∀ y, a2 c = y → wL_lawOf_293 post mc ms (nI n) y (a2 c) kc ks (nI r) a1 a2 a3 a4 a5 a6 a7 a8 a9 a10 a11 a12 := fun y e => br_t e (sd_pu hn h1 (br_t rfl (sd_us hn hr h3 h11 (br_t rfl hp))))
  exact sd_ct hb hr h3 h11 (br_c (fun z => br_t (hz z).1 (sd_ct hc hr h3 h11 (br_t z (L 0 (hz z).2)))) (fun z => br_t (hz' z).1 (sd_ct hc hr h3 h11 (br_f z (L w (hz' z).2)))))
/-! from the crash on -/
theorem sd_220 {post : Int32 → St0 → Prop} {mc ms kc ks : Nat} {a1 a2 a3 a4 a5 a6 a7 a8 a9 a10 a11 a12 : Nat → Int32} {n b c r : Nat} {w x10 x11 late z0 : Int32} (d : Nat) (bl : Nat → Nat) (hn : n < 3) (hb : b < 16) (hc : c < 16) (hr : r ≤ 8) (hd : d ≤ r) (h1 : ¬ a1 n = 0) (h3 : ∀ o, o < 3 → a3 o = 0) (h7 : ∀ o, o < 3 → a7 o = 0)
    (h11 : ∀ i, n * 8 ≤ i → i < n * 8 + r → (a11 i = 0 ↔ n * 8 + d ≤ i)) (h11' : ∀ i, i < 24 → i < n * 8 ∨ n * 8 + r ≤ i → a11 i = 0) (h9 : ∀ t, t < d → a9 (n * 8 + t) = nI (bl t)) (hbl : ∀ t, t < d → bl t < 16) (hi : ∀ s t, s < d → t < d → bl s = bl t → s = t)
    (hk0 : x11 = 0 → a2 b = 0 ∧ a2 c = 0 ∧ (∃ t, t < d ∧ bl t = b ∧ a10 (n * 8 + t) = x10) ∧ (∃ t, t < d ∧ bl t = c ∧ a10 (n * 8 + t) = w)) (hk1 : ¬ x11 = 0 → d = 0 ∧ a2 b = x10 ∧ a2 c = w)
    (hz : z0 = nI d) (hp : post 1 ()) : wL_lawOf_220 post mc ms w (nI n) (nI b) (nI c) x10 x11 late z0 kc ks (nI r) a1 a2 a3 a4 a5 a6 a7 a8 a9 a10 a11 a12 := by
  refine sd_cr d bl hn hr hd h1 h3 h7 h11 h11' h9 hbl hi ?_
  intro b2 b3 b4 b5 b6 b7 b8 b9 b11 q0 q1 q3 q11
  refine br_t hz.symm (br_c (fun y => br_c (fun z => ?_) (fun z => ?_)) (fun y => ?_))
  · rw [q0 z]
    exact sd_253 hn hb hc hr pk_us q3 q11 (fun _ => ⟨(hk0 y).1, (hk0 y).2.1⟩) (fun g => absurd rfl g) hp
  · obtain ⟨_, _, ⟨t, t0, t1, t2⟩, ⟨s, s0, s1, s2⟩⟩ := hk0 y
    have g := (q1 z).1
    refine sd_253 hn hb hc hr pk_us q3 q11 (fun g => absurd g (by decide)) (fun _ => ⟨?_, ?_⟩) hp
    · rw [← t1, g t t0, t2]
    · rw [← s1, g s s0, s2]
  · obtain ⟨d0, e1, e2⟩ := hk1 y
    have g : ∀ x, b2 x = a2 x := by
      intro x
      by_cases z : late = 0
      · rw [q0 z]
      · exact (q1 z).2 x (fun t ht => absurd ht (by omega))
    exact sd_253 hn hb hc hr pk_us q3 q11 (fun g => absurd g (by decide)) (fun _ => ⟨(g b).trans e1, (g c).trans e2⟩) hp
/-! behind the read: another node has read -/
theorem sd_142s {post : Int32 → St0 → Prop} {mc ms kc ks : Nat} {a1 a2 a3 a4 a5 a6 a7 a8 a9 a10 a11 a12 : Nat → Int32} {n b c r : Nat} {w how x9 x10 : Int32} (hn : n < 3) (hb : b < 16) (hc : c < 16) (hr : r ≤ 8) (h1 : ¬ a1 n = 0) (h3 : ∀ o, o < 3 → a3 o = 0) (h7 : ∀ o, o < 3 → a7 o = 0) (h11 : ∀ i, i < 24 → a11 i = 0)
    (e1 : a2 b = x10) (e2 : a2 c = w) (hp : post 1 ()) : wL_lawOf_142 post mc ms w how (nI n) (nI b) (nI c) x9 x10 1 kc ks (nI r) a1 a2 a3 a4 a5 a6 a7 a8 a9 a10 a11 a12 := by
  have L : ∀ late, wL_lawOf_199 post mc ms w (nI n) (nI b) (nI c) x9 x10 1 late kc ks (nI r) a1 a2 a3 a4 a5 a6 a7 a8 a9 a10 a11 a12 := fun late =>
    br_f (by decide) (sd_220 0 (fun _ => 0) hn hb hc hr (by omega) h1 h3 h7 (fun i i0 i1 => ⟨fun _ => by omega, fun _ => h11 i (by omega)⟩) (fun i i0 _ => h11 i i0) (fun t ht => absurd ht (by omega)) (fun t ht => absurd ht (by omega)) (fun s t hs => absurd hs (by omega)) (fun z => absurd z (by decide)) (fun _ => ⟨rfl, e1, e2⟩) rfl hp)
  exact sd_sf hc (br_f (by decide) (br_t e2 (sd_ow hb (sd_oc hr h3 h11 (br_f (by decide) (br_t rfl (br_c (fun _ => L 0) (fun _ => L 1))))))))
/-! behind the read: the node itself has read -/
theorem sd_142u {post : Int32 → St0 → Prop} {mc ms kc ks : Nat} {a1 a2 a3 a4 a5 a6 a7 a8 a9 a10 a11 a12 : Nat → Int32} {n b c r : Nat} {w how x9 x10 : Int32} (d : Nat) (bl : Nat → Nat) (hn : n < 3) (hb : b < 16) (hc : c < 16) (hr : r ≤ 8) (hd0 : 0 < d) (hd : d ≤ r) (h1 : ¬ a1 n = 0) (h2 : ∀ x, x < 16 → a2 x = 0) (h3 : ∀ o, o < 3 → a3 o = 0) (h7 : ∀ o, o < 3 → a7 o = 0)
    (h11 : ∀ i, n * 8 ≤ i → i < n * 8 + r → (a11 i = 0 ↔ n * 8 + d ≤ i)) (h11' : ∀ i, i < 24 → i < n * 8 ∨ n * 8 + r ≤ i → a11 i = 0) (h9 : ∀ t, t < d → a9 (n * 8 + t) = nI (bl t)) (hbl : ∀ t, t < d → bl t < 16) (hi : ∀ s t, s < d → t < d → bl s = bl t → s = t) (h0 : bl 0 = b)
    (hx : a10 (n * 8) = x10) (hcx : ∃ t, t < d ∧ bl t = c ∧ a10 (n * 8 + t) = w) (hd2 : x9 = 0 → d = 2) (hd1 : ¬ x9 = 0 → d = 1) (hp : post 1 ()) : wL_lawOf_142 post mc ms w how (nI n) (nI b) (nI c) x9 x10 0 kc ks (nI r) a1 a2 a3 a4 a5 a6 a7 a8 a9 a10 a11 a12 := by
  have K : ∀ late z0, z0 = nI d → wL_lawOf_220 post mc ms w (nI n) (nI b) (nI c) x10 0 late z0 kc ks (nI r) a1 a2 a3 a4 a5 a6 a7 a8 a9 a10 a11 a12 := fun late z0 hz =>
    sd_220 d bl hn hb hc hr hd h1 h3 h7 h11 h11' h9 hbl hi (fun _ => ⟨h2 b hb, h2 c hc, ⟨0, hd0, h0, hx⟩, hcx⟩) (fun z => absurd rfl z) hz hp
  have L : ∀ late, wL_lawOf_199 post mc ms w (nI n) (nI b) (nI c) x9 x10 0 late kc ks (nI r) a1 a2 a3 a4 a5 a6 a7 a8 a9 a10 a11 a12 := fun late =>
    br_t rfl (br_c (fun y => K late 2 (by rw [hd2 y]; rfl)) (fun y => K late 1 (by rw [hd1 y]; rfl)))
  have e9 : a9 (n * 8) = nI b := by
    have := h9 0 hd0
    rw [h0] at this
    exact this
  exact sd_sf hc (br_t rfl (br_t (h2 c hc) (sd_ow hb (sd_on hn hr (by omega) h3 (fun i i0 => h11' i (by omega) (Or.inl i0)) e9 (fun z => absurd ((h11 (n * 8) (Nat.le_refl _) (by omega)).mp z) (by omega)) (br_t rfl (br_t rfl (br_c (fun _ => L 0) (fun _ => L 1))))))))
/-! from the read on -/
theorem sd_112 {post : Int32 → St0 → Prop} {mc ms kc ks : Nat} {a1 a2 a3 a4 a5 a6 a7 a8 a9 a10 a11 a12 : Nat → Int32} {n m b c r : Nat} {w how x9 x10 : Int32} (d : Nat) (bl : Nat → Nat) (hn : n < 3) (hm : m < 3) (hb : b < 16) (hc : c < 16) (hr : r ≤ 8) (hd0 : 0 < d) (hd : d ≤ r) (h1 : ∀ o, o < 3 → ¬ a1 o = 0) (h2 : ∀ x, x < 16 → a2 x = 0) (h3 : ∀ o, o < 3 → a3 o = 0) (h7 : ∀ o, o < 3 → a7 o = 0)
    (h8 : ¬ a8 (n * 16 + b) = 0) (h8' : ∀ o, o < 3 → o ≠ n → a8 (o * 16 + b) = 0) (h9' : ∀ i, i < 24 → i < n * 8 ∨ n * 8 + 8 ≤ i → a9 i = -1)
    (h11 : ∀ i, n * 8 ≤ i → i < n * 8 + r → (a11 i = 0 ↔ n * 8 + d ≤ i)) (h11' : ∀ i, i < 24 → i < n * 8 ∨ n * 8 + r ≤ i → a11 i = 0) (h9 : ∀ t, t < d → a9 (n * 8 + t) = nI (bl t)) (hbl : ∀ t, t < d → bl t < 16) (hi : ∀ s t, s < d → t < d → bl s = bl t → s = t) (h0 : bl 0 = b)
    (hx : a10 (n * 8) = x10) (hcx : ∃ t, t < d ∧ bl t = c ∧ a10 (n * 8 + t) = w) (hd2 : x9 = 0 → d = 2) (hd1 : ¬ x9 = 0 → d = 1) (hp : post 1 ()) : wL_lawOf_112 post mc ms w how (nI n) (nI m) (nI b) (nI c) x9 x10 kc ks (nI r) a1 a2 a3 a4 a5 a6 a7 a8 a9 a10 a11 a12 := by
  by_cases e : m = n
  · rw [e]
    have e9 : a9 (n * 8) = nI b := by
      have := h9 0 hd0
      rw [h0] at this
      exact this
    exact sd_rs hn hb hr (by omega) (h1 n hn) h8' e9 (fun b8 => br_t hx (br_t rfl (sd_142u d bl hn hb hc hr hd0 hd (h1 n hn) h2 h3 h7 h11 h11' h9 hbl hi h0 hx hcx hd2 hd1 hp)))
  · refine sd_ro d bl hn hm e hb hr hd0 hd (h1 m hm) h3 h7 h8 h8' (fun i i0 i1 => h9' i (by omega) (by omega)) h11 h11' h9 hbl hi h0 ?_
    intro b2 b3 b4 b5 b6 b7 b8 b9 b10 b11 q1 q3 q7 q11
    refine br_t hx (br_f (fun z => e ((nI_eq (by omega) (by omega)).mp z)) (sd_142s hn hb hc hr (h1 n hn) q3 q7 q11 ?_ ?_ hp))
    · have := q1 0 hd0
      rw [h0] at this
      exact this.trans hx
    · obtain ⟨t, t0, t1, t2⟩ := hcx
      rw [← t1, q1 t t0, t2]
end
section
/-! the two writes -/
theorem sd_61 {post : Int32 → St0 → Prop} {mc ms kc ks : Nat} {a1 a2 a3 a4 a5 a6 a7 a8 a9 a10 a11 a12 : Nat → Int32} {n m b c r : Nat} {v w how z0 : Int32} (hn : n < 3) (hm : m < 3) (hb : b < 16) (hc : c < 16) (hr2 : 2 ≤ r) (hr : r ≤ 8) (h1 : ∀ o, o < 3 → ¬ a1 o = 0) (h2 : ∀ x, a2 x = 0) (h3 : ∀ o, a3 o = 0) (h7 : ∀ o, a7 o = 0)
    (h8 : ∀ i, a8 i = 0) (h9 : ∀ i, i < 24 → a9 i = -1) (h11 : ∀ i, a11 i = 0) (hz : z0 = 0 → b ≠ c) (hz' : ¬ z0 = 0 → b = c) (hp : post 1 ()) : wL_lawOf_61 post mc ms v w how (nI n) (nI m) (nI b) (nI c) z0 kc ks (nI r) a1 a2 a3 a4 a5 a6 a7 a8 a9 a10 a11 a12 := by
  have z2 : ¬ (2 : Int32) ≤ 0 := by decide
  refine sd_wn 0 hn hb hr (by omega) (h1 n hn) (h3 n) (fun o _ _ => h8 _) (fun i i0 i1 => absurd i1 (by omega)) (fun i i0 i1 => h9 i (by omega)) (fun i i0 i1 => ⟨fun _ => by omega, fun _ => h11 i⟩) (fun b8 q0 q1 => ?_)
  rw [h8, if_neg z2] at q1
  refine br_t rfl ?_
  have k8 : ∀ o, o < 3 → o ≠ n → b8 (o * 16 + b) = 0 := fun o _ o1 => (q0 _ (by omega)).trans (h8 _)
  have k9 : ∀ i, i < 24 → i < n * 8 ∨ n * 8 + 8 ≤ i → upd a9 (n * 8 + 0) (nI b) i = -1 := by
    intro i i0 i1
    rw [pk_un (by omega)]
    exact h9 i i0
  have k11 : ∀ i, n * 8 ≤ i → i < n * 8 + r → (upd a11 (n * 8 + 0) 1 i = 0 ↔ n * 8 + 1 ≤ i) := by
    intro i i0 i1
    by_cases e : i = n * 8 + 0
    · rw [e, pk_us]
      exact ⟨fun z => absurd z (by decide), fun z => absurd z (by omega)⟩
    · rw [pk_un e, h11]
      exact ⟨fun _ => by omega, fun _ => rfl⟩
  by_cases e : b = c
  · have nz : ¬ z0 = 0 := fun z => hz z e
    subst e
    refine sd_wo 1 0 hn hb hr (by omega) (by omega) (h1 n hn) (h3 n) k8 (fun i i0 i1 => absurd i1 (by omega)) pk_us k11 (fun c8 g0 g1 => ?_)
    rw [q1, if_pos (by decide)] at g1
    refine br_f nz (br_t rfl (br_f nz ?_))
    refine sd_112 1 (fun _ => b) hn hm hb hb hr (by omega) (by omega) h1 (fun x _ => h2 x) (fun o _ => h3 o) (fun o _ => h7 o) (by rw [g1]; decide) (fun o o0 o1 => (g0 _ (by omega)).trans (k8 o o0 o1)) k9 ?_ ?_ ?_ (fun _ _ => hb) (fun s t hs ht _ => by omega) rfl pk_us ⟨0, by omega, rfl, pk_us⟩ (fun z => absurd z nz) (fun _ => rfl) hp
    · intro i i0 i1
      by_cases e : i = n * 8 + 0
      · rw [e, pk_us]
        exact ⟨fun z => absurd z (by decide), fun z => absurd z (by omega)⟩
      · rw [pk_un e]
        exact k11 i i0 i1
    · intro i i0 i1
      rw [pk_un (by omega), pk_un (by omega)]
      exact h11 i
    · intro t ht
      have e : t = 0 := by omega
      rw [e, pk_us]
  · have z : z0 = 0 := Decidable.byContradiction (fun z => e (hz' z))
    refine sd_wn 1 hn hc hr (by omega) (h1 n hn) (h3 n) (fun o o0 o1 => (q0 _ (by omega)).trans (h8 _)) (fun i i0 i1 => ?_) (fun i i0 i1 => ?_) k11 (fun c8 g0 g1 => ?_)
    · have ei : i = n * 8 + 0 := by omega
      rw [ei, pk_us]
      exact ⟨fun z => sd_nm hb z.symm, fun z => e ((nI_eq (by omega) (by omega)).mp z)⟩
    · rw [pk_un (by omega)]
      exact h9 i (by omega)
    refine br_t z (br_t rfl (br_t z ?_))
    refine sd_112 2 (fun t => if t = 0 then b else c) hn hm hb hc hr (by omega) hr2 h1 (fun x _ => h2 x) (fun o _ => h3 o) (fun o _ => h7 o) ?_ (fun o o0 o1 => (g0 _ (by omega)).trans (k8 o o0 o1)) ?_ ?_ ?_ ?_ ?_ ?_ rfl ?_ ⟨1, by omega, rfl, pk_us⟩ (fun _ => rfl) (fun y => absurd z y) hp
    · rw [g0 _ (by omega), q1]
      decide
    · intro i i0 i1
      rw [pk_un (by omega)]
      exact k9 i i0 i1
    · intro i i0 i1
      by_cases e : i = n * 8 + 1
      · rw [e, pk_us]
        exact ⟨fun z => absurd z (by decide), fun z => absurd z (by omega)⟩
      · rw [pk_un e, k11 i i0 i1]
        omega
    · intro i i0 i1
      rw [pk_un (by omega), pk_un (by omega)]
      exact h11 i
    · intro t ht
      by_cases e : t = 0
      · rw [e, pk_un (by omega), pk_us]
        rfl
      · have e1 : t = 1 := by omega
        rw [e1, pk_us]
        rfl
    · intro t ht
      show (if t = 0 then b else c) < 16
      split <;> assumption
    · intro s t hs ht w
      have w' : (if s = 0 then b else c) = (if t = 0 then b else c) := w
      split at w' <;> split at w' <;> omega
    · rw [pk_un (by omega), pk_un (by omega)]
      exact pk_us
/-! a new object -/
theorem sd_141 {post : St2 → Prop} {mc ms kc ks : Nat} {F : Int32} {a1 a2 a3 a4 a5 a6 a7 a8 a9 a10 a11 a12 : Nat → Int32} (hp : ∀ b1, (∀ i, i < 3 → b1 i = 1) → post (F, b1, a2, a3, a4, a5, a6, a7, a8, a9, a10, a11, a12)) : ∃ f, wX_init_141 post mc ms kc ks F f 0 a1 a2 a3 a4 a5 a6 a7 a8 a9 a10 a11 a12 :=
  pk_loop (σ := Nat → Int32) (fun f i s => wX_init_141 post mc ms kc ks F f (nI i) s a2 a3 a4 a5 a6 a7 a8 a9 a10 a11 a12) (fun i s => ∀ j, j < i → s j = 1) 3 0 a1 (by omega) (fun j hj => absurd hj (by omega))
    (fun f s hs => pk_le 3 3 (fun _ => hp s hs) (fun z => absurd z (by omega)))
    (fun f i s hi hs hw => pk_le 3 i (fun z => absurd z (by omega)) (fun _ => ⟨pk_in i 3 hi, sd_up i (by omega) (nm_r (nI_1 i) (hw _ (lt_s (fun j hj => (pk_un (by omega)).trans (hs j hj)) pk_us)))⟩))
theorem sd_120 {post : St2 → Prop} {mc ms kc ks : Nat} {F : Int32} {a1 a2 a3 a4 a5 a6 a7 a8 a9 a10 a11 a12 : Nat → Int32} (hp : ∀ b1 b9, (∀ i, i < 3 → b1 i = 1) → (∀ i, i < 24 → b9 i = -1) → post (F, b1, a2, a3, a4, a5, a6, a7, a8, b9, a10, a11, a12)) : ∃ f, wX_init_120 post mc ms kc ks F f 0 a1 a2 a3 a4 a5 a6 a7 a8 a9 a10 a11 a12 :=
  pk_loop (σ := Nat → Int32) (fun f i s => wX_init_120 post mc ms kc ks F f (nI i) a1 a2 a3 a4 a5 a6 a7 a8 s a10 a11 a12) (fun i s => ∀ j, j < i → s j = -1) 24 0 a9 (by omega) (fun j hj => absurd hj (by omega))
    (fun f s hs => pk_le 24 24 (fun _ => sd_141 (fun b1 g => hp b1 s g hs)) (fun z => absurd z (by omega)))
    (fun f i s hi hs hw => pk_le 24 i (fun z => absurd z (by omega)) (fun _ => ⟨pk_in i 24 hi, sd_up i (by omega) (nm_r (nI_1 i) (hw _ (lt_s (fun j hj => (pk_un (by omega)).trans (hs j hj)) pk_us)))⟩))
theorem sd_104 {post : St2 → Prop} {mc ms kc ks : Nat} {F : Int32} {a1 a2 a3 a4 a5 a6 a7 a8 a9 a10 a11 a12 : Nat → Int32} {x : Int32} (hx : 2 ≤ x) (hp : ∀ r b1 b9, 2 ≤ r → r ≤ 8 → (∀ i, i < 3 → b1 i = 1) → (∀ i, i < 24 → b9 i = -1) → post (nI r, b1, a2, a3, a4, a5, a6, a7, a8, b9, a10, a11, a12)) : wX_init_104 post mc ms x kc ks F a1 a2 a3 a4 a5 a6 a7 a8 a9 a10 a11 a12 := by
  refine br_c (fun h8 => ?_) (fun _ => sd_120 (fun b1 b9 g1 g9 => hp 8 b1 b9 (by omega) (by omega) g1 g9))
  have hx0 : ¬ x < 0 := by
    have t2 : (2 : Int32).toInt = 2 := by decide
    have t0 : (0 : Int32).toInt = 0 := by decide
    rw [Int32.le_iff_toInt_le] at hx
    rw [Int32.lt_iff_toInt_lt]
    omega
  obtain ⟨r, r8, e⟩ := nI_of2 (M := 8) (n := 8) (by decide) hx0 h8
  subst e
  have r2 : 2 ≤ r := (nI_leI (a := 2) (by omega) (by omega)).mp hx
  exact sd_120 (fun b1 b9 g1 g9 => hp r b1 b9 r2 r8 g1 g9)
theorem sd_new {post : St2 → Prop} {mc ms : Nat} {F p : Int32} (hmc : 12 ≤ mc) (hms : 247 ≤ ms) (hp : ∀ r b1 b9, 2 ≤ r → r ≤ 8 → (∀ i, i < 3 → b1 i = 1) → (∀ i, i < 24 → b9 i = -1) → post (nI r, b1, fun _ => 0, fun _ => 0, fun _ => 0, fun _ => 0, fun _ => 0, fun _ => 0, fun _ => 0, b9, fun _ => 0, fun _ => 0, fun _ => 0)) : wpX_init post mc ms F p := by
  refine ⟨by omega, by omega, by omega, by omega, by omega, by omega, by omega, by omega, by omega, by omega, by omega, by omega, by omega, by omega, by omega, by omega, by omega, by omega, by omega, by omega, by omega, by omega, by omega, by omega, ?_⟩
  exact br_c (fun h => sd_104 h hp) (fun _ => sd_104 (by decide) hp)
/-! the law -/
theorem sd_law {post : Int32 → St0 → Prop} {mc ms : Nat} (hmc : 13 ≤ mc) (hms : 260 ≤ ms) (p0 p1 p2 p3 : Int32) (hp : post 1 ()) : wpL_lawOf post mc ms () p0 p1 p2 p3 := by
  refine ⟨by omega, by omega, 12, 247, by omega, by omega, sd_new (Nat.le_refl _) (Nat.le_refl _) (fun r b1 b9 r2 r8 g1 g9 => ?_)⟩
  obtain ⟨i, i0, ei⟩ := pk_andE p0 (m := 255) 8 (by decide)
  obtain ⟨j, j0, ej⟩ := pk_andE (p0 >>> ((8 : Int32) &&& 31)) (m := 255) 8 (by decide)
  obtain ⟨b, b0, eb⟩ := pk_andE (p0 >>> ((16 : Int32) &&& 31)) (m := 15) 4 (by decide)
  obtain ⟨c, c0, ec⟩ := pk_andE (p0 >>> ((20 : Int32) &&& 31)) (m := 15) 4 (by decide)
  have e5 : (p0 &&& 255) - (p0 &&& 255) / 3 * 3 = nI (i % 3) := by
    rw [ei]
    exact pk_rem (d := 3) (by omega) (by omega) (by omega)
  have e6 : ((p0 >>> ((8 : Int32) &&& 31)) &&& 255) - ((p0 >>> ((8 : Int32) &&& 31)) &&& 255) / 3 * 3 = nI (j % 3) := by
    rw [ej]
    exact pk_rem (d := 3) (by omega) (by omega) (by omega)
  have T : ∀ z0, (z0 = 0 → b ≠ c) → (¬ z0 = 0 → b = c) → wL_lawOf_61 post mc ms p1 p2 p3 (nI (i % 3)) (nI (j % 3)) (nI b) (nI c) z0 (1 + 12) (13 + 247) (nI r) b1 (fun _ => 0) (fun _ => 0) (fun _ => 0) (fun _ => 0) (fun _ => 0) (fun _ => 0) (fun _ => 0) b9 (fun _ => 0) (fun _ => 0) (fun _ => 0) := fun z0 hz hz' =>
    sd_61 (Nat.mod_lt _ (by omega)) (Nat.mod_lt _ (by omega)) b0 c0 r2 r8 (fun o o0 => by rw [g1 o o0]; decide) (fun _ => rfl) (fun _ => rfl) (fun _ => rfl) (fun _ => rfl) g9 (fun _ => rfl) hz hz' hp
  exact ⟨by decide, nm_r e5 ⟨by decide, nm_r e6 (nm_r eb (nm_r ec (pk_eq b c (fun e => T 1 (fun z => absurd z (by decide)) (fun _ => e)) (fun e => T 0 (fun _ => e) (fun z => absurd rfl z)) rfl rfl (by omega) (by omega))))⟩⟩
theorem sd_at {post : Int32 → Prop} {L : Nat} {xs : Nat → Int32} (k : Nat) (hL : L ≤ 4) (hk : k < 4) (hp : ∀ x, post x) : wpL_cellAt post L xs () (nI k) :=
  pk_le L k (fun _ => hp _) (fun z => ⟨pk_in k L z, hp _⟩)
theorem i_vc (xs : Nat → Int32) (L : Nat) (hL : L ≤ 4) : wpL_law (fun r => r = 1) L xs :=
  sd_at 0 hL (by omega) (fun p0 => sd_at 1 hL (by omega) (fun p1 => sd_at 2 hL (by omega) (fun p2 => sd_at 3 hL (by omega) (fun p3 => ⟨148, 2352, by omega, by omega, sd_law (by omega) (by omega) p0 p1 p2 p3 rfl⟩))))
end
