section
/-! pure: how many of a matrix's first n cells are not 0 -/
/-- one for a cell that is not 0 -/
def sk_b (x : Int32) : Nat := if x = 0 then 0 else 1
/-- how many of the first n cells are not 0 -/
def sk_c (m : Nat → Int32) : Nat → Nat
  | 0 => 0
  | n + 1 => sk_c m n + sk_b (m n)
theorem sk_b0 {x : Int32} (h : x = 0) : sk_b x = 0 := if_pos h
theorem sk_b1 {x : Int32} (h : ¬ x = 0) : sk_b x = 1 := if_neg h
theorem sk_b_le (x : Int32) : sk_b x ≤ 1 := by
  by_cases h : x = 0
  · rw [sk_b0 h]; omega
  · rw [sk_b1 h]; omega
theorem sk_cs (m : Nat → Int32) (n : Nat) : sk_c m (n + 1) = sk_c m n + sk_b (m n) := rfl
theorem sk_c0 (m : Nat → Int32) : sk_c m 0 = 0 := rfl
theorem sk_cz {m : Nat → Int32} {n : Nat} (h : m n = 0) : sk_c m (n + 1) = sk_c m n := by
  rw [sk_cs, sk_b0 h, Nat.add_zero]
theorem sk_cn {m : Nat → Int32} {n : Nat} (h : ¬ m n = 0) : sk_c m (n + 1) = sk_c m n + 1 := by
  rw [sk_cs, sk_b1 h]
theorem sk_cadd (m : Nat → Int32) (a k : Nat) : sk_c m a ≤ sk_c m (a + k) ∧ sk_c m (a + k) ≤ sk_c m a + k := by
  induction k with
  | zero => exact ⟨Nat.le_refl _, Nat.le_refl _⟩
  | succ k ih =>
    have h := sk_b_le (m (a + k))
    have e : sk_c m (a + (k + 1)) = sk_c m (a + k) + sk_b (m (a + k)) := rfl
    omega
theorem sk_cle (m : Nat → Int32) {a b : Nat} (h : a ≤ b) : sk_c m a ≤ sk_c m b := by
  have t := (sk_cadd m a (b - a)).1
  rw [show a + (b - a) = b by omega] at t
  exact t
theorem sk_cgap (m : Nat → Int32) {a b : Nat} (h : a ≤ b) : sk_c m b ≤ sk_c m a + (b - a) := by
  have t := (sk_cadd m a (b - a)).2
  rw [show a + (b - a) = b by omega] at t
  exact t
theorem sk_cn_le (m : Nat → Int32) (n : Nat) : sk_c m n ≤ n := by
  have h := sk_cgap m (Nat.zero_le n)
  have e : sk_c m 0 = 0 := rfl
  omega
theorem sk_clt {m : Nat → Int32} {q n : Nat} (hq : ¬ m q = 0) (h : q < n) : sk_c m q < sk_c m n := by
  have h1 := sk_cn hq
  have h2 := sk_cle m (show q + 1 ≤ n from h)
  omega
theorem sk_csel {m : Nat → Int32} {k a : Nat} : ∀ {b : Nat}, a ≤ b → sk_c m a ≤ k → k < sk_c m b → ∃ q, a ≤ q ∧ q < b ∧ ¬ m q = 0 ∧ sk_c m q = k := by
  intro b
  induction b with
  | zero =>
    intro h1 h2 h3
    have e : sk_c m 0 = 0 := rfl
    omega
  | succ b ih =>
    intro h1 h2 h3
    by_cases ha : a = b + 1
    · subst ha
      omega
    · by_cases hk : k < sk_c m b
      · obtain ⟨q, p1, p2, p3, p4⟩ := ih (by omega) h2 hk
        exact ⟨q, p1, by omega, p3, p4⟩
      · by_cases hz : m b = 0
        · rw [sk_cz hz] at h3
          omega
        · rw [sk_cn hz] at h3
          exact ⟨b, by omega, by omega, hz, by omega⟩
theorem sk_ccong {m m' : Nat → Int32} : ∀ {n : Nat}, (∀ q, q < n → m q = m' q) → sk_c m n = sk_c m' n := by
  intro n
  induction n with
  | zero => intro _; rfl
  | succ n ih =>
    intro h
    rw [sk_cs, sk_cs, ih (fun q hq => h q (by omega)), h n (by omega)]
/-- equal counts: the cells between are 0 -/
theorem sk_czero {m : Nat → Int32} {a b q : Nat} (h : sk_c m b ≤ sk_c m a) (h1 : a ≤ q) (h2 : q < b) : m q = 0 := by
  by_cases hz : m q = 0
  · exact hz
  · have t1 := sk_clt hz h2
    have t2 := sk_cle m h1
    omega
theorem sk_call0 {m : Nat → Int32} : ∀ {n : Nat}, (∀ q, q < n → m q = 0) → sk_c m n = 0 := by
  intro n
  induction n with
  | zero => intro _; rfl
  | succ n ih =>
    intro h
    rw [sk_cz (h n (by omega))]
    exact ih (fun q hq => h q (by omega))
/-- how many of the first n places hold p -/
def sk_n (p : Nat → Bool) : Nat → Nat
  | 0 => 0
  | n + 1 => sk_n p n + (if p n = true then 1 else 0)
theorem sk_cnb {m : Nat → Int32} {p : Nat → Bool} : ∀ {n : Nat}, (∀ q, q < n → ¬ m q = 0 → p q = true) → sk_c m n ≤ sk_n p n := by
  intro n
  induction n with
  | zero => intro _; exact Nat.le_refl _
  | succ n ih =>
    intro h
    have t := ih (fun q hq => h q (by omega))
    have e : sk_n p (n + 1) = sk_n p n + (if p n = true then 1 else 0) := rfl
    by_cases hz : m n = 0
    · rw [sk_cz hz]
      omega
    · rw [sk_cn hz, e, if_pos (h n (by omega) hz)]
      omega
/-! bytes, places -/
theorem sk_nar : ∀ n, n < 128 → (nI n).toInt8.toInt32 = nI n := by decide +kernel
theorem sk_ix (s k : Nat) : nI s * 36 + nI k = nI (s * 36 + k) := by
  rw [show (36 : Int32) = nI 36 from rfl, pk_mul, nI_add]
theorem sk_iy (s k : Nat) : nI s * 7 + nI k = nI (s * 7 + k) := by
  rw [show (7 : Int32) = nI 7 from rfl, pk_mul, nI_add]
theorem sk_plt {l h : Nat} (hl : h ≤ l) (hb : l < 2 ^ 30) : nI h - 1 < nI l := by
  rw [Int32.lt_iff_toInt_lt, show (1 : Int32) = nI 1 from rfl, pk_sub_toInt (by omega) (by omega), nI_toInt (by omega)]
  omega
theorem sk_fill {s g : Nat → Int32} {b i : Nat} {x : Int32} (h : ∀ k, k < i → s (b + k) = g k) (hx : x = g i) : ∀ k, k < i + 1 → upd s (b + i) x (b + k) = g k := by
  intro k hk
  by_cases e : k = i
  · rw [e, pk_us, hx]
  · rw [pk_un (by omega)]
    exact h k (by omega)
theorem sk_keep {s f : Nat → Int32} {b i w : Nat} {x : Int32} (h : ∀ k, (k < b ∨ b + w ≤ k) → s k = f k) (hi : i < w) : ∀ k, (k < b ∨ b + w ≤ k) → upd s (b + i) x k = f k := by
  intro k hk
  rw [pk_un (by omega)]
  exact h k hk
end
section
/-! the picture: a slot's lists hold a matrix of 36 cells; the lists that are being made -/
def sk_R (s : Nat) (m a1 a2 a3 : Nat → Int32) : Prop :=
  (∀ i, i ≤ 6 → a1 (s * 7 + i) = nI (sk_c m (6 * i))) ∧
  (∀ i j, i < 6 → j < 6 → ¬ m (6 * i + j) = 0 → a2 (s * 36 + sk_c m (6 * i + j)) = nI j ∧ a3 (s * 36 + sk_c m (6 * i + j)) = m (6 * i + j))
def sk_I (M : Nat → Nat → Int32) (a1 a2 a3 : Nat → Int32) : Prop := ∀ s, s < 5 → sk_R s (M s) a1 a2 a3
def sk_B (m : Nat → Int32) (i q : Nat) (mk : Int32) (a4 a5 a6 : Nat → Int32) : Prop :=
  mk = nI (sk_c m q) ∧ (∀ r, r ≤ i → a4 r = nI (sk_c m (6 * r))) ∧
  (∀ r j, r < 6 → j < 6 → 6 * r + j < q → ¬ m (6 * r + j) = 0 → a5 (sk_c m (6 * r + j)) = nI j ∧ a6 (sk_c m (6 * r + j)) = m (6 * r + j))
def sk_O (M M' : Nat → Nat → Int32) (t : Nat) : Prop := ∀ s, s < 5 → s ≠ t → ∀ q, q < 36 → M' s q = M s q
theorem sk_Rc {s : Nat} {m m' a1 a2 a3 : Nat → Int32} (h : sk_R s m a1 a2 a3) (e : ∀ q, q < 36 → m' q = m q) : sk_R s m' a1 a2 a3 := by
  have ec : ∀ n, n ≤ 36 → sk_c m' n = sk_c m n := fun n hn => sk_ccong (fun q hq => e q (by omega))
  refine ⟨fun i hi => ?_, fun i j hi hj hz => ?_⟩
  · rw [ec _ (by omega)]
    exact h.1 i hi
  · rw [e _ (by omega)] at hz
    rw [ec _ (by omega), e _ (by omega)]
    exact h.2 i j hi hj hz
theorem sk_Bz {m : Nat → Int32} {i j : Nat} {mk : Int32} {a4 a5 a6 : Nat → Int32} (hz : m (6 * i + j) = 0) (h : sk_B m i (6 * i + j) mk a4 a5 a6) : sk_B m i (6 * i + (j + 1)) mk a4 a5 a6 := by
  obtain ⟨h1, h2, h3⟩ := h
  refine ⟨?_, h2, fun r c hr hc hq hz' => ?_⟩
  · rw [h1, show 6 * i + (j + 1) = 6 * i + j + 1 by omega, sk_cz hz]
  · by_cases e : 6 * r + c = 6 * i + j
    · rw [e] at hz'
      exact absurd hz hz'
    · exact h3 r c hr hc (by omega) hz'
/-! begin, emit, endRow -/
theorem sk_begin {post : St2 → Prop} (m : Nat → Int32) {mk : Int32} {a1 a2 a3 a4 a5 a6 a7 : Nat → Int32}
    (hp : ∀ mk' a4' a5' a6', sk_B m 0 (6 * 0) mk' a4' a5' a6' → post (mk', a1, a2, a3, a4', a5', a6', a7)) : wpX_begin post (mk, a1, a2, a3, a4, a5, a6, a7) := by
  refine nm_e (hp _ _ _ _ ⟨rfl, fun r hr => ?_, fun r c _ _ hq => absurd hq (by omega)⟩)
  have e : r = 0 := by omega
  subst e
  exact pk_us
theorem sk_emit {post : St2 → Prop} {m : Nat → Int32} {i j : Nat} {mk : Int32} {a1 a2 a3 a4 a5 a6 a7 : Nat → Int32} {x v : Int32}
    (hi : i < 6) (hj : j < 6) (hB : sk_B m i (6 * i + j) mk a4 a5 a6) (hx : x = nI j) (hv : v = m (6 * i + j))
    (hp : ∀ mk' a5' a6', sk_B m i (6 * i + (j + 1)) mk' a4 a5' a6' → post (mk', a1, a2, a3, a4, a5', a6', a7)) :
    wpX_emit post (mk, a1, a2, a3, a4, a5, a6, a7) x v := by
  subst hx hv
  by_cases hz : m (6 * i + j) = 0
  · exact br_t hz (hp _ _ _ (sk_Bz hz hB))
  · obtain ⟨h1, h2, h3⟩ := hB
    subst h1
    have hc := sk_cn_le m (6 * i + j)
    have ec : (nI (sk_c m (6 * i + j))).toNatClampNeg = sk_c m (6 * i + j) := nI_clamp (by omega)
    refine br_f hz ⟨vp_in_nI (by omega) (by omega), nm_r (e' := upd a5 (sk_c m (6 * i + j)) (nI j)) (by rw [ec, sk_nar _ (by omega)]) ⟨vp_in_nI (by omega) (by omega), nm_r (e' := upd a6 (sk_c m (6 * i + j)) (m (6 * i + j))) (by rw [ec]) (nm_r (nI_1 _) (hp _ _ _ ⟨?_, h2, ?_⟩))⟩⟩
    · rw [show 6 * i + (j + 1) = 6 * i + j + 1 by omega, sk_cn hz]
    · intro r c hr hc hq hz'
      by_cases e : 6 * r + c = 6 * i + j
      · have er : r = i := by omega
        have ecj : c = j := by omega
        subst er ecj
        exact ⟨pk_us, pk_us⟩
      · have hl := sk_clt hz' (show 6 * r + c < 6 * i + j by omega)
        rw [pk_un (by omega), pk_un (by omega)]
        exact h3 r c hr hc (by omega) hz'
theorem sk_end {post : St2 → Prop} {m : Nat → Int32} {i : Nat} {mk : Int32} {a1 a2 a3 a4 a5 a6 a7 : Nat → Int32} (hi : i < 6) (hB : sk_B m i (6 * i + 6) mk a4 a5 a6)
    (hp : ∀ a4', sk_B m (i + 1) (6 * (i + 1)) mk a4' a5 a6 → post (mk, a1, a2, a3, a4', a5, a6, a7)) :
    wpX_endRow post (mk, a1, a2, a3, a4, a5, a6, a7) (nI i) := by
  obtain ⟨h1, h2, h3⟩ := hB
  have hc := sk_cn_le m (6 * i + 6)
  have e1 : nI i + 1 = nI (i + 1) := nI_1 i
  have e2 : mk.toInt8.toInt32 = mk := by
    rw [h1]
    exact sk_nar _ (by omega)
  have e3 : (nI i + 1).toNatClampNeg = i + 1 := by
    rw [e1]
    exact nI_clamp (by omega)
  have e6 : 6 * (i + 1) = 6 * i + 6 := by omega
  have e7 : vp_in (nI i + 1) 7 := by
    rw [e1]
    exact vp_in_nI (by omega) (by omega)
  refine ⟨e7, nm_r (e' := upd a4 (i + 1) mk) (by rw [e3, e2]) (hp _ ⟨?_, fun r hr => ?_, ?_⟩)⟩
  · rw [e6]
    exact h1
  · by_cases e : r = i + 1
    · subst e
      rw [pk_us, e6]
      exact h1
    · rw [pk_un e]
      exact h2 r (by omega)
  · rw [e6]
    exact h3
/-! store -/
theorem sk_store {post : Int32 → St2 → Prop} {M M' : Nat → Nat → Int32} {t : Nat} {mk : Int32} {a1 a2 a3 a4 a5 a6 a7 : Nat → Int32} (ht : t < 5) (hI : sk_I M a1 a2 a3)
    (ho : sk_O M M' t) (hB : sk_B (M' t) 6 (6 * 6) mk a4 a5 a6)
    (hp : ∀ mk' a1' a2' a3', sk_I M' a1' a2' a3' → post (nI (sk_c (M' t) 36)) (mk', a1', a2', a3', a4, a5, a6, a7)) : wpX_store post (mk, a1, a2, a3, a4, a5, a6, a7) (nI t) := by
  obtain ⟨h1, h2, h3⟩ := hB
  have h1' : mk = nI (sk_c (M' t) 36) := h1
  clear h1
  subst h1'
  have hc := sk_cn_le (M' t) 36
  refine pk_loop (fun n i s => wX_store_2 post (nI t) (nI (sk_c (M' t) 36)) n (nI i) s a2 a3 a4 a5 a6 a7)
    (fun i s => (∀ r, r < i → s (t * 7 + r) = nI (sk_c (M' t) (6 * r))) ∧ (∀ k, (k < t * 7 ∨ t * 7 + 7 ≤ k) → s k = a1 k)) 7 0 a1 (by omega) ⟨fun r hr => absurd hr (by omega), fun k _ => rfl⟩ ?_ ?_
  · intro n s hs
    refine pk_lt 6 7 (fun _ => ?_) (fun z => absurd z (by omega))
    refine pk_loop (fun n i (p : (Nat → Int32) × (Nat → Int32)) => wX_store_33 post (nI t) (nI (sk_c (M' t) 36)) n (nI i) s p.1 p.2 a4 a5 a6 a7)
      (fun i p => (∀ k, k < i → p.1 (t * 36 + k) = vp_nar .byte (a5 k)) ∧ (∀ k, k < i → p.2 (t * 36 + k) = a6 k) ∧ (∀ k, (k < t * 36 ∨ t * 36 + 36 ≤ k) → p.1 k = a2 k) ∧ (∀ k, (k < t * 36 ∨ t * 36 + 36 ≤ k) → p.2 k = a3 k))
      (sk_c (M' t) 36) 0 (a2, a3) (by omega) ⟨fun k hk => absurd hk (by omega), fun k hk => absurd hk (by omega), fun k _ => rfl, fun k _ => rfl⟩ ?_ ?_
    · intro n p hp2
      obtain ⟨p1, p2, p3, p4⟩ := hp2
      refine pk_le (sk_c (M' t) 36) (sk_c (M' t) 36) (fun _ => hp _ _ _ _ ?_) (fun z => absurd z (by omega))
      intro u hu
      by_cases e : u = t
      · subst e
        refine ⟨fun i hi => hs.1 i (by omega), fun i j hi hj hz => ?_⟩
        have hl := sk_clt hz (show 6 * i + j < 36 by omega)
        have h5 := h3 i j hi hj (by omega) hz
        rw [p1 _ hl, p2 _ hl, h5.1, h5.2]
        exact ⟨by rw [vp_nar_byte]; exact sk_nar _ (by omega), rfl⟩
      · have hR := sk_Rc (hI u hu) (ho u hu e)
        refine ⟨fun i hi => ?_, fun i j hi hj hz => ?_⟩
        · rw [hs.2 _ (by omega)]
          exact hR.1 i hi
        · have hl := sk_clt hz (show 6 * i + j < 36 by omega)
          have hl2 := sk_cn_le (M' u) 36
          rw [p3 _ (by omega), p4 _ (by omega)]
          exact hR.2 i j hi hj hz
    · intro n i p hi hp2 hw
      obtain ⟨p1, p2, p3, p4⟩ := hp2
      have ei : (nI i).toNatClampNeg = i := nI_clamp (by omega)
      have ec : (nI t * 36 + nI i).toNatClampNeg = t * 36 + i := by
        rw [sk_ix]
        exact nI_clamp (by omega)
      have hin : vp_in (nI t * 36 + nI i) 180 := by
        rw [sk_ix]
        exact vp_in_nI (by omega) (by omega)
      refine pk_le (sk_c (M' t) 36) i (fun z => absurd z (by omega)) (fun _ => ⟨vp_in_nI (by omega) (by omega), hin, nm_r (e' := upd p.1 (t * 36 + i) (vp_nar .byte (a5 i))) (by rw [ec, ei]) ⟨vp_in_nI (by omega) (by omega), hin, nm_r (e' := upd p.2 (t * 36 + i) (a6 i)) (by rw [ec, ei]) (nm_r (nI_1 i) (hw (upd p.1 (t * 36 + i) (vp_nar .byte (a5 i)), upd p.2 (t * 36 + i) (a6 i)) ?_))⟩⟩)
      exact ⟨sk_fill (g := fun k => vp_nar .byte (a5 k)) p1 rfl, sk_fill p2 rfl, sk_keep p3 (by omega), sk_keep p4 (by omega)⟩
  · intro n i s hi hs hw
    have ei : (nI i).toNatClampNeg = i := nI_clamp (by omega)
    have ec : (nI t * 7 + nI i).toNatClampNeg = t * 7 + i := by
      rw [sk_iy]
      exact nI_clamp (by omega)
    have hin : vp_in (nI t * 7 + nI i) 35 := by
      rw [sk_iy]
      exact vp_in_nI (by omega) (by omega)
    have hv : vp_nar .byte (a4 i) = nI (sk_c (M' t) (6 * i)) := by
      have hc2 := sk_cn_le (M' t) (6 * i)
      rw [h2 i (by omega), vp_nar_byte]
      exact sk_nar _ (by omega)
    refine pk_lt 6 i (fun z => absurd z (by omega)) (fun _ => ⟨vp_in_nI (by omega) (by omega), hin, nm_r (e' := upd s (t * 7 + i) (nI (sk_c (M' t) (6 * i)))) (by rw [ec, ei, hv]) (nm_r (nI_1 i) (hw _ ?_))⟩)
    exact ⟨sk_fill (g := fun k => nI (sk_c (M' t) (6 * k))) hs.1 rfl, sk_keep hs.2 (by omega)⟩
end
section
/-! small methods: clearWork, emitWork, isSlot, isIndex, from, upTo; a row's entries, one by one -/
theorem sk_clear {post : St2 → Prop} {mk : Int32} {a1 a2 a3 a4 a5 a6 a7 : Nat → Int32} (hp : ∀ w, (∀ c, c < 6 → w c = 0) → post (mk, a1, a2, a3, a4, a5, a6, w)) : wpX_clearWork post (mk, a1, a2, a3, a4, a5, a6, a7) := by
  refine pk_loop (fun n i s => wX_clearWork_2 post mk n (nI i) a1 a2 a3 a4 a5 a6 s) (fun i s => ∀ c, c < i → s c = 0) 6 0 a7 (by omega) (fun c hc => absurd hc (by omega)) ?_ ?_
  · intro n s hs
    exact pk_le 6 6 (fun _ => hp s hs) (fun z => absurd z (by omega))
  · intro n i s hi hs hw
    refine pk_le 6 i (fun z => absurd z (by omega)) (fun _ => ⟨vp_in_nI (by omega) (by omega), nm_r (e' := upd s i 0) (by rw [nI_clamp (by omega)]) (nm_r (nI_1 i) (hw _ (fun c hc => ?_)))⟩)
    by_cases e : c = i
    · subst e
      exact pk_us
    · rw [pk_un e]
      exact hs c (by omega)
theorem sk_emitW {post : St2 → Prop} {m : Nat → Int32} {i : Nat} {mk : Int32} {a1 a2 a3 a4 a5 a6 a7 : Nat → Int32} (hi : i < 6) (hB : sk_B m i (6 * i) mk a4 a5 a6) (hw : ∀ c, c < 6 → a7 c = m (6 * i + c))
    (hp : ∀ mk' a5' a6', sk_B m i (6 * i + 6) mk' a4 a5' a6' → post (mk', a1, a2, a3, a4, a5', a6', a7)) : wpX_emitWork post (mk, a1, a2, a3, a4, a5, a6, a7) := by
  refine pk_loop (fun n j (p : Int32 × (Nat → Int32) × (Nat → Int32)) => wX_emitWork_2 post n (nI j) p.1 a1 a2 a3 a4 p.2.1 p.2.2 a7) (fun j p => sk_B m i (6 * i + j) p.1 a4 p.2.1 p.2.2) 6 0 (mk, a5, a6) (by omega) hB ?_ ?_
  · intro n p h
    exact pk_le 6 6 (fun _ => hp _ _ _ h) (fun z => absurd z (by omega))
  · intro n j p hj h hn
    refine pk_le 6 j (fun z => absurd z (by omega)) (fun _ => ⟨vp_in_nI (by omega) (by omega), sk_emit hi hj h rfl ?_ (fun mk' a5' a6' h' => nm_r (nI_1 j) (hn (mk', a5', a6') h'))⟩)
    rw [nI_clamp (by omega)]
    exact hw j hj
theorem sk_slot {post : Int32 → Prop} {u : St0} {s : Nat} (hs : s < 5) (hp : post 1) : wpX_isSlot post u (nI s) :=
  br_f (nI_pos (by omega)) (pk_le 5 s (fun z => absurd z (by omega)) (fun _ => hp))
theorem sk_index {post : Int32 → Prop} {u : St0} {i : Nat} (hi : i < 6) (hp : post 1) : wpX_isIndex post u (nI i) :=
  br_f (nI_pos (by omega)) (pk_le 6 i (fun z => absurd z (by omega)) (fun _ => hp))
theorem sk_10 : ¬ (1 : Int32) = 0 := by decide
theorem sk_from {post : Int32 → Prop} {m : Nat → Int32} {s i : Nat} {mk : Int32} {a1 a2 a3 a4 a5 a6 a7 : Nat → Int32} (hs : s < 5) (hi : i < 6) (hR : sk_R s m a1 a2 a3) (hp : post (nI (s * 36 + sk_c m (6 * i)))) : wpX_from post (mk, a1, a2, a3, a4, a5, a6, a7) (nI s) (nI i) := by
  have e : nI s * 7 + nI i = nI (s * 7 + i) := sk_iy s i
  have e1 : vp_in (nI s * 7 + nI i) 35 := by
    rw [e]
    exact vp_in_nI (by omega) (by omega)
  refine ⟨e1, ?_⟩
  rw [e, nI_clamp (by omega), hR.1 i (by omega), sk_ix]
  exact hp
theorem sk_upto {post : Int32 → Prop} {m : Nat → Int32} {s i : Nat} {mk : Int32} {a1 a2 a3 a4 a5 a6 a7 : Nat → Int32} (hs : s < 5) (hi : i < 6) (hR : sk_R s m a1 a2 a3) (hp : post (nI (s * 36 + sk_c m (6 * i + 6)))) : wpX_upTo post (mk, a1, a2, a3, a4, a5, a6, a7) (nI s) (nI i) := by
  have e : nI s * 7 + nI i + 1 = nI (s * 7 + (i + 1)) := by
    rw [sk_iy, nI_1, Nat.add_assoc]
  have e1 : vp_in (nI s * 7 + nI i + 1) 35 := by
    rw [e]
    exact vp_in_nI (by omega) (by omega)
  refine ⟨e1, ?_⟩
  rw [e, nI_clamp (by omega), hR.1 (i + 1) (by omega), sk_ix, show 6 * (i + 1) = 6 * i + 6 by omega]
  exact hp
/-- a loop over a row's entries: J at a column; a cell that is 0 is no turn -/
theorem sk_row {σ : Type} (W : Nat → Int32 → σ → Prop) (J : Nat → σ → Prop) (m : Nat → Int32) (b i : Nat)
    (hx : ∀ n t, J 6 t → W (n + 1) (nI (b + sk_c m (6 * i + 6))) t)
    (hz : ∀ j t, j < 6 → m (6 * i + j) = 0 → J j t → J (j + 1) t)
    (hs : ∀ n j t, j < 6 → ¬ m (6 * i + j) = 0 → sk_c m (6 * i + j) < sk_c m (6 * i + 6) → J j t → (∀ t', J (j + 1) t' → W n (nI (b + sk_c m (6 * i + j) + 1)) t') → W (n + 1) (nI (b + sk_c m (6 * i + j))) t)
    (j0 : Nat) (t : σ) (hj : j0 ≤ 6) (h0 : J j0 t) : ∃ n, W n (nI (b + sk_c m (6 * i + j0))) t := by
  have key : ∀ k j n t, j + k = 6 → k < n → J j t → W n (nI (b + sk_c m (6 * i + j))) t := by
    intro k
    induction k with
    | zero =>
      intro j n t e hn h
      have e6 : j = 6 := by omega
      subst e6
      obtain ⟨n', rfl⟩ : ∃ n', n = n' + 1 := ⟨n - 1, by omega⟩
      exact hx n' t h
    | succ k ih =>
      intro j n t e hn h
      by_cases hm : m (6 * i + j) = 0
      · have h' := ih (j + 1) n t (by omega) (by omega) (hz j t (by omega) hm h)
        rw [show 6 * i + (j + 1) = 6 * i + j + 1 by omega, sk_cz hm] at h'
        exact h'
      · obtain ⟨n', rfl⟩ : ∃ n', n = n' + 1 := ⟨n - 1, by omega⟩
        refine hs n' j t (by omega) hm (sk_clt hm (by omega)) h (fun t' ht' => ?_)
        have h' := ih (j + 1) n' t' (by omega) (by omega) ht'
        rw [show 6 * i + (j + 1) = 6 * i + j + 1 by omega, sk_cn hm, ← Nat.add_assoc] at h'
        exact h'
  exact ⟨7, key (6 - j0) j0 7 t (by omega) (by omega) h0⟩
/-! find: halving -/
theorem sk_find {post : Int32 → Prop} {m : Nat → Int32} {s i j : Nat} {mk : Int32} {a1 a2 a3 a4 a5 a6 a7 : Nat → Int32} (hs : s < 5) (hi : i < 6) (hj : j < 6) (hR : sk_R s m a1 a2 a3)
    (H0 : m (6 * i + j) = 0 → post (-1)) (H1 : ¬ m (6 * i + j) = 0 → post (nI (s * 36 + sk_c m (6 * i + j)))) : wpX_find post (mk, a1, a2, a3, a4, a5, a6, a7) (nI s) (nI i) (nI j) := by
  have hb : ∀ c, c ≤ 6 → sk_c m (6 * i + c) ≤ 36 := fun c hc => Nat.le_trans (sk_cn_le m _) (by omega)
  have stop : ∀ n k cl ch, k ≤ 3 → cl ≤ j → j < ch → ch ≤ 6 → sk_c m (6 * i + ch) ≤ sk_c m (6 * i + cl) → wX_find_21 post (nI j) mk a1 a2 a3 a4 a5 a6 a7 (n + 1) (nI (s * 36 + sk_c m (6 * i + cl))) (nI (s * 36 + sk_c m (6 * i + ch)) - 1) (nI k) := by
    intro n k cl ch hk h1 h2 h3 h4
    have b1 := hb cl (by omega)
    exact pk_le 4 k (fun z => absurd z (by omega)) (fun _ => br_t (sk_plt (by omega) (by omega)) (H0 (sk_czero h4 (by omega) (by omega))))
  have key : ∀ K p n k cl ch, p = 2 ^ K → k + K = 3 → K < n → cl ≤ j → j < ch → ch ≤ 6 → sk_c m (6 * i + ch) < sk_c m (6 * i + cl) + p → wX_find_21 post (nI j) mk a1 a2 a3 a4 a5 a6 a7 n (nI (s * 36 + sk_c m (6 * i + cl))) (nI (s * 36 + sk_c m (6 * i + ch)) - 1) (nI k) := by
    intro K
    induction K with
    | zero =>
      intro p n k cl ch ep ek hn h1 h2 h3 h4
      obtain ⟨n', rfl⟩ : ∃ n', n = n' + 1 := ⟨n - 1, by omega⟩
      have ep' : p = 1 := ep
      exact stop n' k cl ch (by omega) h1 h2 h3 (by omega)
    | succ K ih =>
      intro p n k cl ch ep ek hn h1 h2 h3 h4
      obtain ⟨n', rfl⟩ : ∃ n', n = n' + 1 := ⟨n - 1, by omega⟩
      obtain ⟨p', ep'⟩ : ∃ p', p' = 2 ^ K := ⟨_, rfl⟩
      have epp : p = p' * 2 := by rw [ep, ep', Nat.pow_succ]
      by_cases hlt : sk_c m (6 * i + cl) < sk_c m (6 * i + ch)
      · have b2 := hb ch h3
        obtain ⟨q, q1, q2, q3, q4⟩ := sk_csel (m := m) (a := 6 * i + cl) (b := 6 * i + ch) (k := (s * 36 + sk_c m (6 * i + cl) + (s * 36 + sk_c m (6 * i + ch) - 1)) / 2 - s * 36) (by omega) (by omega) (by omega)
        obtain ⟨c, rfl⟩ : ∃ c, q = 6 * i + c := ⟨q - 6 * i, by omega⟩
        have b3 := hb c (by omega)
        have hcol := (hR.2 i c hi (by omega) q3).1
        have emid : (nI (s * 36 + sk_c m (6 * i + cl)) + (nI (s * 36 + sk_c m (6 * i + ch)) - 1)) >>> ((1 : Int32) &&& 31) = nI (s * 36 + sk_c m (6 * i + c)) := by
          rw [show (nI (s * 36 + sk_c m (6 * i + ch)) - 1 : Int32) = nI (s * 36 + sk_c m (6 * i + ch) - 1) from pk_sub (b := 1) (by omega), nI_add, pk_shrN (by omega) ((1 : Int32) &&& 31) 1 (by decide)]
          congr 1
          omega
        have ecl : (nI (s * 36 + sk_c m (6 * i + c))).toNatClampNeg = s * 36 + sk_c m (6 * i + c) := nI_clamp (by omega)
        have hgt : ¬ nI (s * 36 + sk_c m (6 * i + ch)) - 1 < nI (s * 36 + sk_c m (6 * i + cl)) := by
          rw [show (nI (s * 36 + sk_c m (6 * i + ch)) - 1 : Int32) = nI (s * 36 + sk_c m (6 * i + ch) - 1) from pk_sub (b := 1) (by omega)]
          exact nI_nlt (by omega) (by omega)
        refine pk_le 4 k (fun z => absurd z (by omega)) (fun _ => br_f hgt (nm_r emid ⟨vp_in_nI (by omega) (by omega), ?_⟩))
        rw [ecl, hcol]
        refine pk_eq c j (fun z => ?_) (fun z => ⟨vp_in_nI (by omega) (by omega), ?_⟩)
        · subst z
          exact H1 q3
        · refine pk_le j c (fun z2 => nm_e (nm_r (nI_1 k) ?_)) (fun z2 => nm_r (e' := nI (s * 36 + sk_c m (6 * i + (c + 1)))) ?_ (nm_r (nI_1 k) ?_))
          · exact ih p' n' (k + 1) cl c ep' (by omega) (by omega) h1 (by omega) (by omega) (by omega)
          · rw [nI_1, show 6 * i + (c + 1) = 6 * i + c + 1 by omega, sk_cn q3, Nat.add_assoc]
          · have e5 : sk_c m (6 * i + (c + 1)) = sk_c m (6 * i + c) + 1 := sk_cn q3
            exact ih p' n' (k + 1) (c + 1) ch ep' (by omega) (by omega) (by omega) h2 h3 (by omega)
      · exact stop n' k cl ch (by omega) h1 h2 h3 (by omega)
  unfold wpX_find
  refine sk_from hs hi hR ?_
  refine sk_upto hs hi hR ?_
  refine nm_e ⟨4, ?_⟩
  have hg := sk_cgap m (show 6 * i ≤ 6 * i + 6 by omega)
  exact key 3 8 4 0 0 6 (by decide) (by omega) (by omega) (by omega) hj (by omega) (by show sk_c m (6 * i + 6) < sk_c m (6 * i) + 8; omega)
theorem sk_at {post : Int32 → Prop} {m : Nat → Int32} {s i j : Nat} {mk : Int32} {a1 a2 a3 a4 a5 a6 a7 : Nat → Int32} (hs : s < 5) (hi : i < 6) (hj : j < 6) (hR : sk_R s m a1 a2 a3)
    (hp : post (m (6 * i + j))) : wpX_at post (mk, a1, a2, a3, a4, a5, a6, a7) (nI s) (nI i) (nI j) := by
  unfold wpX_at
  refine sk_slot hs (br_f sk_10 ?_)
  refine sk_index hi (br_f sk_10 ?_)
  refine sk_index hj (br_f sk_10 ?_)
  refine sk_find hs hi hj hR (fun hz => ?_) (fun hz => ?_)
  · rw [hz] at hp
    exact br_f (by decide) hp
  · have hc := sk_cn_le m (6 * i + j)
    refine br_t (nI_pos' (by omega)) ⟨vp_in_nI (by omega) (by omega), ?_⟩
    rw [nI_clamp (by omega), (hR.2 i j hi hj hz).2]
    exact hp
theorem sk_count {post : Int32 → Prop} {m : Nat → Int32} {s : Nat} {mk : Int32} {a1 a2 a3 a4 a5 a6 a7 : Nat → Int32} (hs : s < 5) (hR : sk_R s m a1 a2 a3)
    (hp : post (nI (sk_c m 36))) : wpX_count post (mk, a1, a2, a3, a4, a5, a6, a7) (nI s) := by
  unfold wpX_count
  refine sk_slot hs (br_f sk_10 ?_)
  have e : nI s * 7 + 6 = nI (s * 7 + 6) := sk_iy s 6
  refine ⟨?_, ?_⟩
  · rw [e]
    exact vp_in_nI (by omega) (by omega)
  · rw [e, nI_clamp (by omega), hR.1 6 (by omega)]
    exact hp
theorem sk_next {post : Int32 → Prop} {m : Nat → Int32} {s i j : Nat} {mk : Int32} {a1 a2 a3 a4 a5 a6 a7 : Nat → Int32} (hs : s < 5) (hi : i < 6) (hj : j ≤ 6) (hR : sk_R s m a1 a2 a3)
    (H0 : (∀ c, j ≤ c → c < 6 → m (6 * i + c) = 0) → post (-1))
    (H1 : ∀ c, c < 6 → j ≤ c → ¬ m (6 * i + c) = 0 → (∀ c', j ≤ c' → c' < c → m (6 * i + c') = 0) → post (nI c)) : wpX_next post (mk, a1, a2, a3, a4, a5, a6, a7) (nI s) (nI i) (nI j) := by
  unfold wpX_next
  refine sk_slot hs (br_f sk_10 ?_)
  refine sk_index hi (br_f sk_10 ?_)
  refine sk_from hs hi hR ?_
  have hc := sk_cn_le m (6 * i + 6)
  refine sk_row (σ := Unit) (fun n x _ => wX_next_24 post (nI s) (nI i) (nI j) mk a1 a2 a3 a4 a5 a6 a7 n x) (fun c _ => ∀ c', j ≤ c' → c' < c → m (6 * i + c') = 0) m (s * 36) i ?_ ?_ ?_ 0 () (by omega) (fun c _ h => absurd h (by omega))
  · intro n _ h
    unfold wX_next_24
    refine sk_upto hs hi hR ?_
    exact pk_le (s * 36 + sk_c m (6 * i + 6)) (s * 36 + sk_c m (6 * i + 6)) (fun _ => H0 h) (fun z => absurd z (by omega))
  · intro c _ hc hz h c' h1 h2
    by_cases e : c' = c
    · rw [e]
      exact hz
    · exact h c' h1 (by omega)
  · intro n c _ hc6 hz hlt h hw
    unfold wX_next_24
    refine sk_upto hs hi hR ?_
    refine pk_le (s * 36 + sk_c m (6 * i + 6)) (s * 36 + sk_c m (6 * i + c)) (fun z => absurd z (by omega)) (fun _ => ⟨vp_in_nI (by omega) (by omega), ?_⟩)
    rw [nI_clamp (by omega), (hR.2 i c hi hc6 hz).1]
    refine pk_lt c j (fun z => nm_r (nI_1 _) (hw () ?_)) (fun z => ⟨vp_in_nI (by omega) (by omega), H1 c hc6 z hz h⟩)
    intro c' h1 h2
    omega
end
section
/-! put -/
theorem sk_put {post : Int32 → St2 → Prop} {M M' : Nat → Nat → Int32} {s i j : Nat} {v mk : Int32} {a1 a2 a3 a4 a5 a6 a7 : Nat → Int32} (hs : s < 5) (hi : i < 6) (hj : j < 6) (hI : sk_I M a1 a2 a3) (ho : sk_O M M' s)
    (hm : ∀ r c, r < 6 → c < 6 → M' s (6 * r + c) = if r = i ∧ c = j then v else M s (6 * r + c))
    (hp : ∀ mk' a1' a2' a3' a4' a5' a6' a7', sk_I M' a1' a2' a3' → post 1 (mk', a1', a2', a3', a4', a5', a6', a7')) : wpX_put post (mk, a1, a2, a3, a4, a5, a6, a7) (nI s) (nI i) (nI j) v := by
  have hR := hI s hs
  unfold wpX_put
  refine sk_slot hs (br_f sk_10 ?_)
  refine sk_index hi (br_f sk_10 ?_)
  refine sk_index hj (br_f sk_10 ?_)
  refine sk_begin (M' s) (fun mk0 b4 b5 b6 hB => ?_)
  refine pk_loop (fun n r (p : Int32 × (Nat → Int32) × (Nat → Int32) × (Nat → Int32) × (Nat → Int32)) => wX_put_30 post (nI s) (nI i) (nI j) v n (nI r) p.1 a1 a2 a3 p.2.1 p.2.2.1 p.2.2.2.1 p.2.2.2.2)
    (fun r p => sk_B (M' s) r (6 * r) p.1 p.2.1 p.2.2.1 p.2.2.2.1) 6 0 (mk0, b4, b5, b6, a7) (by omega) hB ?_ ?_
  · intro n p h
    exact pk_le 6 6 (fun _ => sk_store hs hI ho h (fun mk' a1' a2' a3' h' => hp _ _ _ _ _ _ _ _ h')) (fun z => absurd z (by omega))
  · intro n r p hr h hw
    obtain ⟨q, c4, c5, c6, c7⟩ := p
    refine pk_le 6 r (fun z => absurd z (by omega)) (fun _ => ?_)
    refine sk_clear (fun w hw0 => ?_)
    refine sk_from hs hr hR ?_
    have tail : ∀ w', (∀ c, c < 6 → w' c = M' s (6 * r + c)) → wX_put_101 post (wX_put_30 post (nI s) (nI i) (nI j) v n) (nI s) (nI i) (nI j) v (nI r) q a1 a2 a3 c4 c5 c6 w' := by
      intro w' hw'
      unfold wX_put_101
      refine sk_emitW hr h hw' (fun mk' b5' b6' h' => ?_)
      refine sk_end hr h' (fun b4' h'' => ?_)
      exact nm_r (nI_1 r) (hw (mk', b4', b5', b6', w') h'')
    have hb := sk_cn_le (M s) (6 * r + 6)
    refine sk_row (fun n' x w' => wX_put_50 post (wX_put_30 post (nI s) (nI i) (nI j) v n) (nI s) (nI i) (nI j) v (nI r) q n' x a1 a2 a3 c4 c5 c6 w') (fun c w' => ∀ c', c' < 6 → w' c' = if c' < c then M s (6 * r + c') else 0) (M s) (s * 36) r ?_ ?_ ?_ 0 w (by omega) (fun c' hc' => by rw [hw0 c' hc', if_neg (by omega)])
    · intro n' w' h6
      unfold wX_put_50
      refine sk_upto hs hr hR ?_
      refine pk_le (s * 36 + sk_c (M s) (6 * r + 6)) (s * 36 + sk_c (M s) (6 * r + 6)) (fun _ => ?_) (fun z => absurd z (by omega))
      refine pk_eq r i (fun z => ⟨vp_in_nI hj (by omega), nm_r (e' := upd w' j v) (by rw [nI_clamp (by omega)]) (tail _ ?_)⟩) (fun z => tail _ ?_)
      · intro c hc
        by_cases e : c = j
        · rw [e, pk_us, hm r j hr hj, if_pos ⟨z, rfl⟩]
        · rw [pk_un e, h6 c hc, if_pos hc, hm r c hr hc, if_neg (fun t => e t.2)]
      · intro c hc
        rw [h6 c hc, if_pos hc, hm r c hr hc, if_neg (fun t => z t.1)]
    · intro c w' hc hz h1 c' hc'
      rw [h1 c' hc']
      by_cases e : c' = c
      · rw [e, if_neg (by omega), if_pos (by omega), hz]
      · by_cases e2 : c' < c
        · rw [if_pos e2, if_pos (by omega)]
        · rw [if_neg e2, if_neg (by omega)]
    · intro n' c w' hc hz hlt h1 hw1
      unfold wX_put_50
      refine sk_upto hs hr hR ?_
      refine pk_le (s * 36 + sk_c (M s) (6 * r + 6)) (s * 36 + sk_c (M s) (6 * r + c)) (fun z => absurd z (by omega)) (fun _ => ?_)
      have ecl : (nI (s * 36 + sk_c (M s) (6 * r + c))).toNatClampNeg = s * 36 + sk_c (M s) (6 * r + c) := nI_clamp (by omega)
      rw [ecl, (hR.2 r c hr hc hz).1, (hR.2 r c hr hc hz).2]
      refine ⟨vp_in_nI (by omega) (by omega), vp_in_nI (by omega) (by omega), vp_in_nI hc (by omega), nm_r (e' := upd w' c (M s (6 * r + c))) (by rw [nI_clamp (by omega)]) (nm_r (nI_1 _) (hw1 _ (fun c' hc' => ?_)))⟩
      by_cases e : c' = c
      · rw [e, pk_us, if_pos (by omega)]
      · rw [pk_un e, h1 c' hc']
        by_cases e2 : c' < c
        · rw [if_pos e2, if_pos (by omega)]
        · rw [if_neg e2, if_neg (by omega)]
end
section
/-! productRow, product, masked -/
/-- the first k terms of the product's cell (i, c) -/
def sk_P (A B : Nat → Int32) (i c : Nat) : Nat → Int32
  | 0 => 0
  | k + 1 => sk_P A B i c k + A (6 * i + k) * B (6 * k + c)
theorem sk_Ps (A B : Nat → Int32) (i c k : Nat) : sk_P A B i c (k + 1) = sk_P A B i c k + A (6 * i + k) * B (6 * k + c) := rfl
theorem sk_prow {post : St2 → Prop} {A B : Nat → Int32} {a b i : Nat} {mk : Int32} {a1 a2 a3 a4 a5 a6 a7 : Nat → Int32} (ha : a < 5) (hb : b < 5) (hi : i < 6) (hA : sk_R a A a1 a2 a3) (hB : sk_R b B a1 a2 a3)
    (hp : ∀ w, (∀ c, c < 6 → w c = sk_P A B i c 6) → post (mk, a1, a2, a3, a4, a5, a6, w)) : wpX_productRow post (mk, a1, a2, a3, a4, a5, a6, a7) (nI a) (nI b) (nI i) := by
  unfold wpX_productRow
  refine sk_clear (fun w hw0 => ?_)
  refine sk_from ha hi hA ?_
  have hbA := sk_cn_le A (6 * i + 6)
  refine sk_row (fun n x w => wX_productRow_12 post (nI a) (nI b) (nI i) mk n x a1 a2 a3 a4 a5 a6 w) (fun k w => ∀ c, c < 6 → w c = sk_P A B i c k) A (a * 36) i ?_ ?_ ?_ 0 w (by omega) hw0
  · intro n w h
    unfold wX_productRow_12
    refine sk_upto ha hi hA ?_
    exact pk_le (a * 36 + sk_c A (6 * i + 6)) (a * 36 + sk_c A (6 * i + 6)) (fun _ => hp w h) (fun z => absurd z (by omega))
  · intro k w hk hz h c hc
    rw [h c hc, sk_Ps, hz, Int32.zero_mul, Int32.add_zero]
  · intro n k w hk hz hlt h hw
    unfold wX_productRow_12
    refine sk_upto ha hi hA ?_
    have ecl : (nI (a * 36 + sk_c A (6 * i + k))).toNatClampNeg = a * 36 + sk_c A (6 * i + k) := nI_clamp (by omega)
    refine pk_le (a * 36 + sk_c A (6 * i + 6)) (a * 36 + sk_c A (6 * i + k)) (fun z => absurd z (by omega)) (fun _ => ⟨vp_in_nI (by omega) (by omega), nm_r (e' := nI k) (by rw [ecl]; exact (hA.2 i k hi hk hz).1) ?_⟩)
    refine sk_from hb hk hB ?_
    have hbB := sk_cn_le B (6 * k + 6)
    refine sk_row (fun n' x w' => wX_productRow_41 post (wX_productRow_12 post (nI a) (nI b) (nI i) mk n) (nI a) (nI b) (nI i) (nI (a * 36 + sk_c A (6 * i + k))) (nI k) mk n' x a1 a2 a3 a4 a5 a6 w')
      (fun c w' => ∀ c', c' < 6 → w' c' = sk_P A B i c' k + (if c' < c then A (6 * i + k) * B (6 * k + c') else 0)) B (b * 36) k ?_ ?_ ?_ 0 w (by omega) (fun c' hc' => by rw [if_neg (by omega), Int32.add_zero]; exact h c' hc')
    · intro n' w' h6
      unfold wX_productRow_41
      refine sk_upto hb hk hB ?_
      refine pk_le (b * 36 + sk_c B (6 * k + 6)) (b * 36 + sk_c B (6 * k + 6)) (fun _ => nm_r (nI_1 _) (hw w' (fun c hc => ?_))) (fun z => absurd z (by omega))
      rw [h6 c hc, if_pos hc, sk_Ps]
    · intro c w' hc hz2 h1 c' hc'
      rw [h1 c' hc']
      by_cases e : c' = c
      · rw [e, if_neg (by omega), if_pos (by omega), hz2, Int32.mul_zero]
      · by_cases e2 : c' < c
        · rw [if_pos e2, if_pos (by omega)]
        · rw [if_neg e2, if_neg (by omega)]
    · intro n' c w' hc hz2 hlt2 h1 hw1
      unfold wX_productRow_41
      refine sk_upto hb hk hB ?_
      refine pk_le (b * 36 + sk_c B (6 * k + 6)) (b * 36 + sk_c B (6 * k + c)) (fun z => absurd z (by omega)) (fun _ => ?_)
      have ecl2 : (nI (b * 36 + sk_c B (6 * k + c))).toNatClampNeg = b * 36 + sk_c B (6 * k + c) := nI_clamp (by omega)
      rw [ecl, ecl2, (hB.2 k c hk hc hz2).1, (hB.2 k c hk hc hz2).2, (hA.2 i k hi hk hz).2]
      refine ⟨vp_in_nI (by omega) (by omega), vp_in_nI hc (by omega), vp_in_nI (by omega) (by omega), vp_in_nI (by omega) (by omega), vp_in_nI hc (by omega), nm_r (e' := upd w' c (w' c + A (6 * i + k) * B (6 * k + c))) (by rw [nI_clamp (by omega)]) (nm_r (nI_1 _) (hw1 _ (fun c' hc' => ?_)))⟩
      by_cases e : c' = c
      · rw [e, pk_us, if_pos (by omega), h1 c hc, if_neg (by omega), Int32.add_zero]
      · rw [pk_un e, h1 c' hc']
        by_cases e2 : c' < c
        · rw [if_pos e2, if_pos (by omega)]
        · rw [if_neg e2, if_neg (by omega)]
theorem sk_product {post : Int32 → St2 → Prop} {M M' : Nat → Nat → Int32} {t a b : Nat} {mk : Int32} {a1 a2 a3 a4 a5 a6 a7 : Nat → Int32} (ht : t < 5) (ha : a < 5) (hb : b < 5) (hI : sk_I M a1 a2 a3) (ho : sk_O M M' t)
    (hm : ∀ r c, r < 6 → c < 6 → M' t (6 * r + c) = sk_P (M a) (M b) r c 6)
    (hp : ∀ mk' a1' a2' a3' a4' a5' a6' a7', sk_I M' a1' a2' a3' → post (nI (sk_c (M' t) 36)) (mk', a1', a2', a3', a4', a5', a6', a7')) : wpX_product post (mk, a1, a2, a3, a4, a5, a6, a7) (nI t) (nI a) (nI b) := by
  unfold wpX_product
  refine sk_slot ht (br_f sk_10 ?_)
  refine sk_slot ha (br_f sk_10 ?_)
  refine sk_slot hb (br_f sk_10 ?_)
  refine sk_begin (M' t) (fun mk0 b4 b5 b6 hB => ?_)
  refine pk_loop (fun n r (p : Int32 × (Nat → Int32) × (Nat → Int32) × (Nat → Int32) × (Nat → Int32)) => wX_product_30 post (nI t) (nI a) (nI b) n (nI r) p.1 a1 a2 a3 p.2.1 p.2.2.1 p.2.2.2.1 p.2.2.2.2)
    (fun r p => sk_B (M' t) r (6 * r) p.1 p.2.1 p.2.2.1 p.2.2.2.1) 6 0 (mk0, b4, b5, b6, a7) (by omega) hB ?_ ?_
  · intro n p h
    exact pk_le 6 6 (fun _ => sk_store ht hI ho h (fun mk' a1' a2' a3' h' => hp _ _ _ _ _ _ _ _ h')) (fun z => absurd z (by omega))
  · intro n r p hr h hw
    obtain ⟨q, c4, c5, c6, c7⟩ := p
    refine pk_le 6 r (fun z => absurd z (by omega)) (fun _ => ?_)
    refine sk_prow ha hb hr (hI a ha) (hI b hb) (fun w hw' => ?_)
    refine sk_emitW hr h (fun c hc => (hw' c hc).trans (hm r c hr hc).symm) (fun mk' b5' b6' h' => ?_)
    refine sk_end hr h' (fun b4' h'' => ?_)
    exact nm_r (nI_1 r) (hw (mk', b4', b5', b6', w) h'')
theorem sk_masked {post : Int32 → St2 → Prop} {M M' : Nat → Nat → Int32} {t a b d : Nat} {x mk : Int32} {a1 a2 a3 a4 a5 a6 a7 : Nat → Int32} (ht : t < 5) (ha : a < 5) (hb : b < 5) (hd : d < 5)
    (xa : x &&& 7 = nI a) (xb : (x >>> ((3 : Int32) &&& 31)) &&& 7 = nI b) (xd : x >>> ((6 : Int32) &&& 31) = nI d) (hI : sk_I M a1 a2 a3) (ho : sk_O M M' t)
    (hm : ∀ r c, r < 6 → c < 6 → M' t (6 * r + c) = if M d (6 * r + c) = 0 then 0 else sk_P (M a) (M b) r c 6)
    (hp : ∀ mk' a1' a2' a3' a4' a5' a6' a7', sk_I M' a1' a2' a3' → post (nI (sk_c (M' t) 36)) (mk', a1', a2', a3', a4', a5', a6', a7')) : wpX_masked post (mk, a1, a2, a3, a4, a5, a6, a7) (nI t) x := by
  have hR := hI d hd
  unfold wpX_masked
  refine nm_r xa (nm_r xb (nm_r xd ?_))
  refine sk_slot ht (br_f sk_10 ?_)
  refine sk_slot ha (br_f sk_10 ?_)
  refine sk_slot hb (br_f sk_10 ?_)
  refine sk_slot hd (br_f sk_10 ?_)
  refine sk_begin (M' t) (fun mk0 b4 b5 b6 hB => ?_)
  refine pk_loop (fun n r (p : Int32 × (Nat → Int32) × (Nat → Int32) × (Nat → Int32) × (Nat → Int32)) => wX_masked_58 post (nI t) (nI a) (nI b) (nI d) n (nI r) p.1 a1 a2 a3 p.2.1 p.2.2.1 p.2.2.2.1 p.2.2.2.2)
    (fun r p => sk_B (M' t) r (6 * r) p.1 p.2.1 p.2.2.1 p.2.2.2.1) 6 0 (mk0, b4, b5, b6, a7) (by omega) hB ?_ ?_
  · intro n p h
    exact pk_le 6 6 (fun _ => sk_store ht hI ho h (fun mk' a1' a2' a3' h' => hp _ _ _ _ _ _ _ _ h')) (fun z => absurd z (by omega))
  · intro n r p hr h hw
    obtain ⟨q, c4, c5, c6, c7⟩ := p
    refine pk_le 6 r (fun z => absurd z (by omega)) (fun _ => ?_)
    refine sk_prow ha hb hr (hI a ha) (hI b hb) (fun w hw' => ?_)
    refine sk_from hd hr hR ?_
    have hbd := sk_cn_le (M d) (6 * r + 6)
    refine sk_row (fun n' x (p : Int32 × (Nat → Int32) × (Nat → Int32)) => wX_masked_84 post (wX_masked_58 post (nI t) (nI a) (nI b) (nI d) n) (nI t) (nI a) (nI b) (nI d) (nI r) n' x p.1 a1 a2 a3 c4 p.2.1 p.2.2 w)
      (fun c p => sk_B (M' t) r (6 * r + c) p.1 c4 p.2.1 p.2.2) (M d) (d * 36) r ?_ ?_ ?_ 0 (q, c5, c6) (by omega) h
    · intro n' p h6
      unfold wX_masked_84
      refine sk_upto hd hr hR ?_
      refine pk_le (d * 36 + sk_c (M d) (6 * r + 6)) (d * 36 + sk_c (M d) (6 * r + 6)) (fun _ => ?_) (fun z => absurd z (by omega))
      refine sk_end hr h6 (fun b4' h'' => ?_)
      exact nm_r (nI_1 r) (hw (p.1, b4', p.2.1, p.2.2, w) h'')
    · intro c p hc hz h1
      exact sk_Bz (by rw [hm r c hr hc, if_pos hz]) h1
    · intro n' c p hc hz hlt h1 hw1
      unfold wX_masked_84
      refine sk_upto hd hr hR ?_
      have ecl : (nI (d * 36 + sk_c (M d) (6 * r + c))).toNatClampNeg = d * 36 + sk_c (M d) (6 * r + c) := nI_clamp (by omega)
      refine pk_le (d * 36 + sk_c (M d) (6 * r + 6)) (d * 36 + sk_c (M d) (6 * r + c)) (fun z => absurd z (by omega)) (fun _ => ⟨vp_in_nI (by omega) (by omega), nm_r (e' := nI c) (by rw [ecl]; exact (hR.2 r c hr hc hz).1) ⟨vp_in_nI hc (by omega), ?_⟩⟩)
      refine sk_emit hr hc h1 rfl ?_ (fun mk' b5' b6' h' => nm_r (nI_1 _) (hw1 (mk', b5', b6') h'))
      rw [nI_clamp (by omega), hw' c hc, hm r c hr hc, if_neg hz]
end
section
/-! transpose, scale, select, entrywise (over an empty matrix) -/
theorem sk_transpose {post : Int32 → St2 → Prop} {M M' : Nat → Nat → Int32} {t a : Nat} {mk : Int32} {a1 a2 a3 a4 a5 a6 a7 : Nat → Int32} (ht : t < 5) (ha : a < 5) (hI : sk_I M a1 a2 a3) (ho : sk_O M M' t)
    (hm : ∀ r c, r < 6 → c < 6 → M' t (6 * r + c) = M a (6 * c + r))
    (hp : ∀ mk' a1' a2' a3' a4' a5' a6' a7', sk_I M' a1' a2' a3' → post (nI (sk_c (M' t) 36)) (mk', a1', a2', a3', a4', a5', a6', a7')) : wpX_transpose post (mk, a1, a2, a3, a4, a5, a6, a7) (nI t) (nI a) := by
  have hR := hI a ha
  unfold wpX_transpose
  refine sk_slot ht (br_f sk_10 ?_)
  refine sk_slot ha (br_f sk_10 ?_)
  refine sk_begin (M' t) (fun mk0 b4 b5 b6 hB => ?_)
  refine pk_loop (fun n r (p : Int32 × (Nat → Int32) × (Nat → Int32) × (Nat → Int32)) => wX_transpose_22 post (nI t) (nI a) n (nI r) p.1 a1 a2 a3 p.2.1 p.2.2.1 p.2.2.2 a7)
    (fun r p => sk_B (M' t) r (6 * r) p.1 p.2.1 p.2.2.1 p.2.2.2) 6 0 (mk0, b4, b5, b6) (by omega) hB ?_ ?_
  · intro n p h
    exact pk_le 6 6 (fun _ => sk_store ht hI ho h (fun mk' a1' a2' a3' h' => hp _ _ _ _ _ _ _ _ h')) (fun z => absurd z (by omega))
  · intro n r p hr h hw
    obtain ⟨q, c4, c5, c6⟩ := p
    refine pk_le 6 r (fun z => absurd z (by omega)) (fun _ => ?_)
    refine pk_loop (fun n' c (p : Int32 × (Nat → Int32) × (Nat → Int32)) => wX_transpose_31 post (wX_transpose_22 post (nI t) (nI a) n) (nI t) (nI a) (nI r) n' (nI c) p.1 a1 a2 a3 c4 p.2.1 p.2.2 a7)
      (fun c p => sk_B (M' t) r (6 * r + c) p.1 c4 p.2.1 p.2.2) 6 0 (q, c5, c6) (by omega) h ?_ ?_
    · intro n' p h6
      refine pk_le 6 6 (fun _ => ?_) (fun z => absurd z (by omega))
      refine sk_end hr h6 (fun b4' h'' => ?_)
      exact nm_r (nI_1 r) (hw (p.1, b4', p.2.1, p.2.2) h'')
    · intro n' c p hc h1 hw1
      refine pk_le 6 c (fun z => absurd z (by omega)) (fun _ => ?_)
      refine sk_find ha hc hr hR (fun hz => ?_) (fun hz => ?_)
      · exact br_t (by decide) (nm_r (nI_1 c) (hw1 p (sk_Bz (by rw [hm r c hr hc, hz]) h1)))
      · have hb := sk_cn_le (M a) (6 * c + r)
        refine br_f (nI_pos (by omega)) ⟨vp_in_nI (by omega) (by omega), ?_⟩
        refine sk_emit hr hc h1 rfl ?_ (fun mk' b5' b6' h' => nm_r (nI_1 c) (hw1 (mk', b5', b6') h'))
        rw [nI_clamp (by omega), (hR.2 c r hc hr hz).2, hm r c hr hc]
theorem sk_scale {post : Int32 → St2 → Prop} {M M' : Nat → Nat → Int32} {t a : Nat} {x mk : Int32} {a1 a2 a3 a4 a5 a6 a7 : Nat → Int32} (ht : t < 5) (ha : a < 5) (hI : sk_I M a1 a2 a3) (ho : sk_O M M' t)
    (hm : ∀ r c, r < 6 → c < 6 → M' t (6 * r + c) = M a (6 * r + c) * x)
    (hp : ∀ mk' a1' a2' a3' a4' a5' a6' a7', sk_I M' a1' a2' a3' → post (nI (sk_c (M' t) 36)) (mk', a1', a2', a3', a4', a5', a6', a7')) : wpX_scale post (mk, a1, a2, a3, a4, a5, a6, a7) (nI t) (nI a) x := by
  have hR := hI a ha
  unfold wpX_scale
  refine sk_slot ht (br_f sk_10 ?_)
  refine sk_slot ha (br_f sk_10 ?_)
  refine sk_begin (M' t) (fun mk0 b4 b5 b6 hB => ?_)
  refine pk_loop (fun n r (p : Int32 × (Nat → Int32) × (Nat → Int32) × (Nat → Int32)) => wX_scale_23 post (nI t) (nI a) x n (nI r) p.1 a1 a2 a3 p.2.1 p.2.2.1 p.2.2.2 a7)
    (fun r p => sk_B (M' t) r (6 * r) p.1 p.2.1 p.2.2.1 p.2.2.2) 6 0 (mk0, b4, b5, b6) (by omega) hB ?_ ?_
  · intro n p h
    exact pk_le 6 6 (fun _ => sk_store ht hI ho h (fun mk' a1' a2' a3' h' => hp _ _ _ _ _ _ _ _ h')) (fun z => absurd z (by omega))
  · intro n r p hr h hw
    obtain ⟨q, c4, c5, c6⟩ := p
    refine pk_le 6 r (fun z => absurd z (by omega)) (fun _ => ?_)
    refine sk_from ha hr hR ?_
    have hb := sk_cn_le (M a) (6 * r + 6)
    refine sk_row (fun n' y (p : Int32 × (Nat → Int32) × (Nat → Int32)) => wX_scale_39 post (wX_scale_23 post (nI t) (nI a) x n) (nI t) (nI a) x (nI r) n' y p.1 a1 a2 a3 c4 p.2.1 p.2.2 a7)
      (fun c p => sk_B (M' t) r (6 * r + c) p.1 c4 p.2.1 p.2.2) (M a) (a * 36) r ?_ ?_ ?_ 0 (q, c5, c6) (by omega) h
    · intro n' p h6
      unfold wX_scale_39
      refine sk_upto ha hr hR ?_
      refine pk_le (a * 36 + sk_c (M a) (6 * r + 6)) (a * 36 + sk_c (M a) (6 * r + 6)) (fun _ => ?_) (fun z => absurd z (by omega))
      refine sk_end hr h6 (fun b4' h'' => ?_)
      exact nm_r (nI_1 r) (hw (p.1, b4', p.2.1, p.2.2) h'')
    · intro c p hc hz h1
      exact sk_Bz (by rw [hm r c hr hc, hz, Int32.zero_mul]) h1
    · intro n' c p hc hz hlt h1 hw1
      unfold wX_scale_39
      refine sk_upto ha hr hR ?_
      refine pk_le (a * 36 + sk_c (M a) (6 * r + 6)) (a * 36 + sk_c (M a) (6 * r + c)) (fun z => absurd z (by omega)) (fun _ => ⟨vp_in_nI (by omega) (by omega), vp_in_nI (by omega) (by omega), ?_⟩)
      refine sk_emit hr hc h1 ?_ ?_ (fun mk' b5' b6' h' => nm_r (nI_1 _) (hw1 (mk', b5', b6') h'))
      · rw [nI_clamp (by omega)]
        exact (hR.2 r c hr hc hz).1
      · rw [nI_clamp (by omega), (hR.2 r c hr hc hz).2, hm r c hr hc]
theorem sk_Bzs {m : Nat → Int32} {i : Nat} {mk : Int32} {a4 a5 a6 : Nat → Int32} (hz : ∀ c, c < 6 → m (6 * i + c) = 0) (h : sk_B m i (6 * i) mk a4 a5 a6) : ∀ k, k ≤ 6 → sk_B m i (6 * i + k) mk a4 a5 a6 := by
  intro k
  induction k with
  | zero => intro _; exact h
  | succ k ih => intro hk; exact sk_Bz (hz k (by omega)) (ih (by omega))
theorem sk_select {post : Int32 → St2 → Prop} {M M' : Nat → Nat → Int32} {t a : Nat} {x mk : Int32} {a1 a2 a3 a4 a5 a6 a7 : Nat → Int32} (R C : Nat → Prop) (ht : t < 5) (ha : a < 5) (hx0 : ¬ x < 0) (hx1 : x ≤ 4095)
    (hr1 : ∀ r, r < 6 → R r → ¬ (x >>> (nI r &&& 31)) &&& 1 = 0) (hr0 : ∀ r, r < 6 → ¬ R r → (x >>> (nI r &&& 31)) &&& 1 = 0)
    (hc1 : ∀ c, c < 6 → C c → ¬ (x >>> ((6 + nI c) &&& 31)) &&& 1 = 0) (hc0 : ∀ c, c < 6 → ¬ C c → (x >>> ((6 + nI c) &&& 31)) &&& 1 = 0) (hI : sk_I M a1 a2 a3) (ho : sk_O M M' t)
    (hm1 : ∀ r c, r < 6 → c < 6 → R r → C c → M' t (6 * r + c) = M a (6 * r + c))
    (hm0 : ∀ r c, r < 6 → c < 6 → ¬ R r → M' t (6 * r + c) = 0) (hm2 : ∀ r c, r < 6 → c < 6 → ¬ C c → M' t (6 * r + c) = 0)
    (hp : ∀ mk' a1' a2' a3' a4' a5' a6' a7', sk_I M' a1' a2' a3' → post (nI (sk_c (M' t) 36)) (mk', a1', a2', a3', a4', a5', a6', a7')) : wpX_select post (mk, a1, a2, a3, a4, a5, a6, a7) (nI t) (nI a) x := by
  have hR := hI a ha
  unfold wpX_select
  refine sk_slot ht (br_f sk_10 ?_)
  refine sk_slot ha (br_f sk_10 ?_)
  refine br_f hx0 (br_t hx1 ?_)
  refine sk_begin (M' t) (fun mk0 b4 b5 b6 hB => ?_)
  refine pk_loop (fun n r (p : Int32 × (Nat → Int32) × (Nat → Int32) × (Nat → Int32)) => wX_select_34 post (nI t) (nI a) x n (nI r) p.1 a1 a2 a3 p.2.1 p.2.2.1 p.2.2.2 a7)
    (fun r p => sk_B (M' t) r (6 * r) p.1 p.2.1 p.2.2.1 p.2.2.2) 6 0 (mk0, b4, b5, b6) (by omega) hB ?_ ?_
  · intro n p h
    exact pk_le 6 6 (fun _ => sk_store ht hI ho h (fun mk' a1' a2' a3' h' => hp _ _ _ _ _ _ _ _ h')) (fun z => absurd z (by omega))
  · intro n r p hr h hw
    obtain ⟨q, c4, c5, c6⟩ := p
    refine pk_le 6 r (fun z => absurd z (by omega)) (fun _ => ?_)
    have hb := sk_cn_le (M a) (6 * r + 6)
    have tail : ∀ q' c5' c6', sk_B (M' t) r (6 * r + 6) q' c4 c5' c6' → wX_select_124 post (wX_select_34 post (nI t) (nI a) x n) (nI t) (nI a) x (nI r) q' a1 a2 a3 c4 c5' c6' a7 := by
      intro q' c5' c6' h6
      unfold wX_select_124
      refine sk_end hr h6 (fun b4' h'' => ?_)
      exact nm_r (nI_1 r) (hw (q', b4', c5', c6') h'')
    refine br_c (fun z => ?_) (fun z => ?_)
    · have hR0 : ¬ R r := fun t => hr1 r hr t z
      unfold wX_select_55
      refine sk_from ha hr hR ⟨1, ?_⟩
      unfold wX_select_66
      refine sk_upto ha hr hR ?_
      have h6 := sk_Bzs (fun c hc => hm0 r c hr hc hR0) h 6 (by omega)
      exact br_c (fun _ => tail _ _ _ h6) (fun _ => br_t rfl (tail _ _ _ h6))
    · have hR1 : R r := Classical.byContradiction (fun t => z (hr0 r hr t))
      unfold wX_select_55
      refine sk_from ha hr hR ?_
      refine sk_row (fun n' y (p : Int32 × (Nat → Int32) × (Nat → Int32)) => wX_select_66 post (wX_select_34 post (nI t) (nI a) x n) (nI t) (nI a) x (nI r) 1 n' y p.1 a1 a2 a3 c4 p.2.1 p.2.2 a7)
        (fun c p => sk_B (M' t) r (6 * r + c) p.1 c4 p.2.1 p.2.2) (M a) (a * 36) r ?_ ?_ ?_ 0 (q, c5, c6) (by omega) h
      · intro n' p h6
        unfold wX_select_66
        refine sk_upto ha hr hR ?_
        exact pk_le (a * 36 + sk_c (M a) (6 * r + 6)) (a * 36 + sk_c (M a) (6 * r + 6)) (fun _ => tail _ _ _ h6) (fun z => absurd z (by omega))
      · intro c p hc hz h1
        refine sk_Bz ?_ h1
        by_cases hC : C c
        · rw [hm1 r c hr hc hR1 hC, hz]
        · exact hm2 r c hr hc hC
      · intro n' c p hc hz hlt h1 hw1
        unfold wX_select_66
        refine sk_upto ha hr hR ?_
        refine pk_le (a * 36 + sk_c (M a) (6 * r + 6)) (a * 36 + sk_c (M a) (6 * r + c)) (fun z => absurd z (by omega)) (fun _ => br_f sk_10 ⟨vp_in_nI (by omega) (by omega), ?_⟩)
        have ecl : (nI (a * 36 + sk_c (M a) (6 * r + c))).toNatClampNeg = a * 36 + sk_c (M a) (6 * r + c) := nI_clamp (by omega)
        rw [ecl, (hR.2 r c hr hc hz).1, (hR.2 r c hr hc hz).2]
        by_cases hC : C c
        · refine br_f (hc1 c hc hC) ⟨vp_in_nI (by omega) (by omega), vp_in_nI (by omega) (by omega), ?_⟩
          exact sk_emit hr hc h1 rfl (hm1 r c hr hc hR1 hC).symm (fun mk' b5' b6' h' => nm_r (nI_1 _) (hw1 (mk', b5', b6') h'))
        · exact br_t (hc0 c hc hC) (nm_r (nI_1 _) (hw1 p (sk_Bz (hm2 r c hr hc hC) h1)))
theorem sk_entry {post : Int32 → St2 → Prop} {M M' : Nat → Nat → Int32} {t a b : Nat} {mk : Int32} {a1 a2 a3 a4 a5 a6 a7 : Nat → Int32} (ht : t < 5) (ha : a < 5) (hb : b < 5) (hI : sk_I M a1 a2 a3) (ho : sk_O M M' t)
    (h0 : ∀ q, q < 36 → M a q = 0) (hm : ∀ q, q < 36 → M' t q = 0)
    (hp : ∀ mk' a1' a2' a3' a4' a5' a6' a7', sk_I M' a1' a2' a3' → post (nI (sk_c (M' t) 36)) (mk', a1', a2', a3', a4', a5', a6', a7')) : wpX_entrywise post (mk, a1, a2, a3, a4, a5, a6, a7) (nI t) (nI a) (nI b) := by
  have hA := hI a ha
  have hB := hI b hb
  unfold wpX_entrywise
  refine sk_slot ht (br_f sk_10 ?_)
  refine sk_slot ha (br_f sk_10 ?_)
  refine sk_slot hb (br_f sk_10 ?_)
  refine sk_begin (M' t) (fun mk0 b4 b5 b6 hN => ?_)
  refine pk_loop (fun n r (p : Int32 × (Nat → Int32) × (Nat → Int32) × (Nat → Int32)) => wX_entrywise_30 post (nI t) (nI a) (nI b) n (nI r) p.1 a1 a2 a3 p.2.1 p.2.2.1 p.2.2.2 a7)
    (fun r p => sk_B (M' t) r (6 * r) p.1 p.2.1 p.2.2.1 p.2.2.2) 6 0 (mk0, b4, b5, b6) (by omega) hN ?_ ?_
  · intro n p h
    exact pk_le 6 6 (fun _ => sk_store ht hI ho h (fun mk' a1' a2' a3' h' => hp _ _ _ _ _ _ _ _ h')) (fun z => absurd z (by omega))
  · intro n r p hr h hw
    obtain ⟨q, c4, c5, c6⟩ := p
    refine pk_le 6 r (fun z => absurd z (by omega)) (fun _ => ?_)
    unfold wpX_crossRow
    refine sk_from ha hr hA ?_
    refine sk_from hb hr hB ?_
    refine sk_upto ha hr hA ?_
    refine sk_upto hb hr hB ⟨1, ?_⟩
    have z1 : sk_c (M a) (6 * r) = 0 := sk_call0 (fun q hq => h0 q (by omega))
    have z2 : sk_c (M a) (6 * r + 6) = 0 := sk_call0 (fun q hq => h0 q (by omega))
    refine pk_le (a * 36 + sk_c (M a) (6 * r + 6)) (a * 36 + sk_c (M a) (6 * r)) (fun _ => ?_) (fun z => absurd z (by omega))
    have h6 := sk_Bzs (fun c hc => hm (6 * r + c) (by omega)) h 6 (by omega)
    refine sk_end hr h6 (fun b4' h'' => ?_)
    exact nm_r (nI_1 r) (hw (q, b4', c5, c6) h'')
end
section
/-! sum, rowsProduct -/
def sk_S (f : Nat → Int32) : Nat → Int32
  | 0 => 0
  | n + 1 => sk_S f n + f n
theorem sk_Ss (f : Nat → Int32) (n : Nat) : sk_S f (n + 1) = sk_S f n + f n := rfl
theorem sk_sum {post : Int32 → Prop} {m f : Nat → Int32} {s w k : Nat} {mk : Int32} {a1 a2 a3 a4 a5 a6 a7 : Nat → Int32} (hs : s < 5) (hw : w ≤ 2) (hk : w < 2 → k < 6) (hk2 : k < 2 ^ 31) (hR : sk_R s m a1 a2 a3)
    (hf1 : ∀ r c, r < 6 → c < 6 → ((w = 0 ∧ r = k) ∨ (w = 1 ∧ c = k) ∨ (w = 2 ∧ c = r)) → f (6 * r + c) = m (6 * r + c))
    (hf0 : ∀ r c, r < 6 → c < 6 → ¬ ((w = 0 ∧ r = k) ∨ (w = 1 ∧ c = k) ∨ (w = 2 ∧ c = r)) → f (6 * r + c) = 0)
    (hp : post (sk_S f 36)) : wpX_sum post (mk, a1, a2, a3, a4, a5, a6, a7) (nI s) (nI w) (nI k) := by
  have main : ∃ n, wX_sum_36 post (nI s) (nI w) (nI k) mk a1 a2 a3 a4 a5 a6 a7 n 0 0 := by
    refine pk_loop (fun n r (x : Int32) => wX_sum_36 post (nI s) (nI w) (nI k) mk a1 a2 a3 a4 a5 a6 a7 n x (nI r)) (fun r x => x = sk_S f (6 * r)) 6 0 (0 : Int32) (by omega) rfl ?_ ?_
    · intro n x h
      refine pk_le 6 6 (fun _ => ?_) (fun z => absurd z (by omega))
      rw [h]
      exact hp
    · intro n r x hr h hn
      refine pk_le 6 r (fun z => absurd z (by omega)) (fun _ => ?_)
      refine sk_from hs hr hR ?_
      have hb := sk_cn_le m (6 * r + 6)
      refine sk_row (fun n' y (x : Int32) => wX_sum_52 post (wX_sum_36 post (nI s) (nI w) (nI k) mk a1 a2 a3 a4 a5 a6 a7 n) (nI s) (nI w) (nI k) (nI r) mk a1 a2 a3 a4 a5 a6 a7 n' x y) (fun c x => x = sk_S f (6 * r + c)) m (s * 36) r ?_ ?_ ?_ 0 x (by omega) h
      · intro n' x' h6
        unfold wX_sum_52
        refine sk_upto hs hr hR ?_
        refine pk_le (s * 36 + sk_c m (6 * r + 6)) (s * 36 + sk_c m (6 * r + 6)) (fun _ => nm_r (nI_1 r) (hn x' ?_)) (fun z => absurd z (by omega))
        rw [h6]
        exact congrArg (sk_S f) (by omega)
      · intro c x' hc hz h1
        have ez : f (6 * r + c) = 0 := by
          by_cases hD : (w = 0 ∧ r = k) ∨ (w = 1 ∧ c = k) ∨ (w = 2 ∧ c = r)
          · rw [hf1 r c hr hc hD, hz]
          · exact hf0 r c hr hc hD
        rw [show 6 * r + (c + 1) = 6 * r + c + 1 by omega, sk_Ss, ez, Int32.add_zero]
        exact h1
      · intro n' c x' hc hz hlt h1 hw1
        unfold wX_sum_52
        refine sk_upto hs hr hR ?_
        refine pk_le (s * 36 + sk_c m (6 * r + 6)) (s * 36 + sk_c m (6 * r + c)) (fun z => absurd z (by omega)) (fun _ => ?_)
        have ecl : (nI (s * 36 + sk_c m (6 * r + c))).toNatClampNeg = s * 36 + sk_c m (6 * r + c) := nI_clamp (by omega)
        have t1 : ((w = 0 ∧ r = k) ∨ (w = 1 ∧ c = k) ∨ (w = 2 ∧ c = r)) → wX_sum_123 post (wX_sum_36 post (nI s) (nI w) (nI k) mk a1 a2 a3 a4 a5 a6 a7 n) (wX_sum_52 post (wX_sum_36 post (nI s) (nI w) (nI k) mk a1 a2 a3 a4 a5 a6 a7 n) (nI s) (nI w) (nI k) (nI r) mk a1 a2 a3 a4 a5 a6 a7 n') (nI s) (nI w) (nI k) x' (nI r) (nI (s * 36 + sk_c m (6 * r + c))) 1 mk a1 a2 a3 a4 a5 a6 a7 := by
          intro hD
          refine br_f sk_10 ⟨vp_in_nI (by omega) (by omega), nm_r (e' := sk_S f (6 * r + c + 1)) ?_ (nm_r (nI_1 _) (hw1 _ rfl))⟩
          rw [ecl, (hR.2 r c hr hc hz).2, sk_Ss, hf1 r c hr hc hD]
          exact congrArg (· + m (6 * r + c)) h1
        have t0 : ¬ ((w = 0 ∧ r = k) ∨ (w = 1 ∧ c = k) ∨ (w = 2 ∧ c = r)) → wX_sum_123 post (wX_sum_36 post (nI s) (nI w) (nI k) mk a1 a2 a3 a4 a5 a6 a7 n) (wX_sum_52 post (wX_sum_36 post (nI s) (nI w) (nI k) mk a1 a2 a3 a4 a5 a6 a7 n) (nI s) (nI w) (nI k) (nI r) mk a1 a2 a3 a4 a5 a6 a7 n') (nI s) (nI w) (nI k) x' (nI r) (nI (s * 36 + sk_c m (6 * r + c))) 0 mk a1 a2 a3 a4 a5 a6 a7 := by
          intro hD
          refine br_t rfl (nm_r (e' := sk_S f (6 * r + c + 1)) ?_ (nm_r (nI_1 _) (hw1 _ rfl)))
          rw [sk_Ss, hf0 r c hr hc hD]
          exact congrArg (· + 0) h1
        rw [ecl, (hR.2 r c hr hc hz).1]
        refine pk_eq w 0 (fun z => pk_eq r k (fun e => t1 (Or.inl ⟨z, e⟩)) (fun e => t0 (by omega))) (fun z => ?_)
        refine pk_eq w 1 (fun z1 => ⟨vp_in_nI (by omega) (by omega), ?_⟩) (fun z1 => ⟨vp_in_nI (by omega) (by omega), ?_⟩)
        · exact pk_eq c k (fun e => t1 (Or.inr (Or.inl ⟨z1, e⟩))) (fun e => t0 (by omega))
        · exact pk_eq c r (fun e => t1 (Or.inr (Or.inr ⟨by omega, e⟩))) (fun e => t0 (by omega))
  unfold wpX_sum
  refine sk_slot hs (br_f sk_10 ?_)
  refine br_f (nI_pos (by omega)) ?_
  refine pk_lt 2 w (fun z => absurd z (by omega)) (fun _ => ?_)
  refine pk_le 2 w (fun z => main) (fun z => ?_)
  exact sk_index (hk z) (br_f sk_10 main)
def sk_Q (A B : Nat → Int32) (i j : Nat) : Nat → Int32
  | 0 => 0
  | k + 1 => sk_Q A B i j k + A (6 * i + k) * B (6 * j + k)
theorem sk_Qs (A B : Nat → Int32) (i j k : Nat) : sk_Q A B i j (k + 1) = sk_Q A B i j k + A (6 * i + k) * B (6 * j + k) := rfl
theorem sk_rows {post : Int32 → Prop} {A B : Nat → Int32} {a i b j : Nat} {mk : Int32} {a1 a2 a3 a4 a5 a6 a7 : Nat → Int32} (ha : a < 5) (hi : i < 6) (hb : b < 5) (hj : j < 6) (hA : sk_R a A a1 a2 a3) (hB : sk_R b B a1 a2 a3)
    (hp : post (sk_Q A B i j 6)) : wpX_rowsProduct post (mk, a1, a2, a3, a4, a5, a6, a7) (nI a) (nI i) (nI b) (nI j) := by
  unfold wpX_rowsProduct
  refine sk_slot ha (br_f sk_10 ?_)
  refine sk_index hi (br_f sk_10 ?_)
  refine sk_slot hb (br_f sk_10 ?_)
  refine sk_index hj (br_f sk_10 ?_)
  refine sk_from hb hj hB ?_
  refine sk_from ha hi hA ?_
  have hbA := sk_cn_le A (6 * i + 6)
  have hbB := sk_cn_le B (6 * j + 6)
  refine sk_row (fun n y (p : Int32 × Nat) => wX_rowsProduct_51 post (nI a) (nI i) (nI b) (nI j) mk a1 a2 a3 a4 a5 a6 a7 n p.1 (nI (b * 36 + sk_c B (6 * j + p.2))) y) (fun k p => p.1 = sk_Q A B i j k ∧ p.2 ≤ k) A (a * 36) i ?_ ?_ ?_ 0 (0, 0) (by omega) ⟨rfl, Nat.le_refl _⟩
  · intro n p h
    unfold wX_rowsProduct_51
    refine sk_upto ha hi hA ?_
    refine pk_le (a * 36 + sk_c A (6 * i + 6)) (a * 36 + sk_c A (6 * i + 6)) (fun _ => ?_) (fun z => absurd z (by omega))
    rw [h.1]
    exact hp
  · intro k p hk hz h
    refine ⟨?_, Nat.le_succ_of_le h.2⟩
    rw [sk_Qs, hz, Int32.zero_mul, Int32.add_zero]
    exact h.1
  · intro n k p hk hz hlt h hw
    obtain ⟨x5, c0⟩ := p
    have h1 : x5 = sk_Q A B i j k := h.1
    have h2 : c0 ≤ k := h.2
    unfold wX_rowsProduct_51
    refine sk_upto ha hi hA ?_
    refine pk_le (a * 36 + sk_c A (6 * i + 6)) (a * 36 + sk_c A (6 * i + k)) (fun z => absurd z (by omega)) (fun _ => ?_)
    have ecA : (nI (a * 36 + sk_c A (6 * i + k))).toNatClampNeg = a * 36 + sk_c A (6 * i + k) := nI_clamp (by omega)
    have hA1 := (hA.2 i k hi hk hz).1
    have hA2 := (hA.2 i k hi hk hz).2
    have hkB := sk_cle B (show 6 * j + k ≤ 6 * j + 6 by omega)
    have tail : wX_rowsProduct_97 post (wX_rowsProduct_51 post (nI a) (nI i) (nI b) (nI j) mk a1 a2 a3 a4 a5 a6 a7 n) (nI a) (nI i) (nI b) (nI j) x5 (nI (b * 36 + sk_c B (6 * j + k))) (nI (a * 36 + sk_c A (6 * i + k))) mk a1 a2 a3 a4 a5 a6 a7 := by
      unfold wX_rowsProduct_97
      refine sk_upto hb hj hB ?_
      have hnone : B (6 * j + k) = 0 → wX_rowsProduct_51 post (nI a) (nI i) (nI b) (nI j) mk a1 a2 a3 a4 a5 a6 a7 n x5 (nI (b * 36 + sk_c B (6 * j + k))) (nI (a * 36 + sk_c A (6 * i + k) + 1)) := by
        intro hz2
        refine hw (x5, k) ⟨?_, Nat.le_succ k⟩
        rw [sk_Qs, hz2, Int32.mul_zero, Int32.add_zero]
        exact h1
      refine pk_le (b * 36 + sk_c B (6 * j + 6)) (b * 36 + sk_c B (6 * j + k)) (fun z => nm_r (nI_1 _) (hnone (sk_czero (show sk_c B (6 * j + 6) ≤ sk_c B (6 * j + k) by omega) (Nat.le_refl _) (by omega)))) (fun z => ?_)
      obtain ⟨q, q1, q2, q3, q4⟩ := sk_csel (m := B) (a := 6 * j + k) (b := 6 * j + 6) (k := sk_c B (6 * j + k)) (by omega) (Nat.le_refl _) (by omega)
      obtain ⟨c, rfl⟩ : ∃ c, q = 6 * j + c := ⟨q - 6 * j, by omega⟩
      have ecB : (nI (b * 36 + sk_c B (6 * j + k))).toNatClampNeg = b * 36 + sk_c B (6 * j + k) := nI_clamp (by omega)
      have hB1 := (hB.2 j c hj (by omega) q3).1
      have hB2 := (hB.2 j c hj (by omega) q3).2
      rw [q4] at hB1 hB2
      rw [ecA, ecB, hA1, hA2, hB1, hB2]
      refine ⟨vp_in_nI (by omega) (by omega), vp_in_nI (by omega) (by omega), ?_⟩
      refine pk_eq c k (fun e => ⟨vp_in_nI (by omega) (by omega), vp_in_nI (by omega) (by omega), nm_r (e' := sk_Q A B i j (k + 1)) ?_ (nm_r (nI_1 _) (hw (sk_Q A B i j (k + 1), k) ⟨rfl, Nat.le_succ k⟩))⟩) (fun e => nm_r (nI_1 _) (hnone (sk_czero (show sk_c B (6 * j + c) ≤ sk_c B (6 * j + k) by omega) (Nat.le_refl _) (by omega))))
      rw [sk_Qs, e, h1]
    refine sk_row (σ := Unit) (fun n' y _ => wX_rowsProduct_62 post (wX_rowsProduct_51 post (nI a) (nI i) (nI b) (nI j) mk a1 a2 a3 a4 a5 a6 a7 n) (nI a) (nI i) (nI b) (nI j) x5 (nI (a * 36 + sk_c A (6 * i + k))) mk a1 a2 a3 a4 a5 a6 a7 n' y) (fun c _ => k ≤ c → sk_c B (6 * j + c) = sk_c B (6 * j + k)) B (b * 36) j ?_ ?_ ?_ c0 () (by omega) (fun z => by rw [show c0 = k by omega])
    · intro n' _ h6
      unfold wX_rowsProduct_62
      refine sk_upto hb hj hB ?_
      refine pk_le (b * 36 + sk_c B (6 * j + 6)) (b * 36 + sk_c B (6 * j + 6)) (fun _ => ?_) (fun z => absurd z (by omega))
      rw [h6 (by omega)]
      exact tail
    · intro c _ hc hz2 h3 hkc
      by_cases e : k = c + 1
      · rw [e]
      · rw [show 6 * j + (c + 1) = 6 * j + c + 1 by omega, sk_cz hz2]
        exact h3 (by omega)
    · intro n' c _ hc hz2 hlt2 h3 hw1
      unfold wX_rowsProduct_62
      refine sk_upto hb hj hB ?_
      refine pk_le (b * 36 + sk_c B (6 * j + 6)) (b * 36 + sk_c B (6 * j + c)) (fun z => absurd z (by omega)) (fun _ => ⟨vp_in_nI (by omega) (by omega), vp_in_nI (by omega) (by omega), ?_⟩)
      have ecB : (nI (b * 36 + sk_c B (6 * j + c))).toNatClampNeg = b * 36 + sk_c B (6 * j + c) := nI_clamp (by omega)
      rw [ecA, ecB, hA1, (hB.2 j c hj hc hz2).1]
      refine pk_le k c (fun z => ?_) (fun z => nm_r (nI_1 _) (hw1 () (fun z2 => ?_)))
      · rw [h3 z]
        exact tail
      · rw [show k = c + 1 by omega]
end
section
/-! same, symmetric -/
theorem sk_sameR {A B : Nat → Int32} {a b : Nat} {a1 a2 a3 : Nat → Int32} (hA : sk_R a A a1 a2 a3) (hB : sk_R b B a1 a2 a3) (hst : ∀ r, r ≤ 6 → sk_c A (6 * r) = sk_c B (6 * r))
    (hel : ∀ k, k < sk_c A 36 → a2 (a * 36 + k) = a2 (b * 36 + k) ∧ a3 (a * 36 + k) = a3 (b * 36 + k)) : ∀ i j, i < 6 → j < 6 → ¬ A (6 * i + j) = 0 → A (6 * i + j) = B (6 * i + j) := by
  intro i j hi hj hz
  have l1 := sk_clt hz (show 6 * i + j < 6 * i + 6 by omega)
  have l2 := sk_cle A (show 6 * i ≤ 6 * i + j by omega)
  have l3 := sk_cle A (show 6 * i + 6 ≤ 36 by omega)
  have s1 := hst i (by omega)
  have s2 := hst (i + 1) (by omega)
  rw [show 6 * (i + 1) = 6 * i + 6 by omega] at s2
  obtain ⟨q, q1, q2, q3, q4⟩ := sk_csel (m := B) (a := 6 * i) (b := 6 * i + 6) (k := sk_c A (6 * i + j)) (by omega) (by omega) (by omega)
  obtain ⟨c, rfl⟩ : ∃ c, q = 6 * i + c := ⟨q - 6 * i, by omega⟩
  have hA1 := hA.2 i j hi hj hz
  have hB1 := hB.2 i c hi (by omega) q3
  have he := hel (sk_c A (6 * i + j)) (by omega)
  rw [q4] at hB1
  have ejc : nI j = nI c := by rw [← hA1.1, he.1, hB1.1]
  have ejc' : j = c := (nI_eq (by omega) (by omega)).mp ejc
  rw [← hA1.2, he.2, hB1.2, ejc']
theorem sk_same {post : Int32 → Prop} {A B : Nat → Int32} {a b : Nat} {mk : Int32} {a1 a2 a3 a4 a5 a6 a7 : Nat → Int32} (ha : a < 5) (hb : b < 5) (hA : sk_R a A a1 a2 a3) (hB : sk_R b B a1 a2 a3)
    (H1 : (∀ i j, i < 6 → j < 6 → A (6 * i + j) = B (6 * i + j)) → post 1) (H0 : ¬ (∀ i j, i < 6 → j < 6 → A (6 * i + j) = B (6 * i + j)) → post 0) : wpX_same post (mk, a1, a2, a3, a4, a5, a6, a7) (nI a) (nI b) := by
  have flat : (∀ i j, i < 6 → j < 6 → A (6 * i + j) = B (6 * i + j)) → ∀ q, q < 36 → A q = B q := by
    intro h q hq
    have t := h (q / 6) (q % 6) (by omega) (by omega)
    rw [show 6 * (q / 6) + q % 6 = q by omega] at t
    exact t
  unfold wpX_same
  refine sk_slot ha (br_f sk_10 ?_)
  refine sk_slot hb (br_f sk_10 ?_)
  refine pk_loop (σ := Unit) (fun n i _ => wX_same_18 post (nI a) (nI b) mk a1 a2 a3 a4 a5 a6 a7 n (nI i)) (fun i _ => ∀ r, r < i → sk_c A (6 * r) = sk_c B (6 * r)) 7 0 () (by omega) (fun r hr => absurd hr (by omega)) ?_ ?_
  · intro n _ hst
    refine pk_lt 6 7 (fun _ => ?_) (fun z => absurd z (by omega))
    have hc := sk_cn_le A 36
    have h36 : sk_c A 36 = sk_c B 36 := hst 6 (by omega)
    have e7 : nI a * 7 + 6 = nI (a * 7 + 6) := sk_iy a 6
    have i7 : vp_in (nI a * 7 + 6) 35 := by
      rw [e7]
      exact vp_in_nI (by omega) (by omega)
    have v7 : a1 (nI a * 7 + 6).toNatClampNeg = nI (sk_c A 36) := by
      rw [e7, nI_clamp (by omega), hA.1 6 (by omega)]
    refine pk_loop (σ := Unit) (fun n k _ => wX_same_59 post (nI a) (nI b) mk a1 a2 a3 a4 a5 a6 a7 n (nI k)) (fun k _ => ∀ j, j < k → a2 (a * 36 + j) = a2 (b * 36 + j) ∧ a3 (a * 36 + j) = a3 (b * 36 + j)) (sk_c A 36) 0 () (by omega) (fun r hr => absurd hr (by omega)) ?_ ?_
    · intro n' _ hel
      refine ⟨i7, ?_⟩
      rw [v7]
      refine pk_le (sk_c A 36) (sk_c A 36) (fun _ => H1 ?_) (fun z => absurd z (by omega))
      intro i j hi hj
      by_cases hz : A (6 * i + j) = 0
      · by_cases hz2 : B (6 * i + j) = 0
        · rw [hz, hz2]
        · exact (sk_sameR hB hA (fun r hr => (hst r (by omega)).symm) (fun k hk => ⟨(hel k (by omega)).1.symm, (hel k (by omega)).2.symm⟩) i j hi hj hz2).symm
      · exact sk_sameR hA hB (fun r hr => hst r (by omega)) hel i j hi hj hz
    · intro n' k _ hk hel hw
      refine ⟨i7, ?_⟩
      rw [v7]
      refine pk_le (sk_c A 36) k (fun z => absurd z (by omega)) (fun _ => nm_r (sk_ix a k) (nm_r (sk_ix b k) ⟨vp_in_nI (by omega) (by omega), vp_in_nI (by omega) (by omega), ?_⟩))
      have ea : (nI (a * 36 + k)).toNatClampNeg = a * 36 + k := nI_clamp (by omega)
      have eb : (nI (b * 36 + k)).toNatClampNeg = b * 36 + k := nI_clamp (by omega)
      rw [ea, eb]
      have bad : ¬ (a2 (a * 36 + k) = a2 (b * 36 + k) ∧ a3 (a * 36 + k) = a3 (b * 36 + k)) → post 0 := by
        intro hn
        refine H0 (fun hall => hn ?_)
        have hf := flat hall
        obtain ⟨q, q1, q2, q3, q4⟩ := sk_csel (m := A) (a := 0) (b := 36) (k := k) (by omega) (by rw [sk_c0]; omega) hk
        have eq : 6 * (q / 6) + q % 6 = q := by omega
        have hA1 := hA.2 (q / 6) (q % 6) (by omega) (by omega) (by rw [eq]; exact q3)
        have hB1 := hB.2 (q / 6) (q % 6) (by omega) (by omega) (by rw [eq, ← hf q q2]; exact q3)
        have ecc : sk_c A q = sk_c B q := sk_ccong (fun q' hq' => hf q' (by omega))
        rw [eq, q4] at hA1
        rw [eq, ← ecc, q4] at hB1
        rw [hA1.1, hA1.2, hB1.1, hB1.2]
        exact ⟨rfl, hf q q2⟩
      refine br_c (fun z1 => ⟨vp_in_nI (by omega) (by omega), vp_in_nI (by omega) (by omega), br_c (fun z2 => nm_r (nI_1 k) (hw () ?_)) (fun z2 => bad (fun t => z2 t.2))⟩) (fun z1 => bad (fun t => z1 t.1))
      exact lt_s hel ⟨z1, z2⟩
  · intro n i _ hi hst hw
    have ea : nI a * 7 + nI i = nI (a * 7 + i) := sk_iy a i
    have eb : nI b * 7 + nI i = nI (b * 7 + i) := sk_iy b i
    refine pk_lt 6 i (fun z => absurd z (by omega)) (fun _ => ?_)
    rw [ea, eb, nI_clamp (by omega), nI_clamp (by omega), hA.1 i (by omega), hB.1 i (by omega)]
    have c1 := sk_cn_le A (6 * i)
    have c2 := sk_cn_le B (6 * i)
    refine ⟨vp_in_nI (by omega) (by omega), vp_in_nI (by omega) (by omega), pk_eq (sk_c A (6 * i)) (sk_c B (6 * i)) (fun e => nm_r (nI_1 i) (hw () (lt_s hst e))) (fun e => H0 (fun hall => e ?_))⟩
    exact sk_ccong (fun q hq => flat hall q (by omega))
theorem sk_symm {post : Int32 → Prop} {m : Nat → Int32} {s : Nat} {mk : Int32} {a1 a2 a3 a4 a5 a6 a7 : Nat → Int32} (hs : s < 5) (hR : sk_R s m a1 a2 a3)
    (H1 : (∀ i j, i < 6 → j < 6 → ¬ m (6 * i + j) = 0 → m (6 * j + i) = m (6 * i + j)) → post 1) (H0 : ∀ i j, i < 6 → j < 6 → ¬ m (6 * j + i) = m (6 * i + j) → post 0) : wpX_symmetric post (mk, a1, a2, a3, a4, a5, a6, a7) (nI s) := by
  unfold wpX_symmetric
  refine sk_slot hs (br_f sk_10 ?_)
  refine pk_loop (σ := Unit) (fun n i _ => wX_symmetric_11 post (nI s) mk a1 a2 a3 a4 a5 a6 a7 n (nI i)) (fun i _ => ∀ r, r < i → ∀ j, j < 6 → ¬ m (6 * r + j) = 0 → m (6 * j + r) = m (6 * r + j)) 6 0 () (by omega) (fun r hr => absurd hr (by omega)) ?_ ?_
  · intro n _ h
    exact pk_le 6 6 (fun _ => H1 (fun i j hi hj hz => h i hi j hj hz)) (fun z => absurd z (by omega))
  · intro n i _ hi h hw
    refine pk_le 6 i (fun z => absurd z (by omega)) (fun _ => ?_)
    refine sk_from hs hi hR ?_
    have hb := sk_cn_le m (6 * i + 6)
    refine sk_row (σ := Unit) (fun n' y _ => wX_symmetric_24 post (wX_symmetric_11 post (nI s) mk a1 a2 a3 a4 a5 a6 a7 n) (nI s) (nI i) mk a1 a2 a3 a4 a5 a6 a7 n' y) (fun c _ => ∀ j, j < c → ¬ m (6 * i + j) = 0 → m (6 * j + i) = m (6 * i + j)) m (s * 36) i ?_ ?_ ?_ 0 () (by omega) (fun r hr => absurd hr (by omega))
    · intro n' _ h6
      unfold wX_symmetric_24
      refine sk_upto hs hi hR ?_
      exact pk_le (s * 36 + sk_c m (6 * i + 6)) (s * 36 + sk_c m (6 * i + 6)) (fun _ => nm_r (nI_1 i) (hw () (lt_s h h6))) (fun z => absurd z (by omega))
    · intro c _ hc hz h1
      exact lt_s h1 (fun z => absurd hz z)
    · intro n' c _ hc hz hlt h1 hw1
      unfold wX_symmetric_24
      refine sk_upto hs hi hR ?_
      refine pk_le (s * 36 + sk_c m (6 * i + 6)) (s * 36 + sk_c m (6 * i + c)) (fun z => absurd z (by omega)) (fun _ => ⟨vp_in_nI (by omega) (by omega), ?_⟩)
      have ecl : (nI (s * 36 + sk_c m (6 * i + c))).toNatClampNeg = s * 36 + sk_c m (6 * i + c) := nI_clamp (by omega)
      rw [ecl, (hR.2 i c hi hc hz).1]
      refine sk_find hs hc hi hR (fun hz2 => ?_) (fun hz2 => ?_)
      · exact br_t (by decide) (H0 i c hi hc (by rw [hz2]; exact fun t => hz t.symm))
      · have hb2 := sk_cn_le m (6 * c + i)
        refine br_f (nI_pos (by omega)) ⟨vp_in_nI (by omega) (by omega), vp_in_nI (by omega) (by omega), ?_⟩
        rw [nI_clamp (by omega), (hR.2 c i hc hi hz2).2, (hR.2 i c hi hc hz).2]
        exact br_c (fun e => nm_r (nI_1 _) (hw1 () (lt_s h1 (fun _ => e)))) (fun e => H0 i c hi hc e)
end
section
/-! the law's matrices, in plain Lean -/
def sk_Z : Nat → Int32 := fun _ => 0
def sk_A (a b c : Int32) (q : Nat) : Int32 := a + b * nI (q / 6) + c * nI (q % 6)
def sk_D (d q : Nat) : Int32 := if q % 6 = (q / 6 + d) % 6 then 1 else 0
def sk_X2 (a b c : Int32) (d q : Nat) : Int32 := sk_A a b c (6 * (q / 6) + (q % 6 + 6 - d) % 6)
def sk_X3 (a b c : Int32) (d q : Nat) : Int32 := sk_A a b c (6 * ((q / 6 + d) % 6) + q % 6)
def sk_T (a b c : Int32) (q : Nat) : Int32 := sk_A a b c (6 * (q % 6) + q / 6)
def sk_TS (a b c : Int32) (i j q : Nat) : Int32 := if (q / 6 = i ∨ q / 6 = j) ∧ (q % 6 = 0 ∨ q % 6 = 3) then sk_T a b c q else 0
def sk_XM (a b c : Int32) (d i j q : Nat) : Int32 := if sk_TS a b c i j q = 0 then 0 else sk_X2 a b c d q
def sk_Af (a b c : Int32) (n q : Nat) : Int32 := if q < n then sk_A a b c q else 0
def sk_Df (d n q : Nat) : Int32 := if q < 6 * n then sk_D d q else 0
/-- the five slots -/
def sk_M (f0 f1 f2 f3 f4 : Nat → Int32) : Nat → Nat → Int32
  | 0 => f0
  | 1 => f1
  | 2 => f2
  | 3 => f3
  | _ => f4
theorem sk_five {P : Nat → Prop} (h0 : P 0) (h1 : P 1) (h2 : P 2) (h3 : P 3) (h4 : P 4) : ∀ s, s < 5 → P s := by
  intro s hs
  have e : s = 0 ∨ s = 1 ∨ s = 2 ∨ s = 3 ∨ s = 4 := by omega
  rcases e with e | e | e | e | e <;> subst e <;> assumption
theorem sk_O0 {f0 f1 f2 f3 f4 g : Nat → Int32} : sk_O (sk_M f0 f1 f2 f3 f4) (sk_M g f1 f2 f3 f4) 0 :=
  sk_five (fun h => absurd rfl h) (fun _ _ _ => rfl) (fun _ _ _ => rfl) (fun _ _ _ => rfl) (fun _ _ _ => rfl)
theorem sk_O1 {f0 f1 f2 f3 f4 g : Nat → Int32} : sk_O (sk_M f0 f1 f2 f3 f4) (sk_M f0 g f2 f3 f4) 1 :=
  sk_five (fun _ _ _ => rfl) (fun h => absurd rfl h) (fun _ _ _ => rfl) (fun _ _ _ => rfl) (fun _ _ _ => rfl)
theorem sk_O2 {f0 f1 f2 f3 f4 g : Nat → Int32} : sk_O (sk_M f0 f1 f2 f3 f4) (sk_M f0 f1 g f3 f4) 2 :=
  sk_five (fun _ _ _ => rfl) (fun _ _ _ => rfl) (fun h => absurd rfl h) (fun _ _ _ => rfl) (fun _ _ _ => rfl)
theorem sk_O3 {f0 f1 f2 f3 f4 g : Nat → Int32} : sk_O (sk_M f0 f1 f2 f3 f4) (sk_M f0 f1 f2 g f4) 3 :=
  sk_five (fun _ _ _ => rfl) (fun _ _ _ => rfl) (fun _ _ _ => rfl) (fun h => absurd rfl h) (fun _ _ _ => rfl)
theorem sk_O4 {f0 f1 f2 f3 f4 g : Nat → Int32} : sk_O (sk_M f0 f1 f2 f3 f4) (sk_M f0 f1 f2 f3 g) 4 :=
  sk_five (fun _ _ _ => rfl) (fun _ _ _ => rfl) (fun _ _ _ => rfl) (fun _ _ _ => rfl) (fun h => absurd rfl h)
theorem sk_Ic {M M' : Nat → Nat → Int32} {a1 a2 a3 : Nat → Int32} (h : sk_I M a1 a2 a3) (e : ∀ s, s < 5 → ∀ q, q < 36 → M' s q = M s q) : sk_I M' a1 a2 a3 :=
  fun s hs => sk_Rc (h s hs) (e s hs)
theorem sk_R0 {m a2 a3 : Nat → Int32} (s : Nat) (h : ∀ q, m q = 0) : sk_R s m (fun _ => 0) a2 a3 := by
  refine ⟨fun i hi => ?_, fun i j hi hj hz => absurd (h _) hz⟩
  rw [sk_call0 (fun q _ => h q)]
  rfl
theorem sk_Av (a b c : Int32) {r k : Nat} (hk : k < 6) : sk_A a b c (6 * r + k) = a + b * nI r + c * nI k := by
  unfold sk_A
  rw [show (6 * r + k) / 6 = r by omega, show (6 * r + k) % 6 = k by omega]
theorem sk_Dv (d : Nat) {r k : Nat} (hk : k < 6) : sk_D d (6 * r + k) = if k = (r + d) % 6 then 1 else 0 := by
  unfold sk_D
  rw [show (6 * r + k) / 6 = r by omega, show (6 * r + k) % 6 = k by omega]
theorem sk_Dn (d : Nat) {r k : Nat} (hk : k < 6) : ¬ sk_D d (6 * r + k) = 0 ↔ k = (r + d) % 6 := by
  rw [sk_Dv d hk]
  by_cases e : k = (r + d) % 6
  · rw [if_pos e]
    exact ⟨fun _ => e, fun _ => by decide⟩
  · rw [if_neg e]
    exact ⟨fun h => absurd rfl h, fun h => absurd h e⟩
theorem sk_X2v (a b c : Int32) (d : Nat) {r k : Nat} (hk : k < 6) : sk_X2 a b c d (6 * r + k) = sk_A a b c (6 * r + (k + 6 - d) % 6) := by
  unfold sk_X2
  rw [show (6 * r + k) / 6 = r by omega, show (6 * r + k) % 6 = k by omega]
theorem sk_X3v (a b c : Int32) (d : Nat) {r k : Nat} (hk : k < 6) : sk_X3 a b c d (6 * r + k) = sk_A a b c (6 * ((r + d) % 6) + k) := by
  unfold sk_X3
  rw [show (6 * r + k) / 6 = r by omega, show (6 * r + k) % 6 = k by omega]
theorem sk_Tv (a b c : Int32) {r k : Nat} (hk : k < 6) : sk_T a b c (6 * r + k) = sk_A a b c (6 * k + r) := by
  unfold sk_T
  rw [show (6 * r + k) / 6 = r by omega, show (6 * r + k) % 6 = k by omega]
theorem sk_TSv (a b c : Int32) (i j : Nat) {r k : Nat} (hk : k < 6) : sk_TS a b c i j (6 * r + k) = if (r = i ∨ r = j) ∧ (k = 0 ∨ k = 3) then sk_T a b c (6 * r + k) else 0 := by
  unfold sk_TS
  rw [show (6 * r + k) / 6 = r by omega, show (6 * r + k) % 6 = k by omega]
/-- a sum with one term -/
theorem sk_pick {h : Nat → Int32} {k0 : Nat} {v : Int32} : ∀ {n : Nat}, (∀ k, k < n → h k = if k = k0 then v else 0) → sk_S h n = if k0 < n then v else 0 := by
  intro n
  induction n with
  | zero => intro _; rw [if_neg (by omega)]; rfl
  | succ n ih =>
    intro hh
    rw [sk_Ss, ih (fun k hk => hh k (by omega)), hh n (by omega)]
    by_cases e : n = k0
    · rw [if_neg (by omega), if_pos e, if_pos (by omega), Int32.zero_add]
    · rw [if_neg e, Int32.add_zero]
      by_cases e2 : k0 < n
      · rw [if_pos e2, if_pos (by omega)]
      · rw [if_neg e2, if_neg (by omega)]
theorem sk_PS (A B : Nat → Int32) (i c : Nat) : ∀ n, sk_P A B i c n = sk_S (fun k => A (6 * i + k) * B (6 * k + c)) n := by
  intro n
  induction n with
  | zero => rfl
  | succ n ih => rw [sk_Ps, sk_Ss, ih]
theorem sk_QS (A B : Nat → Int32) (i j : Nat) : ∀ n, sk_Q A B i j n = sk_S (fun k => A (6 * i + k) * B (6 * j + k)) n := by
  intro n
  induction n with
  | zero => rfl
  | succ n ih => rw [sk_Qs, sk_Ss, ih]
theorem sk_PAD (A : Nat → Int32) {d r c : Nat} (hd : d < 6) (hc : c < 6) : sk_P A (sk_D d) r c 6 = A (6 * r + (c + 6 - d) % 6) := by
  rw [sk_PS, sk_pick (k0 := (c + 6 - d) % 6) (v := A (6 * r + (c + 6 - d) % 6)), if_pos (by omega)]
  intro k hk
  show A (6 * r + k) * sk_D d (6 * k + c) = _
  rw [sk_Dv d hc]
  by_cases e : k = (c + 6 - d) % 6
  · rw [if_pos (by omega), if_pos e, Int32.mul_one, e]
  · rw [if_neg (by omega), if_neg e, Int32.mul_zero]
theorem sk_PDA (A : Nat → Int32) {d r c : Nat} : sk_P (sk_D d) A r c 6 = A (6 * ((r + d) % 6) + c) := by
  rw [sk_PS, sk_pick (k0 := (r + d) % 6) (v := A (6 * ((r + d) % 6) + c)), if_pos (by omega)]
  intro k hk
  show sk_D d (6 * r + k) * A (6 * k + c) = _
  rw [sk_Dv d hk]
  by_cases e : k = (r + d) % 6
  · rw [if_pos e, if_pos e, Int32.one_mul, e]
  · rw [if_neg e, if_neg e, Int32.zero_mul]
theorem sk_QAD (A : Nat → Int32) {d i j : Nat} : sk_Q A (sk_D d) i j 6 = A (6 * i + (j + d) % 6) := by
  rw [sk_QS, sk_pick (k0 := (j + d) % 6) (v := A (6 * i + (j + d) % 6)), if_pos (by omega)]
  intro k hk
  show A (6 * i + k) * sk_D d (6 * j + k) = _
  rw [sk_Dv d hk]
  by_cases e : k = (j + d) % 6
  · rw [if_pos e, if_pos e, Int32.mul_one, e]
  · rw [if_neg e, if_neg e, Int32.mul_zero]
theorem sk_D6 : ∀ d, d < 6 → sk_c (sk_D d) 36 = 6 := by decide +kernel
/-! sums -/
def sk_N (g : Nat → Nat) : Nat → Nat
  | 0 => 0
  | n + 1 => sk_N g n + g n
theorem sk_Ns (g : Nat → Nat) (n : Nat) : sk_N g (n + 1) = sk_N g n + g n := rfl
def sk_W (a b c : Int32) (p : Nat → Bool) (q : Nat) : Int32 := if p q = true then sk_A a b c q else 0
theorem sk_ring (a b c x y z u v : Int32) : a * x + b * y + c * z + (a + b * u + c * v) = a * (x + 1) + b * (y + u) + c * (z + v) := by
  grind
theorem sk_lin (a b c : Int32) (p : Nat → Bool) : ∀ n, sk_S (sk_W a b c p) n = a * nI (sk_N (fun q => if p q = true then 1 else 0) n) + b * nI (sk_N (fun q => if p q = true then q / 6 else 0) n) + c * nI (sk_N (fun q => if p q = true then q % 6 else 0) n) := by
  intro n
  induction n with
  | zero =>
    show (0 : Int32) = a * 0 + b * 0 + c * 0
    grind
  | succ n ih =>
    rw [sk_Ss, ih, sk_Ns, sk_Ns, sk_Ns]
    by_cases e : p n = true
    · rw [if_pos e, if_pos e, if_pos e, ← nI_add, ← nI_add, ← nI_add]
      unfold sk_W
      rw [if_pos e]
      exact sk_ring a b c _ _ _ _ _
    · rw [if_neg e, if_neg e, if_neg e]
      unfold sk_W
      rw [if_neg e, Int32.add_zero]
      rfl
theorem sk_n0 : ∀ i, i < 6 → sk_N (fun q => if (decide (q / 6 = i)) = true then 1 else 0) 36 = 6 ∧ sk_N (fun q => if (decide (q / 6 = i)) = true then q / 6 else 0) 36 = 6 * i ∧ sk_N (fun q => if (decide (q / 6 = i)) = true then q % 6 else 0) 36 = 15 := by decide +kernel
theorem sk_n1 : ∀ i, i < 6 → sk_N (fun q => if (decide (q % 6 = i)) = true then 1 else 0) 36 = 6 ∧ sk_N (fun q => if (decide (q % 6 = i)) = true then q / 6 else 0) 36 = 15 ∧ sk_N (fun q => if (decide (q % 6 = i)) = true then q % 6 else 0) 36 = 6 * i := by decide +kernel
theorem sk_n2 : sk_N (fun q => if (decide (q % 6 = q / 6)) = true then 1 else 0) 36 = 6 ∧ sk_N (fun q => if (decide (q % 6 = q / 6)) = true then q / 6 else 0) 36 = 15 ∧ sk_N (fun q => if (decide (q % 6 = q / 6)) = true then q % 6 else 0) 36 = 15 := by decide +kernel
theorem sk_s0 (a b c : Int32) {i : Nat} (hi : i < 6) : sk_S (sk_W a b c (fun q => decide (q / 6 = i))) 36 = 6 * a + 6 * b * nI i + 15 * c := by
  obtain ⟨e1, e2, e3⟩ := sk_n0 i hi
  rw [sk_lin, e1, e2, e3, ← pk_mul]
  show a * 6 + b * (6 * nI i) + c * 15 = _
  grind
theorem sk_s1 (a b c : Int32) {j : Nat} (hj : j < 6) : sk_S (sk_W a b c (fun q => decide (q % 6 = j))) 36 = 6 * a + 15 * b + 6 * c * nI j := by
  obtain ⟨e1, e2, e3⟩ := sk_n1 j hj
  rw [sk_lin, e1, e2, e3, ← pk_mul]
  show a * 6 + b * 15 + c * (6 * nI j) = _
  grind
theorem sk_s2 (a b c : Int32) : sk_S (sk_W a b c (fun q => decide (q % 6 = q / 6))) 36 = 6 * a + 15 * b + 15 * c := by
  obtain ⟨e1, e2, e3⟩ := sk_n2
  rw [sk_lin, e1, e2, e3]
  show a * 6 + b * 15 + c * 15 = _
  grind
/-! masks, remainders -/
theorem sk_rem6 {a : Nat} (h : a < 2 ^ 31) : nI a - nI a / 6 * 6 = nI (a % 6) := pk_rem (d := 6) h (by omega) (by omega)
theorem sk_and6 (x : Int32) : ∃ d, d < 6 ∧ (x &&& 255) - (x &&& 255) / 6 * 6 = nI d := by
  obtain ⟨k, hk, e⟩ := pk_andE x (m := 255) 8 (by decide)
  rw [e]
  exact ⟨k % 6, Nat.mod_lt _ (by omega), sk_rem6 (by omega)⟩
def sk_y (i j : Nat) : Int32 := (((1 : Int32) <<< (nI i &&& 31)) ||| ((1 : Int32) <<< (nI j &&& 31))) + 576
theorem sk_bits0 : ∀ i, i < 6 → ∀ j, j < 6 → ¬ sk_y i j < 0 := by decide +kernel
theorem sk_bits1 : ∀ i, i < 6 → ∀ j, j < 6 → sk_y i j ≤ 4095 := by decide +kernel
theorem sk_bits2 : ∀ i, i < 6 → ∀ j, j < 6 → ∀ r, r < 6 → (((sk_y i j >>> (nI r &&& 31)) &&& 1) = 0 ↔ ¬ (r = i ∨ r = j)) := by decide +kernel
theorem sk_bits3 : ∀ i, i < 6 → ∀ j, j < 6 → ∀ k, k < 6 → (((sk_y i j >>> ((6 + nI k) &&& 31)) &&& 1) = 0 ↔ ¬ (k = 0 ∨ k = 3)) := by decide +kernel
theorem sk_four : ∀ i, i < 6 → ∀ j, j < 6 → sk_n (fun q => decide ((q / 6 = i ∨ q / 6 = j) ∧ (q % 6 = 0 ∨ q % 6 = 3))) 36 ≤ 4 := by decide +kernel
theorem sk_XM4 (a b c : Int32) (d : Nat) {i j : Nat} (hi : i < 6) (hj : j < 6) : sk_c (sk_XM a b c d i j) 36 ≤ 4 := by
  refine Nat.le_trans (sk_cnb (p := fun q => decide ((q / 6 = i ∨ q / 6 = j) ∧ (q % 6 = 0 ∨ q % 6 = 3))) (fun q hq hz => ?_)) (sk_four i hi j hj)
  by_cases e : (q / 6 = i ∨ q / 6 = j) ∧ (q % 6 = 0 ∨ q % 6 = 3)
  · exact decide_eq_true e
  · refine absurd ?_ hz
    unfold sk_XM
    rw [if_pos]
    unfold sk_TS
    rw [if_neg e]
end
section
/-! the law's stages, last one first -/
theorem sk_mask5 {post : Int32 → St2 → Prop} {u : St2} {mk : Int32} {a1 a2 a3 a4 a5 a6 a7 : Nat → Int32} (hu : u = (mk, a1, a2, a3, a4, a5, a6, a7)) (hp : post (-1) (mk, a1, a2, a3, a4, a5, a6, a7)) : wpX_masked post u (nI 3) 5 := by
  subst hu
  unfold wpX_masked
  refine nm_r (e' := nI 5) (by decide) (nm_e (nm_e ?_))
  refine sk_slot (s := 3) (by omega) (br_f sk_10 ?_)
  exact br_f (nI_pos (by omega)) (pk_le 5 5 (fun _ => br_t rfl hp) (fun z => absurd z (by omega)))
theorem sk_sel4096 {post : Int32 → St2 → Prop} {mk : Int32} {a1 a2 a3 a4 a5 a6 a7 : Nat → Int32} (hp : post (-1) (mk, a1, a2, a3, a4, a5, a6, a7)) : wpX_select post (mk, a1, a2, a3, a4, a5, a6, a7) (nI 0) (nI 1) 4096 := by
  unfold wpX_select
  refine sk_slot (s := 0) (by omega) (br_f sk_10 ?_)
  refine sk_slot (s := 1) (by omega) (br_f sk_10 ?_)
  exact br_f (by decide) (br_f (by decide) hp)
theorem sk_645 {post : Int32 → St0 → Prop} {mc ms kc ks : Nat} {f0 f1 f2 f3 f4 : Nat → Int32} {x12 mk : Int32} {a1 a2 a3 a4 a5 a6 a7 : Nat → Int32} (hI : sk_I (sk_M f0 f1 f2 f3 f4) a1 a2 a3) (hx : x12 = nI (sk_c f3 36)) (hp : post 1 ()) :
    wL_lawOf_645 post mc ms x12 1 kc ks mk a1 a2 a3 a4 a5 a6 a7 := by
  unfold wL_lawOf_645
  refine sk_mask5 rfl ?_
  refine sk_count (s := 3) (m := f3) (by omega) (hI 3 (by omega)) ?_
  refine sk_scale (t := 0) (a := 0) (x := 0) (M := sk_M f0 f1 f2 f3 f4) (M' := sk_M sk_Z f1 f2 f3 f4) (by omega) (by omega) hI sk_O0 (fun r c _ _ => Int32.mul_zero.symm) (fun mk' b1 b2 b3 b4 b5 b6 b7 hJ => ?_)
  have hz : sk_c sk_Z 36 = 0 := sk_call0 (fun _ _ => rfl)
  have e0 : nI (sk_c (sk_M sk_Z f1 f2 f3 f4 0) 36) = 0 := by
    show nI (sk_c sk_Z 36) = 0
    rw [hz]
    rfl
  have e1 : nI (sk_c sk_Z 36) = 0 := e0
  refine br_f sk_10 (br_t rfl (br_t hx.symm (br_t e0 ?_)))
  refine sk_count (s := 0) (m := sk_Z) (by omega) (hJ 0 (by omega)) (br_t e1 ?_)
  refine sk_symm (s := 0) (m := sk_Z) (by omega) (hJ 0 (by omega)) (fun _ => br_f sk_10 ?_) (fun i j _ _ h => absurd rfl h)
  refine sk_entry (t := 2) (a := 0) (b := 2) (M := sk_M sk_Z f1 f2 f3 f4) (M' := sk_M sk_Z f1 sk_Z f3 f4) (by omega) (by omega) (by omega) hJ sk_O2 (fun _ _ => rfl) (fun _ _ => rfl) (fun mk2 c1 c2 c3 c4 c5 c6 c7 _ => ?_)
  refine br_t (show nI (sk_c (sk_M sk_Z f1 sk_Z f3 f4 2) 36) = 0 from e1) ?_
  refine sk_sel4096 ?_
  exact br_t rfl hp
theorem sk_489 {post : Int32 → St0 → Prop} {mc ms kc ks : Nat} {a b c mk : Int32} {d i j : Nat} {f3 a1 a2 a3 a4 a5 a6 a7 : Nat → Int32} (hd : d < 6) (hi : i < 6) (hj : j < 6)
    (hI : sk_I (sk_M (sk_A a b c) (sk_D d) (sk_X2 a b c d) f3 (sk_T a b c)) a1 a2 a3) (hp : post 1 ()) :
    wL_lawOf_489 post mc ms a b c (nI d) (nI i) (nI j) 1 kc ks mk a1 a2 a3 a4 a5 a6 a7 := by
  unfold wL_lawOf_489
  refine nm_e ?_
  have g0 := sk_bits0 i hi j hj
  have g1 := sk_bits1 i hi j hj
  have g2 := sk_bits2 i hi j hj
  have g3 := sk_bits3 i hi j hj
  refine sk_select (t := 4) (a := 4) (M := sk_M (sk_A a b c) (sk_D d) (sk_X2 a b c d) f3 (sk_T a b c)) (M' := sk_M (sk_A a b c) (sk_D d) (sk_X2 a b c d) f3 (sk_TS a b c i j)) (fun r => r = i ∨ r = j) (fun k => k = 0 ∨ k = 3) (by omega) (by omega) g0 g1 (fun r hr hR z => (g2 r hr).mp z hR) (fun r hr hR => (g2 r hr).mpr hR) (fun k hk hC z => (g3 k hk).mp z hC) (fun k hk hC => (g3 k hk).mpr hC) hI sk_O4 ?_ ?_ ?_ (fun mk1 b1 b2 b3 b4 b5 b6 b7 hI' => ?_)
  · intro r k hr hk hR hC
    show sk_TS a b c i j (6 * r + k) = sk_T a b c (6 * r + k)
    rw [sk_TSv a b c i j hk, if_pos ⟨hR, hC⟩]
  · intro r k hr hk hR
    show sk_TS a b c i j (6 * r + k) = 0
    rw [sk_TSv a b c i j hk, if_neg (fun t => hR t.1)]
  · intro r k hr hk hC
    show sk_TS a b c i j (6 * r + k) = 0
    rw [sk_TSv a b c i j hk, if_neg (fun t => hC t.2)]
  refine sk_masked (t := 3) (a := 0) (b := 1) (d := 4) (M := sk_M (sk_A a b c) (sk_D d) (sk_X2 a b c d) f3 (sk_TS a b c i j)) (M' := sk_M (sk_A a b c) (sk_D d) (sk_X2 a b c d) (sk_XM a b c d i j) (sk_TS a b c i j)) (by omega) (by omega) (by omega) (by omega) (by decide) (by decide) (by decide) hI' sk_O3 ?_ (fun mk2 c1 c2 c3 c4 c5 c6 c7 hJ => ?_)
  · intro r k hr hk
    show sk_XM a b c d i j (6 * r + k) = if sk_TS a b c i j (6 * r + k) = 0 then 0 else sk_P (sk_A a b c) (sk_D d) r k 6
    rw [sk_PAD _ hd hk]
    unfold sk_XM
    rw [sk_X2v a b c d hk]
  have h4 := sk_XM4 a b c d hi hj
  refine br_f sk_10 ?_
  refine sk_at (s := 4) (m := sk_TS a b c i j) (i := i) (j := 1) (by omega) hi (by omega) (hJ 4 (by omega)) (br_t ?_ ?_)
  · rw [sk_TSv a b c i j (by omega), if_neg (by omega)]
  refine sk_at (s := 4) (m := sk_TS a b c i j) (i := i) (j := 3) (by omega) hi (by omega) (hJ 4 (by omega)) (br_t ?_ ?_)
  · rw [sk_TSv a b c i j (by omega), if_pos (by omega), sk_Tv a b c (by omega), sk_Av a b c hi]
    rfl
  refine sk_at (s := 4) (m := sk_TS a b c i j) (i := j) (j := 0) (by omega) hj (by omega) (hJ 4 (by omega)) (br_t ?_ ?_)
  · rw [sk_TSv a b c i j (by omega), if_pos (by omega), sk_Tv a b c (by omega), sk_Av a b c hj, nI_0, Int32.mul_zero, Int32.add_zero]
  refine br_f (nI_nlt (a := 4) h4 (by omega)) ?_
  refine br_f (nI_pos (show sk_c (sk_XM a b c d i j) 36 < 2 ^ 31 by omega)) ?_
  refine sk_at (s := 3) (m := sk_XM a b c d i j) (i := i) (j := 3) (by omega) hi (by omega) (hJ 3 (by omega)) ?_
  refine sk_at (s := 4) (m := sk_TS a b c i j) (i := i) (j := 3) (by omega) hi (by omega) (hJ 4 (by omega)) ?_
  refine br_c (fun z => ?_) (fun z => ⟨by decide, ?_⟩)
  · unfold wL_lawOf_637
    refine br_t ?_ (sk_645 hJ rfl hp)
    unfold sk_XM
    rw [if_pos z]
  · unfold wL_lawOf_637
    refine br_t ?_ (sk_645 hJ rfl hp)
    rw [show (9 : Int32) - nI d = nI (9 - d) from pk_sub (a := 9) (by omega), sk_rem6 (by omega)]
    unfold sk_XM
    rw [if_neg z, sk_X2v a b c d (by omega), sk_Av a b c (Nat.mod_lt _ (by omega))]
theorem sk_429 {post : Int32 → St0 → Prop} {mc ms kc ks : Nat} {a b c mk : Int32} {d i j : Nat} {f3 f4 a1 a2 a3 a4 a5 a6 a7 : Nat → Int32} (hd : d < 6) (hi : i < 6) (hj : j < 6)
    (hI : sk_I (sk_M (sk_A a b c) (sk_D d) (sk_X2 a b c d) f3 f4) a1 a2 a3) (hp : post 1 ()) :
    wL_lawOf_429 post mc ms a b c (nI d) (nI i) (nI j) 1 kc ks mk a1 a2 a3 a4 a5 a6 a7 := by
  unfold wL_lawOf_429
  refine sk_transpose (t := 4) (a := 0) (M := sk_M (sk_A a b c) (sk_D d) (sk_X2 a b c d) f3 f4) (M' := sk_M (sk_A a b c) (sk_D d) (sk_X2 a b c d) f3 (sk_T a b c)) (by omega) (by omega) hI sk_O4 (fun r k _ hk => sk_Tv a b c hk) (fun mk1 b1 b2 b3 b4 b5 b6 b7 hJ => ?_)
  refine br_f sk_10 ?_
  refine sk_at (s := 4) (m := sk_T a b c) (i := j) (j := i) (by omega) hj hi (hJ 4 (by omega)) (br_t ?_ ?_)
  · rw [sk_Tv a b c hi, sk_Av a b c hj]
  refine sk_same (a := 4) (b := 0) (A := sk_T a b c) (B := sk_A a b c) (by omega) (by omega) (hJ 4 (by omega)) (hJ 0 (by omega)) (fun hs => ?_) (fun hs => ?_)
  · refine sk_symm (s := 0) (m := sk_A a b c) (by omega) (hJ 0 (by omega)) (fun _ => br_t rfl (sk_489 hd hi hj hJ hp)) (fun r k hr hk hn => absurd ?_ hn)
    rw [← sk_Tv a b c hk]
    exact hs r k hr hk
  · refine sk_symm (s := 0) (m := sk_A a b c) (by omega) (hJ 0 (by omega)) (fun hy => absurd ?_ hs) (fun r k hr hk hn => br_t rfl (sk_489 hd hi hj hJ hp))
    intro r k hr hk
    rw [sk_Tv a b c hk]
    by_cases z : sk_A a b c (6 * r + k) = 0
    · by_cases z2 : sk_A a b c (6 * k + r) = 0
      · rw [z, z2]
      · exact (hy k r hk hr z2).symm
    · exact hy r k hr hk z
theorem sk_356 {post : Int32 → St0 → Prop} {mc ms kc ks : Nat} {a b c mk : Int32} {d i j : Nat} {f3 f4 a1 a2 a3 a4 a5 a6 a7 : Nat → Int32} (hd : d < 6) (hi : i < 6) (hj : j < 6)
    (hI : sk_I (sk_M (sk_A a b c) (sk_D d) (sk_X2 a b c d) f3 f4) a1 a2 a3) (hp : post 1 ()) :
    wL_lawOf_356 post mc ms a b c (nI d) (nI i) (nI j) (nI ((i + d) % 6)) 1 kc ks mk a1 a2 a3 a4 a5 a6 a7 := by
  have ht : (i + d) % 6 < 6 := Nat.mod_lt _ (by omega)
  unfold wL_lawOf_356
  refine br_f sk_10 ?_
  refine sk_rows (a := 0) (i := i) (b := 1) (j := j) (A := sk_A a b c) (B := sk_D d) (by omega) hi (by omega) hj (hI 0 (by omega)) (hI 1 (by omega)) ⟨by decide, br_t ?_ ?_⟩
  · rw [sk_QAD, sk_Av a b c (Nat.mod_lt _ (by omega)), nI_add, sk_rem6 (by omega)]
  refine sk_next (s := 1) (m := sk_D d) (i := i) (j := 0) (by omega) hi (by omega) (hI 1 (by omega)) (fun h => absurd (h ((i + d) % 6) (Nat.zero_le _) ht) ((sk_Dn d ht).mpr rfl)) (fun k hk _ hz _ => br_t (congrArg nI ((sk_Dn d hk).mp hz)) ?_)
  rw [nI_1]
  exact sk_next (s := 1) (m := sk_D d) (i := i) (j := (i + d) % 6 + 1) (by omega) hi (by omega) (hI 1 (by omega)) (fun _ => br_t rfl (sk_429 hd hi hj hI hp)) (fun k hk hle hz _ => absurd ((sk_Dn d hk).mp hz) (by omega))
theorem sk_W1 {a b c : Int32} {p : Nat → Bool} {q : Nat} (h : p q = true) : sk_W a b c p q = sk_A a b c q := if_pos h
theorem sk_W0 {a b c : Int32} {p : Nat → Bool} {q : Nat} (h : ¬ p q = true) : sk_W a b c p q = 0 := if_neg h
theorem sk_264 {post : Int32 → St0 → Prop} {mc ms kc ks : Nat} {a b c mk z : Int32} {d i j : Nat} {f3 f4 a1 a2 a3 a4 a5 a6 a7 : Nat → Int32} (hd : d < 6) (hi : i < 6) (hj : j < 6)
    (hI : sk_I (sk_M (sk_A a b c) (sk_D d) (sk_X2 a b c d) f3 f4) a1 a2 a3) (hp : post 1 ()) :
    wL_lawOf_264 post mc ms a b c (nI d) (nI i) (nI j) (nI ((i + d) % 6)) z z kc ks mk a1 a2 a3 a4 a5 a6 a7 := by
  have hR : sk_R 0 (sk_A a b c) a1 a2 a3 := hI 0 (by omega)
  unfold wL_lawOf_264
  refine br_t rfl ?_
  refine sk_sum (s := 0) (w := 0) (k := i) (m := sk_A a b c) (f := sk_W a b c (fun q => decide (q / 6 = i))) (by omega) (by omega) (fun _ => hi) (by omega) hR
    (fun r k hr hk h => sk_W1 (decide_eq_true (by omega))) (fun r k hr hk h => sk_W0 (fun t => h ?_)) (br_t (sk_s0 a b c hi) ?_)
  · have t' := of_decide_eq_true t
    omega
  refine sk_sum (s := 0) (w := 1) (k := j) (m := sk_A a b c) (f := sk_W a b c (fun q => decide (q % 6 = j))) (by omega) (by omega) (fun _ => hj) (by omega) hR
    (fun r k hr hk h => sk_W1 (decide_eq_true (by omega))) (fun r k hr hk h => sk_W0 (fun t => h ?_)) (br_t (sk_s1 a b c hj) ?_)
  · have t' := of_decide_eq_true t
    omega
  refine sk_sum (s := 0) (w := 2) (k := 99) (m := sk_A a b c) (f := sk_W a b c (fun q => decide (q % 6 = q / 6))) (by omega) (by omega) (fun z => absurd z (by omega)) (by omega) hR
    (fun r k hr hk h => sk_W1 (decide_eq_true (by omega))) (fun r k hr hk h => sk_W0 (fun t => h ?_)) (br_t (sk_s2 a b c) ?_)
  · have t' := of_decide_eq_true t
    omega
  exact sk_356 hd hi hj hI hp
end
section
/-! the law from its loops on -/
theorem sk_tail {post : Int32 → St0 → Prop} {mc ms kc ks n : Nat} {a b c x3 mk : Int32} {d : Nat} {a1 a2 a3 a4 a5 a6 a7 : Nat → Int32} (hd : d < 6)
    (hI : sk_I (sk_M (sk_A a b c) (sk_D d) sk_Z sk_Z sk_Z) a1 a2 a3) (hp : post 1 ()) :
    wL_lawOf_25 post mc ms a b c x3 (nI d) kc ks (n + 1) 1 (nI 6) mk a1 a2 a3 a4 a5 a6 a7 := by
  refine pk_le 6 6 (fun _ => ?_) (fun z => absurd z (by omega))
  refine sk_product (t := 2) (a := 0) (b := 1) (M := sk_M (sk_A a b c) (sk_D d) sk_Z sk_Z sk_Z) (M' := sk_M (sk_A a b c) (sk_D d) (sk_X2 a b c d) sk_Z sk_Z) (by omega) (by omega) (by omega) hI sk_O2 ?_ (fun mk1 b1 b2 b3 b4 b5 b6 b7 h2 => ?_)
  · intro r k hr hk
    show sk_X2 a b c d (6 * r + k) = sk_P (sk_A a b c) (sk_D d) r k 6
    rw [sk_X2v a b c d hk, sk_PAD _ hd hk]
  refine sk_product (t := 3) (a := 1) (b := 0) (M := sk_M (sk_A a b c) (sk_D d) (sk_X2 a b c d) sk_Z sk_Z) (M' := sk_M (sk_A a b c) (sk_D d) (sk_X2 a b c d) (sk_X3 a b c d) sk_Z) (by omega) (by omega) (by omega) h2 sk_O3 ?_ (fun mk2 c1 c2 c3 c4 c5 c6 c7 h3 => ?_)
  · intro r k hr hk
    show sk_X3 a b c d (6 * r + k) = sk_P (sk_D d) (sk_A a b c) r k 6
    rw [sk_X3v a b c d hk, sk_PDA]
  obtain ⟨i, hi, ei⟩ := sk_and6 (x3 >>> ((8 : Int32) &&& 31))
  obtain ⟨j, hj, ej⟩ := sk_and6 (x3 >>> ((16 : Int32) &&& 31))
  have e9 : nI j + 6 - nI d - (nI j + 6 - nI d) / 6 * 6 = nI ((j + 6 - d) % 6) := by
    rw [show nI j + 6 = nI (j + 6) from nI_add j 6, pk_sub (by omega), sk_rem6 (by omega)]
  have e10 : nI i + nI d - (nI i + nI d) / 6 * 6 = nI ((i + d) % 6) := by
    rw [nI_add, sk_rem6 (by omega)]
  have n6 : ¬ (6 : Int32) = 0 := by decide
  refine ⟨n6, nm_r ei ⟨n6, nm_r ej ⟨n6, nm_r e9 ⟨n6, nm_r e10 ?_⟩⟩⟩⟩
  refine br_f sk_10 ?_
  refine sk_at (s := 2) (m := sk_X2 a b c d) (i := i) (j := j) (by omega) hi hj (h3 2 (by omega)) (br_t ?_ ?_)
  · rw [sk_X2v a b c d hj, sk_Av a b c (Nat.mod_lt _ (by omega))]
  refine sk_at (s := 3) (m := sk_X3 a b c d) (i := i) (j := j) (by omega) hi hj (h3 3 (by omega)) (br_t ?_ ?_)
  · rw [sk_X3v a b c d hj, sk_Av a b c hj]
  refine sk_count (s := 1) (m := sk_D d) (by omega) (h3 1 (by omega)) (br_t ?_ ?_)
  · rw [sk_D6 d hd]
    rfl
  have e2 : (2 : Int32) * nI d - (2 : Int32) * nI d / 6 * 6 = nI (2 * d % 6) := by
    rw [show (2 : Int32) * nI d = nI (2 * d) from pk_mul 2 d, sk_rem6 (by omega)]
  refine sk_symm (s := 1) (m := sk_D d) (by omega) (h3 1 (by omega)) (fun hy => ⟨n6, br_t ?_ (sk_264 hd hi hj h3 hp)⟩) (fun r k hr hk hn => ⟨n6, br_f ?_ (sk_264 hd hi hj h3 hp)⟩)
  · have h0 : ¬ sk_D d (6 * 0 + d) = 0 := (sk_Dn d hd).mpr (by omega)
    have h1 := hy 0 d (by omega) hd h0
    rw [← h1] at h0
    have h5 := (sk_Dn d (r := d) (k := 0) (by omega)).mp h0
    rw [e2, show 2 * d % 6 = 0 by omega]
    rfl
  · rw [e2]
    intro hz
    have hz' : 2 * d % 6 = 0 := (nI_eq (a := 2 * d % 6) (b := 0) (by omega) (by omega)).mp hz
    refine hn ?_
    rw [sk_Dv d hr, sk_Dv d hk]
    by_cases e : k = (r + d) % 6
    · rw [if_pos (by omega), if_pos e]
    · rw [if_neg (by omega), if_neg e]
theorem sk_Af1 {a b c : Int32} {n q : Nat} (h : q < n) : sk_Af a b c n q = sk_A a b c q := if_pos h
theorem sk_Af0 {a b c : Int32} {n q : Nat} (h : ¬ q < n) : sk_Af a b c n q = 0 := if_neg h
theorem sk_Df1 {d n q : Nat} (h : q < 6 * n) : sk_Df d n q = sk_D d q := if_pos h
theorem sk_Df0 {d n q : Nat} (h : ¬ q < 6 * n) : sk_Df d n q = 0 := if_neg h
theorem sk_loops {post : Int32 → St0 → Prop} {mc ms kc ks : Nat} {a b c x3 mk : Int32} {d : Nat} {a4 a5 a6 a7 : Nat → Int32} (hd : d < 6) (hp : post 1 ()) :
    ∃ n, wL_lawOf_25 post mc ms a b c x3 (nI d) kc ks n 1 0 mk (fun _ => 0) (fun _ => 0) (fun _ => 0) a4 a5 a6 a7 := by
  refine pk_loop (fun n i (p : St2) => wL_lawOf_25 post mc ms a b c x3 (nI d) kc ks n 1 (nI i) p.1 p.2.1 p.2.2.1 p.2.2.2.1 p.2.2.2.2.1 p.2.2.2.2.2.1 p.2.2.2.2.2.2.1 p.2.2.2.2.2.2.2)
    (fun i p => sk_I (sk_M (sk_Af a b c (6 * i)) (sk_Df d i) sk_Z sk_Z sk_Z) p.2.1 p.2.2.1 p.2.2.2.1) 6 0 (mk, (fun _ => 0), (fun _ => 0), (fun _ => 0), a4, a5, a6, a7) (by omega) ?_ ?_ ?_
  · exact sk_five (sk_R0 0 (fun q => sk_Af0 (by omega))) (sk_R0 1 (fun q => sk_Df0 (by omega))) (sk_R0 2 (fun _ => rfl)) (sk_R0 3 (fun _ => rfl)) (sk_R0 4 (fun _ => rfl))
  · intro n p h
    refine sk_tail hd (sk_Ic h ?_) hp
    exact sk_five (fun q hq => (sk_Af1 (by omega)).symm) (fun q hq => (sk_Df1 (by omega)).symm) (fun _ _ => rfl) (fun _ _ => rfl) (fun _ _ => rfl)
  · intro n i p hi h hw
    refine pk_le 6 i (fun z => absurd z (by omega)) (fun _ => ?_)
    refine pk_loop (fun n' j (p : St2) => wL_lawOf_35 post mc ms (wL_lawOf_25 post mc ms a b c x3 (nI d) kc ks n) a b c x3 (nI d) (nI i) kc ks n' 1 (nI j) p.1 p.2.1 p.2.2.1 p.2.2.2.1 p.2.2.2.2.1 p.2.2.2.2.2.1 p.2.2.2.2.2.2.1 p.2.2.2.2.2.2.2)
      (fun j p => sk_I (sk_M (sk_Af a b c (6 * i + j)) (sk_Df d i) sk_Z sk_Z sk_Z) p.2.1 p.2.2.1 p.2.2.2.1) 6 0 p (by omega) h ?_ ?_
    · intro n' p h6
      refine pk_le 6 6 (fun _ => ⟨by decide, ?_⟩) (fun z => absurd z (by omega))
      rw [nI_add, sk_rem6 (by omega)]
      refine sk_put (s := 1) (i := i) (j := (i + d) % 6) (M := sk_M (sk_Af a b c (6 * i + 6)) (sk_Df d i) sk_Z sk_Z sk_Z) (M' := sk_M (sk_Af a b c (6 * i + 6)) (sk_Df d (i + 1)) sk_Z sk_Z sk_Z) (by omega) hi (by omega) h6 sk_O1 ?_ (fun mk1 b1 b2 b3 b4 b5 b6 b7 hJ => ?_)
      · intro r k hr hk
        show sk_Df d (i + 1) (6 * r + k) = if r = i ∧ k = (i + d) % 6 then 1 else sk_Df d i (6 * r + k)
        by_cases e : r = i
        · subst e
          rw [sk_Df1 (by omega), sk_Dv d hk, sk_Df0 (by omega)]
          by_cases e2 : k = (r + d) % 6
          · rw [if_pos e2, if_pos ⟨rfl, e2⟩]
          · rw [if_neg e2, if_neg (fun t => e2 t.2)]
        · rw [if_neg (fun t => e t.1)]
          by_cases e3 : r < i
          · rw [sk_Df1 (by omega), sk_Df1 (by omega)]
          · rw [sk_Df0 (by omega), sk_Df0 (by omega)]
      · refine nm_r (nI_1 i) (hw (mk1, b1, b2, b3, b4, b5, b6, b7) ?_)
        rw [show 6 * (i + 1) = 6 * i + 6 by omega]
        exact hJ
    · intro n' j p hj h1 hw1
      refine pk_le 6 j (fun z => absurd z (by omega)) (fun _ => ?_)
      refine sk_put (s := 0) (i := i) (j := j) (M := sk_M (sk_Af a b c (6 * i + j)) (sk_Df d i) sk_Z sk_Z sk_Z) (M' := sk_M (sk_Af a b c (6 * i + (j + 1))) (sk_Df d i) sk_Z sk_Z sk_Z) (by omega) hi hj h1 sk_O0 ?_ (fun mk1 b1 b2 b3 b4 b5 b6 b7 hJ => ?_)
      · intro r k hr hk
        show sk_Af a b c (6 * i + (j + 1)) (6 * r + k) = if r = i ∧ k = j then a + b * nI i + c * nI j else sk_Af a b c (6 * i + j) (6 * r + k)
        by_cases e : r = i ∧ k = j
        · rw [sk_Af1 (by omega), if_pos e, sk_Av a b c hk, e.1, e.2]
        · rw [if_neg e]
          by_cases e3 : 6 * r + k < 6 * i + j
          · rw [sk_Af1 (by omega), sk_Af1 e3]
          · rw [sk_Af0 (by omega), sk_Af0 e3]
      · exact br_f sk_10 (br_f sk_10 (nm_r (nI_1 j) (hw1 (mk1, b1, b2, b3, b4, b5, b6, b7) hJ)))
theorem sk_lawOf {post : Int32 → St0 → Prop} {x0 x1 x2 x3 : Int32} (hp : post 1 ()) : wpL_lawOf post 8 488 () x0 x1 x2 x3 := by
  obtain ⟨d, hd, ed⟩ := sk_and6 x3
  refine ⟨by omega, by omega, 7, 480, by omega, by omega, ?_⟩
  unfold wpX_init
  refine ⟨by omega, by omega, by omega, by omega, by omega, by omega, by omega, by omega, by omega, by omega, by omega, by omega, by omega, by omega, ?_⟩
  exact ⟨by decide, nm_r ed (sk_loops hd hp)⟩
theorem sk_cell {post : Int32 → Prop} {L : Nat} {xs : Nat → Int32} {u : St0} (k : Nat) (hL : L ≤ 4) (hk : k < 4) (h : ∀ x, post x) : wpL_cellAt post L xs u (nI k) :=
  pk_le L k (fun _ => h _) (fun z => ⟨vp_in_nI z (by omega), h _⟩)
theorem i_vc (xs : Nat → Int32) (L : Nat) (hL : L ≤ 4) : wpL_law (fun r => r = 1) L xs := by
  unfold wpL_law
  refine sk_cell 0 hL (by omega) (fun x0 => ?_)
  refine sk_cell 1 hL (by omega) (fun x1 => ?_)
  refine sk_cell 2 hL (by omega) (fun x2 => ?_)
  refine sk_cell 3 hL (by omega) (fun x3 => ?_)
  exact ⟨8, 488, by omega, by omega, sk_lawOf rfl⟩
end
