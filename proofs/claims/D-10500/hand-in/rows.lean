section
theorem ef_b8 : ∀ p, p < 128 → (nI p).toInt8.toInt32 = nI p := by decide +kernel
theorem ef_s16 : ∀ p, p < 512 → (nI p).toInt16.toInt32 = nI p := by decide +kernel
theorem ef_k5 (p i : Nat) : (5 : Int32) * nI p + nI i = nI (5 * p + i) := by
  rw [← nI_add, ← pk_mul]
  rfl
theorem ef_k6 (p i : Nat) : (6 : Int32) * nI p + nI i = nI (6 * p + i) := by
  rw [← nI_add, ← pk_mul]
  rfl
theorem ef_k60 (p : Nat) : (6 : Int32) * nI p = nI (6 * p) := by
  rw [← pk_mul]
  rfl
theorem ef_k256 (p : Nat) : (256 : Int32) * nI p = nI (256 * p) := by
  rw [← pk_mul]
  rfl
theorem ef_c5 {p i : Nat} (hp : p < 110) (hi : i < 6) : ((5 : Int32) * nI p + nI i).toNatClampNeg = 5 * p + i := by
  rw [ef_k5]
  exact nI_clamp (by omega)
theorem ef_c60 {p : Nat} (hp : p < 110) : ((6 : Int32) * nI p).toNatClampNeg = 6 * p := by
  rw [ef_k60]
  exact nI_clamp (by omega)
theorem ef_leaf {post : Int32 → Prop} {rt we wt : Int32} {a1 a2 a3 a4 a5 a6 a7 a8 a9 a10 a11 a12 a13 a14 : Nat → Int32} {p : Nat} (hp : p < 110) (hl : a4 (6 * p) = -1) (H : post 1) : wpX_isLeaf post (rt, we, wt, a1, a2, a3, a4, a5, a6, a7, a8, a9, a10, a11, a12, a13, a14) (nI p) :=
  And.intro (pk_in (6 * p) 660 (by omega) (ef_k60 p)) (br_f (by rw [ef_c60 hp, hl]; decide) H)
/-! find, over a tree of one leaf -/
theorem ef_find78 {post : Int32 → St2 → Prop} {J : Int32 → Int32 → Int32 → Int32 → (Nat → Int32) → (Nat → Int32) → (Nat → Int32) → (Nat → Int32) → (Nat → Int32) → (Nat → Int32) → (Nat → Int32) → (Nat → Int32) → (Nat → Int32) → (Nat → Int32) → (Nat → Int32) → (Nat → Int32) → (Nat → Int32) → (Nat → Int32) → Prop} {rt we wt : Int32} {a1 a2 a3 a4 a5 a6 a7 a8 a9 a10 a11 a12 a13 a14 : Nat → Int32} {p : Nat} {key x3 : Int32} (hp : p < 110) (hl : a4 (6 * p) = -1) (H : J (-1) rt we wt a1 a2 a3 a4 a5 a6 a7 a8 a9 a10 a11 a12 a13 a14) : wX_find_78 post J key (nI p) x3 rt we wt a1 a2 a3 a4 a5 a6 a7 a8 a9 a10 a11 a12 a13 a14 :=
  ef_leaf hp hl (br_f (by decide) H)
theorem ef_find46 {post : Int32 → St2 → Prop} {J : Int32 → Int32 → Int32 → Int32 → (Nat → Int32) → (Nat → Int32) → (Nat → Int32) → (Nat → Int32) → (Nat → Int32) → (Nat → Int32) → (Nat → Int32) → (Nat → Int32) → (Nat → Int32) → (Nat → Int32) → (Nat → Int32) → (Nat → Int32) → (Nat → Int32) → (Nat → Int32) → Prop} {rt wt : Int32} {a1 a2 a3 a4 a5 a6 a7 a8 a9 a10 a11 a12 a13 a14 : Nat → Int32} {p n i : Nat} {key : Int32} (hp : p < 110) (hn : n ≤ 5) (hc : a1 p = nI n) (hl : a4 (6 * p) = -1) (hi : i ≤ n)
    (Ht : ∀ b12 b13 : Nat → Int32, b12 0 = nI p → b13 0 = nI i → i < n → a2 (5 * p + i) = key → post 1 (rt, 1, wt, a1, a2, a3, a4, a5, a6, a7, a8, a9, a10, a11, b12, b13, a14))
    (Hf : ∀ b12 b13 : Nat → Int32, b12 0 = nI p → b13 0 = nI i → (i < n → ¬ a2 (5 * p + i) = key) → J (-1) rt 1 wt a1 a2 a3 a4 a5 a6 a7 a8 a9 a10 a11 b12 b13 a14) :
    wX_find_46 post J key (nI p) (nI i) rt 0 wt a1 a2 a3 a4 a5 a6 a7 a8 a9 a10 a11 a12 a13 a14 :=
  And.intro (pk_in 0 8 (by omega)) (nm_r (e' := upd a12 0 (nI p)) (by rw [ef_b8 p (by omega)]; rfl) (And.intro (pk_in 0 8 (by omega)) (nm_r (e' := upd a13 0 (nI i)) (by rw [ef_b8 i (by omega)]; rfl) (nm_r (e' := 1) (by rfl)
    (And.intro (pk_in p 110 hp) (pk_le n i (fun z => ef_find78 hp hl (Hf _ _ pk_us pk_us (fun t => absurd t (by omega))))
      (fun z => And.intro (pk_in (5 * p + i) 550 (by omega) (ef_k5 p i)) (br_c (fun g => Ht _ _ pk_us pk_us z (by rw [ef_c5 hp (by omega)] at g; exact g)) (fun g => ef_find78 hp hl (Hf _ _ pk_us pk_us (fun _ => by rw [ef_c5 hp (by omega)] at g; exact g)))))
      (by rw [nI_clamp (by omega), hc])))))))
theorem ef_find16 {post : Int32 → St2 → Prop} {J : Int32 → Int32 → Int32 → Int32 → (Nat → Int32) → (Nat → Int32) → (Nat → Int32) → (Nat → Int32) → (Nat → Int32) → (Nat → Int32) → (Nat → Int32) → (Nat → Int32) → (Nat → Int32) → (Nat → Int32) → (Nat → Int32) → (Nat → Int32) → (Nat → Int32) → (Nat → Int32) → Prop} {rt we wt : Int32} {a1 a2 a3 a4 a5 a6 a7 a8 a9 a10 a11 a12 a13 a14 : Nat → Int32} {p n i : Nat} {key : Int32} (hp : p < 110) (hn : n ≤ 5) (hc : a1 p = nI n) (hi : i ≤ n) (h1 : ∀ j, j < i → a2 (5 * p + j) < key) (h2 : i < n → key ≤ a2 (5 * p + i))
    (H : wX_find_46 post J key (nI p) (nI i) rt we wt a1 a2 a3 a4 a5 a6 a7 a8 a9 a10 a11 a12 a13 a14) : ∃ f, wX_find_16 post J key (nI p) rt we wt a1 a2 a3 a4 a5 a6 a7 a8 a9 a10 a11 a12 a13 a14 f 0 :=
  pk_loop (σ := Unit) (fun f x _ => wX_find_16 post J key (nI p) rt we wt a1 a2 a3 a4 a5 a6 a7 a8 a9 a10 a11 a12 a13 a14 f (nI x)) (fun _ _ => True) i 0 () (by omega) trivial
    (fun f _ _ => And.intro (pk_in p 110 hp) (pk_le n i (fun _ => H) (fun z => And.intro (pk_in (5 * p + i) 550 (by omega) (ef_k5 p i)) (br_t (by rw [ef_c5 hp (by omega)]; exact h2 z) H)) (by rw [nI_clamp (by omega), hc])))
    (fun f x _ hx _ hw => And.intro (pk_in p 110 hp) (pk_le n x (fun z => absurd z (by omega)) (fun z => And.intro (pk_in (5 * p + x) 550 (by omega) (ef_k5 p x)) (br_f (by rw [ef_c5 hp (by omega)]; exact Int32.not_le.mpr (h1 x hx)) (nm_r (nI_1 x) (hw () trivial)))) (by rw [nI_clamp (by omega), hc])))
theorem ef_find {post : Int32 → St2 → Prop} {we wt : Int32} {a1 a2 a3 a4 a5 a6 a7 a8 a9 a10 a11 a12 a13 a14 : Nat → Int32} {p n i : Nat} {key : Int32} (hp : p < 110) (hn : n ≤ 5) (hc : a1 p = nI n) (hl : a4 (6 * p) = -1) (hi : i ≤ n) (h1 : ∀ j, j < i → a2 (5 * p + j) < key) (h2 : i < n → key ≤ a2 (5 * p + i))
    (Ht : ∀ b12 b13 : Nat → Int32, b12 0 = nI p → b13 0 = nI i → i < n → a2 (5 * p + i) = key → post 1 (nI p, 1, wt, a1, a2, a3, a4, a5, a6, a7, a8, a9, a10, a11, b12, b13, a14))
    (Hf : ∀ b12 b13 : Nat → Int32, b12 0 = nI p → b13 0 = nI i → (i < n → ¬ a2 (5 * p + i) = key) → post 0 (nI p, 1, wt, a1, a2, a3, a4, a5, a6, a7, a8, a9, a10, a11, b12, b13, a14)) :
    wpX_find post (nI p, we, wt, a1, a2, a3, a4, a5, a6, a7, a8, a9, a10, a11, a12, a13, a14) key :=
  Exists.intro 2 (br_f (nI_pos (by omega)) (ef_find16 hp hn hc hi h1 h2 (ef_find46 hp hn hc hl hi Ht (fun b12 b13 e1 e2 z => br_t (by decide) (Hf b12 b13 e1 e2 z)))))
/-- the picture: the tree is the leaf p (0 or 1) with n keys K and values V; the saved tree is page 0 with the one key 0; H: the handles -/
def ef_I (p n : Nat) (K V : Nat → Nat) (H : Nat → Int32) (u : St2) : Prop := match u with
  | (rt, we, wt, a1, a2, a3, a4, a5, a6, a7, a8, a9, a10, a11, a12, a13, a14) => p ≤ 1 ∧ n ≤ 4 ∧ rt = nI p ∧ a1 p = nI n ∧ a4 (6 * p) = -1 ∧ (∀ j, j < n → a2 (5 * p + j) = nI (K j) ∧ K j < 512) ∧ (∀ j, j < n → a3 (5 * p + j) = nI (V j) ∧ V j < 512) ∧ (∀ j, j < 4 → a11 j = H j) ∧ a7 0 = nI 0 ∧ a9 0 = 1 ∧ a9 1 = 0 ∧ a1 0 = nI 1 ∧ a2 0 = nI 0 ∧ a4 0 = -1 ∧ (∀ x, x < 110 → a5 x = if x = 1 then nI p else 0)
theorem ef_get_t {post : Int32 → St2 → Prop} {u : St2} {p n : Nat} {K V : Nat → Nat} {H : Nat → Int32} {i k : Nat} {x : Int32} (hx : x = nI k) (hu : ef_I p n K V H u) (hi : i < n) (hk : K i = k) (h1 : ∀ j, j < i → K j < k) (Hp : ∀ u', ef_I p n K V H u' → post (nI (V i)) u') : wpX_get post u x := by
  subst hx
  obtain ⟨rt, we, wt, a1, a2, a3, a4, a5, a6, a7, a8, a9, a10, a11, a12, a13, a14⟩ := u
  have hv := hu
  obtain ⟨hp, hn, hr, hc, hl, hK, hV, hH, h7, h90, h91, c0, k0, l0, h5⟩ := hv
  subst hr
  have hk5 : k < 512 := hk ▸ (hK i hi).2
  refine ef_find (we := we) (p := p) (n := n) (i := i) (by omega) (by omega) hc hl (by omega) (fun j hj => ?_) (fun _ => ?_) (fun b12 b13 e1 e2 _ _ => ?_) (fun b12 b13 e1 e2 z => ?_)
  · rw [(hK j (by omega)).1]
    exact nI_lt (h1 j hj) (by omega)
  · rw [(hK i hi).1, hk]
    exact Int32.le_refl _
  · have e : (5 : Int32) * b12 ((1 : Int32) - 1).toNatClampNeg + b13 ((1 : Int32) - 1).toNatClampNeg = nI (5 * p + i) := by
      rw [show b12 ((1 : Int32) - 1).toNatClampNeg = nI p from e1, show b13 ((1 : Int32) - 1).toNatClampNeg = nI i from e2]
      exact ef_k5 p i
    have e' : a3 ((5 : Int32) * b12 ((1 : Int32) - 1).toNatClampNeg + b13 ((1 : Int32) - 1).toNatClampNeg).toNatClampNeg = nI (V i) := by
      rw [e, nI_clamp (by omega), (hV i hi).1]
    exact br_f (by decide) (And.intro (pk_in 0 8 (by omega)) (And.intro (pk_in 0 8 (by omega)) (And.intro (pk_in (5 * p + i) 550 (by omega) e) (ek_v (P := fun z => post z (nI p, 1, wt, a1, a2, a3, a4, a5, a6, a7, a8, a9, a10, a11, b12, b13, a14)) e' (Hp _ hu)))))
  · exact absurd ((hK i hi).1.trans (by rw [hk])) (z hi)
theorem ef_get_f {post : Int32 → St2 → Prop} {u : St2} {p n : Nat} {K V : Nat → Nat} {H : Nat → Int32} {i k : Nat} {x : Int32} (hx : x = nI k) (hk5 : k < 2 ^ 31) (hu : ef_I p n K V H u) (hi : i ≤ n) (h1 : ∀ j, j < i → K j < k) (h2 : i < n → k < K i) (Hp : ∀ u', ef_I p n K V H u' → post (-1) u') : wpX_get post u x := by
  subst hx
  obtain ⟨rt, we, wt, a1, a2, a3, a4, a5, a6, a7, a8, a9, a10, a11, a12, a13, a14⟩ := u
  have hv := hu
  obtain ⟨hp, hn, hr, hc, hl, hK, hV, hH, h7, h90, h91, c0, k0, l0, h5⟩ := hv
  subst hr
  refine ef_find (we := we) (p := p) (n := n) (i := i) (by omega) (by omega) hc hl (by omega) (fun j hj => ?_) (fun z => ?_) (fun b12 b13 e1 e2 z1 z2 => ?_) (fun b12 b13 e1 e2 z => ?_)
  · rw [(hK j (by omega)).1]
    exact nI_lt (h1 j hj) (by omega)
  · rw [(hK i z).1]
    have := (hK i z).2
    exact nI_le (Nat.le_of_lt (h2 z)) (by omega)
  · rw [(hK i z1).1] at z2
    have q1 := (hK i z1).2
    have q2 := h2 z1
    have := (nI_eq (by omega) (by omega)).mp z2
    omega
  · exact br_t (by decide) (Hp _ hu)
end
section
/-! nextKey, lastKey -/
theorem ef_nk69 {post : Int32 → Prop} {J : Int32 → Int32 → Prop} {rt we wt : Int32} {a1 a2 a3 a4 a5 a6 a7 a8 a9 a10 a11 a12 a13 a14 : Nat → Int32} {p : Nat} {x1 x2 x4 : Int32} (hp : p < 110) (hl : a4 (6 * p) = -1) (H : J x2 (-1)) : wX_nextKey_69 post J x1 x2 (nI p) x4 rt we wt a1 a2 a3 a4 a5 a6 a7 a8 a9 a10 a11 a12 a13 a14 :=
  ef_leaf hp hl (br_f (by decide) H)
theorem ef_nk46 {post : Int32 → Prop} {J : Int32 → Int32 → Prop} {rt we wt : Int32} {a1 a2 a3 a4 a5 a6 a7 a8 a9 a10 a11 a12 a13 a14 : Nat → Int32} {p n i : Nat} {x1 x2 : Int32} (hp : p < 110) (hn : n ≤ 5) (hc : a1 p = nI n) (hl : a4 (6 * p) = -1) (hi : i ≤ n) (H0 : n ≤ i → J x2 (-1)) (H1 : i < n → J (a2 (5 * p + i)) (-1)) : wX_nextKey_46 post J x1 x2 (nI p) (nI i) rt we wt a1 a2 a3 a4 a5 a6 a7 a8 a9 a10 a11 a12 a13 a14 :=
  And.intro (pk_in p 110 hp) (pk_le n i (fun z => ef_nk69 hp hl (H0 z)) (fun z => And.intro (pk_in (5 * p + i) 550 (by omega) (ef_k5 p i)) (nm_r (e' := a2 (5 * p + i)) (by rw [ef_c5 hp (by omega)]) (ef_nk69 hp hl (H1 z)))) (by rw [nI_clamp (by omega), hc]))
theorem ef_nk14 {post : Int32 → Prop} {J : Int32 → Int32 → Prop} {rt we wt : Int32} {a1 a2 a3 a4 a5 a6 a7 a8 a9 a10 a11 a12 a13 a14 : Nat → Int32} {p n i : Nat} {key x2 : Int32} (hp : p < 110) (hn : n ≤ 5) (hc : a1 p = nI n) (hi : i ≤ n) (h1 : ∀ j, j < i → a2 (5 * p + j) ≤ key) (h2 : i < n → key < a2 (5 * p + i))
    (H : wX_nextKey_46 post J key x2 (nI p) (nI i) rt we wt a1 a2 a3 a4 a5 a6 a7 a8 a9 a10 a11 a12 a13 a14) : ∃ f, wX_nextKey_14 post J key x2 (nI p) rt we wt a1 a2 a3 a4 a5 a6 a7 a8 a9 a10 a11 a12 a13 a14 f 0 :=
  pk_loop (σ := Unit) (fun f x _ => wX_nextKey_14 post J key x2 (nI p) rt we wt a1 a2 a3 a4 a5 a6 a7 a8 a9 a10 a11 a12 a13 a14 f (nI x)) (fun _ _ => True) i 0 () (by omega) trivial
    (fun f _ _ => And.intro (pk_in p 110 hp) (pk_le n i (fun _ => H) (fun z => And.intro (pk_in (5 * p + i) 550 (by omega) (ef_k5 p i)) (br_t (by rw [ef_c5 hp (by omega)]; exact h2 z) H)) (by rw [nI_clamp (by omega), hc])))
    (fun f x _ hx _ hw => And.intro (pk_in p 110 hp) (pk_le n x (fun z => absurd z (by omega)) (fun z => And.intro (pk_in (5 * p + x) 550 (by omega) (ef_k5 p x)) (br_f (by rw [ef_c5 hp (by omega)]; exact Int32.not_lt.mpr (h1 x hx)) (nm_r (nI_1 x) (hw () trivial)))) (by rw [nI_clamp (by omega), hc])))
theorem ef_nextKey {post : Int32 → Prop} {u : St2} {p n : Nat} {K V : Nat → Nat} {H : Nat → Int32} {i k : Nat} {x : Int32} (hx : x = nI k) (hk5 : k < 2 ^ 31) (hu : ef_I p n K V H u) (hi : i ≤ n) (h1 : ∀ j, j < i → K j ≤ k) (h2 : i < n → k < K i) (H0 : n ≤ i → post (-1)) (H1 : i < n → post (nI (K i))) : wpX_nextKey post u x := by
  subst hx
  obtain ⟨rt, we, wt, a1, a2, a3, a4, a5, a6, a7, a8, a9, a10, a11, a12, a13, a14⟩ := u
  obtain ⟨hp, hn, hr, hc, hl, hK, hV, hH, h7, h90, h91, c0, k0, l0, h5⟩ := hu
  subst hr
  refine Exists.intro 2 (br_f (nI_pos (by omega)) (ef_nk14 (n := n) (i := i) (by omega) (by omega) hc hi (fun j hj => ?_) (fun z => ?_) (ef_nk46 (n := n) (by omega) (by omega) hc hl hi (fun z => br_t (by decide) (H0 z)) (fun z => br_t (by decide) ?_))))
  · rw [(hK j (by omega)).1]
    exact nI_le (h1 j hj) (by omega)
  · rw [(hK i z).1]
    have := (hK i z).2
    exact nI_lt (h2 z) (by omega)
  · rw [(hK i z).1]
    exact H1 z
theorem ef_lk65 {post : Int32 → Prop} {J : Int32 → Int32 → Prop} {rt we wt : Int32} {a1 a2 a3 a4 a5 a6 a7 a8 a9 a10 a11 a12 a13 a14 : Nat → Int32} {p : Nat} {x1 x2 x4 : Int32} (hp : p < 110) (hl : a4 (6 * p) = -1) (H : J x2 (-1)) : wX_lastKey_65 post J x1 x2 (nI p) x4 rt we wt a1 a2 a3 a4 a5 a6 a7 a8 a9 a10 a11 a12 a13 a14 :=
  ef_leaf hp hl (br_f (by decide) H)
theorem ef_k5m (p i : Nat) : (5 : Int32) * nI p + nI (i + 1) - 1 = nI (5 * p + i) := by
  rw [ef_k5, ← Nat.add_assoc]
  exact nI_pred _
theorem ef_lk46 {post : Int32 → Prop} {J : Int32 → Int32 → Prop} {rt we wt : Int32} {a1 a2 a3 a4 a5 a6 a7 a8 a9 a10 a11 a12 a13 a14 : Nat → Int32} {p i : Nat} {x1 x2 : Int32} (hp : p < 110) (hi : i < 5) (hl : a4 (6 * p) = -1) (H1 : J (a2 (5 * p + i)) (-1)) : wX_lastKey_46 post J x1 x2 (nI p) (nI (i + 1)) rt we wt a1 a2 a3 a4 a5 a6 a7 a8 a9 a10 a11 a12 a13 a14 :=
  br_f (nI_nle (by omega) (by omega)) (And.intro (pk_in (5 * p + i) 550 (by omega) (ef_k5m p i)) (nm_r (e' := a2 (5 * p + i)) (by rw [ef_k5m, nI_clamp (by omega)]) (ef_lk65 hp hl H1)))
theorem ef_lk14 {post : Int32 → Prop} {J : Int32 → Int32 → Prop} {rt we wt : Int32} {a1 a2 a3 a4 a5 a6 a7 a8 a9 a10 a11 a12 a13 a14 : Nat → Int32} {p n i : Nat} {key x2 : Int32} (hp : p < 110) (hn : n ≤ 5) (hc : a1 p = nI n) (hi : i ≤ n) (h1 : ∀ j, j < i → a2 (5 * p + j) ≤ key) (h2 : i < n → key < a2 (5 * p + i))
    (H : wX_lastKey_46 post J key x2 (nI p) (nI i) rt we wt a1 a2 a3 a4 a5 a6 a7 a8 a9 a10 a11 a12 a13 a14) : ∃ f, wX_lastKey_14 post J key x2 (nI p) rt we wt a1 a2 a3 a4 a5 a6 a7 a8 a9 a10 a11 a12 a13 a14 f 0 :=
  pk_loop (σ := Unit) (fun f x _ => wX_lastKey_14 post J key x2 (nI p) rt we wt a1 a2 a3 a4 a5 a6 a7 a8 a9 a10 a11 a12 a13 a14 f (nI x)) (fun _ _ => True) i 0 () (by omega) trivial
    (fun f _ _ => And.intro (pk_in p 110 hp) (pk_le n i (fun _ => H) (fun z => And.intro (pk_in (5 * p + i) 550 (by omega) (ef_k5 p i)) (br_t (by rw [ef_c5 hp (by omega)]; exact h2 z) H)) (by rw [nI_clamp (by omega), hc])))
    (fun f x _ hx _ hw => And.intro (pk_in p 110 hp) (pk_le n x (fun z => absurd z (by omega)) (fun z => And.intro (pk_in (5 * p + x) 550 (by omega) (ef_k5 p x)) (br_f (by rw [ef_c5 hp (by omega)]; exact Int32.not_lt.mpr (h1 x hx)) (nm_r (nI_1 x) (hw () trivial)))) (by rw [nI_clamp (by omega), hc])))
theorem ef_lastKey {post : Int32 → Prop} {u : St2} {p n : Nat} {K V : Nat → Nat} {H : Nat → Int32} {i k : Nat} {x : Int32} (hx : x = nI k) (hk5 : k < 2 ^ 31) (hu : ef_I p n K V H u) (hi : i + 1 ≤ n) (h1 : ∀ j, j < i + 1 → K j ≤ k) (h2 : i + 1 < n → k < K (i + 1)) (H1 : post (nI (K i))) : wpX_lastKey post u x := by
  subst hx
  obtain ⟨rt, we, wt, a1, a2, a3, a4, a5, a6, a7, a8, a9, a10, a11, a12, a13, a14⟩ := u
  obtain ⟨hp, hn, hr, hc, hl, hK, hV, hH, h7, h90, h91, c0, k0, l0, h5⟩ := hu
  subst hr
  refine Exists.intro 2 (br_f (nI_pos (by omega)) (ef_lk14 (n := n) (i := i + 1) (by omega) (by omega) hc hi (fun j hj => ?_) (fun z => ?_) (ef_lk46 (by omega) (by omega) hl (br_t (by decide) ?_))))
  · rw [(hK j (by omega)).1]
    exact nI_le (h1 j hj) (by omega)
  · rw [(hK (i + 1) z).1]
    have := (hK (i + 1) z).2
    exact nI_lt (h2 z) (by omega)
  · rw [(hK i (by omega)).1]
    exact H1
/-- no stretch there: all keys stand below the node's stretches -/
theorem ef_place {post : Int32 → St2 → Prop} {u : St2} {p n : Nat} {K V : Nat → Nat} {H : Nat → Int32} {t b : Nat} {y z : Int32} (hy : y = nI t) (hz : z = nI b) (ht : t ≤ 1) (hb : b < 9) (hu : ef_I p (n + 1) K V H u) (h1 : ∀ j, j < n + 1 → K j < 256 * t + 128) (Hp : post (-1) u) : wpX_placeOf post u y z := by
  subst hy hz
  have ek : (256 : Int32) * nI t + 128 = nI (256 * t + 128) := by
    rw [ef_k256, ← nI_add]
    rfl
  have hq := hu
  obtain ⟨rt, we, wt, a1, a2, a3, a4, a5, a6, a7, a8, a9, a10, a11, a12, a13, a14⟩ := u
  refine ef_lastKey (i := n) (k := 256 * t + 128 + b) (by rw [ek, nI_add]) (by omega) hq (by omega) (fun j hj => ?_) (fun z => absurd z (by omega)) (br_t ?_ (br_f (by decide) Hp))
  · have := h1 j hj
    omega
  · rw [ek]
    exact nI_lt (h1 n (by omega)) (by omega)
/-! handles, sorts, faults -/
theorem ef_hd_bad {post : Int32 → Prop} {rt we wt : Int32} {a1 a2 a3 a4 a5 a6 a7 a8 a9 a10 a11 a12 a13 a14 : Nat → Int32} {x : Int32} (hx : x < 0 ∨ 3 < x) (H : post 0) : wpX_isHandle post (rt, we, wt, a1, a2, a3, a4, a5, a6, a7, a8, a9, a10, a11, a12, a13, a14) x :=
  br_c (fun _ => H) (fun z => br_t (hx.resolve_left z) H)
theorem ef_hd_ok {post : Int32 → Prop} {rt we wt : Int32} {a1 a2 a3 a4 a5 a6 a7 a8 a9 a10 a11 a12 a13 a14 : Nat → Int32} {j : Nat} (hj : j < 4) (H : post 1) : wpX_isHandle post (rt, we, wt, a1, a2, a3, a4, a5, a6, a7, a8, a9, a10, a11, a12, a13, a14) (nI j) :=
  br_f (nI_pos (by omega)) (br_f (nI_nlt (a := 3) (by omega) (by omega)) H)
theorem ef_nm_bad {post : Int32 → Prop} {rt we wt : Int32} {a1 a2 a3 a4 a5 a6 a7 a8 a9 a10 a11 a12 a13 a14 : Nat → Int32} {x : Int32} (hx : x < 0 ∨ 99 < x) (H : post 0) : wpX_isName post (rt, we, wt, a1, a2, a3, a4, a5, a6, a7, a8, a9, a10, a11, a12, a13, a14) x :=
  br_c (fun _ => H) (fun z => br_t (hx.resolve_left z) H)
theorem ef_nm_ok {post : Int32 → Prop} {rt we wt : Int32} {a1 a2 a3 a4 a5 a6 a7 a8 a9 a10 a11 a12 a13 a14 : Nat → Int32} {j : Nat} (hj : j < 100) (H : post 1) : wpX_isName post (rt, we, wt, a1, a2, a3, a4, a5, a6, a7, a8, a9, a10, a11, a12, a13, a14) (nI j) :=
  br_f (nI_pos (by omega)) (br_f (nI_nlt (a := 99) (by omega) (by omega)) H)
theorem ef_sort {post : Int32 → St2 → Prop} {u : St2} {p n : Nat} {K V : Nat → Nat} {H : Nat → Int32} {t i v : Nat} {y : Int32} (hy : y = nI t) (hu : ef_I p n K V H u) (hi : i < n) (hk : K i = 256 * t) (h1 : ∀ j, j < i → K j < 256 * t) (hv : V i = v) (h4 : v < 4) (Hp : ∀ u', ef_I p n K V H u' → post (nI v) u') : wpX_sortOf post u y := by
  subst hy
  have hq := hu
  obtain ⟨rt, we, wt, a1, a2, a3, a4, a5, a6, a7, a8, a9, a10, a11, a12, a13, a14⟩ := u
  unfold wpX_sortOf
  refine ef_get_t (i := i) (ef_k256 t) hq hi hk h1 (fun u' hu' => ?_)
  obtain ⟨rt', we', wt', a1', a2', a3', a4', a5', a6', a7', a8', a9', a10', a11', a12', a13', a14'⟩ := u'
  refine ek_v (P := fun z => post z (rt', we', wt', a1', a2', a3', a4', a5', a6', a7', a8', a9', a10', a11', a12', a13', a14')) ?_ (Hp _ hu')
  rw [hv, pk_andN (by omega) 2 (by decide), Nat.mod_eq_of_lt (by omega)]
theorem ef_df_no {post : Int32 → St2 → Prop} {u : St2} {p n : Nat} {K V : Nat → Nat} {H : Nat → Int32} {j : Nat} (hu : ef_I p n K V H u) (hj : j < 4) (hh : H j = -1) (Hp : post (-3) u) : wpX_directoryFault post u (nI j) := by
  obtain ⟨rt, we, wt, a1, a2, a3, a4, a5, a6, a7, a8, a9, a10, a11, a12, a13, a14⟩ := u
  obtain ⟨hp, hn, hr, hc, hl, hK, hV, hH, h7, h90, h91, c0, k0, l0, h5⟩ := hu
  exact And.intro (pk_in j 4 hj) (br_f (by rw [nI_clamp (by omega), hH j hj, hh]; decide) Hp)
theorem ef_df {post : Int32 → St2 → Prop} {u : St2} {p n : Nat} {K V : Nat → Nat} {H : Nat → Int32} {j t i v : Nat} (hu : ef_I p n K V H u) (hj : j < 4) (hh : H j = nI t) (ht : t ≤ 1) (hi : i < n) (hk : K i = 256 * t) (h1 : ∀ j, j < i → K j < 256 * t) (hv : V i = v) (h4 : v < 4) (Hp : ∀ u', ef_I p n K V H u' → post (if v = 2 then -4 else 0) u') : wpX_directoryFault post u (nI j) := by
  have hq := hu
  obtain ⟨rt, we, wt, a1, a2, a3, a4, a5, a6, a7, a8, a9, a10, a11, a12, a13, a14⟩ := u
  obtain ⟨hp, hn, hr, hc, hl, hK, hV, hH, h7, h90, h91, c0, k0, l0, h5⟩ := hq
  have e : a11 (nI j).toNatClampNeg = nI t := by rw [nI_clamp (by omega), hH j hj, hh]
  refine And.intro (pk_in j 4 hj) (br_t (by rw [e]; exact nI_pos' (by omega)) (And.intro (pk_in j 4 hj) (ef_sort e hu hi hk h1 hv h4 (fun u' hu' => ?_))))
  have g := Hp u' hu'
  obtain ⟨rt', we', wt', a1', a2', a3', a4', a5', a6', a7', a8', a9', a10', a11', a12', a13', a14'⟩ := u'
  refine pk_eq v 2 (fun z => ?_) (fun z => ?_)
  · rw [if_pos z] at g
    exact g
  · rw [if_neg z] at g
    exact g
theorem ef_ff_no {post : Int32 → St2 → Prop} {u : St2} {p n : Nat} {K V : Nat → Nat} {H : Nat → Int32} {j : Nat} (hu : ef_I p n K V H u) (hj : j < 4) (hh : H j = -1) (Hp : post (-3) u) : wpX_fileFault post u (nI j) := by
  obtain ⟨rt, we, wt, a1, a2, a3, a4, a5, a6, a7, a8, a9, a10, a11, a12, a13, a14⟩ := u
  obtain ⟨hp, hn, hr, hc, hl, hK, hV, hH, h7, h90, h91, c0, k0, l0, h5⟩ := hu
  exact And.intro (pk_in j 4 hj) (br_f (by rw [nI_clamp (by omega), hH j hj, hh]; decide) Hp)
theorem ef_ff {post : Int32 → St2 → Prop} {u : St2} {p n : Nat} {K V : Nat → Nat} {H : Nat → Int32} {j t i v : Nat} (hu : ef_I p n K V H u) (hj : j < 4) (hh : H j = nI t) (ht : t ≤ 1) (hi : i < n) (hk : K i = 256 * t) (h1 : ∀ j, j < i → K j < 256 * t) (hv : V i = v) (h4 : v < 4) (Hp : ∀ u', ef_I p n K V H u' → post (if v = 1 then -4 else 0) u') : wpX_fileFault post u (nI j) := by
  have hq := hu
  obtain ⟨rt, we, wt, a1, a2, a3, a4, a5, a6, a7, a8, a9, a10, a11, a12, a13, a14⟩ := u
  obtain ⟨hp, hn, hr, hc, hl, hK, hV, hH, h7, h90, h91, c0, k0, l0, h5⟩ := hq
  have e : a11 (nI j).toNatClampNeg = nI t := by rw [nI_clamp (by omega), hH j hj, hh]
  refine And.intro (pk_in j 4 hj) (br_t (by rw [e]; exact nI_pos' (by omega)) (And.intro (pk_in j 4 hj) (ef_sort e hu hi hk h1 hv h4 (fun u' hu' => ?_))))
  have g := Hp u' hu'
  obtain ⟨rt', we', wt', a1', a2', a3', a4', a5', a6', a7', a8', a9', a10', a11', a12', a13', a14'⟩ := u'
  refine pk_eq v 1 (fun z => ?_) (fun z => ?_)
  · rw [if_pos z] at g
    exact g
  · rw [if_neg z] at g
    exact g
theorem ef_valid {post : Int32 → Prop} {u : St2} {p n : Nat} {K V : Nat → Nat} {H : Nat → Int32} (hu : ef_I p n K V H u) (Hp : post 0) : wpX_validPlace post u := by
  obtain ⟨rt, we, wt, a1, a2, a3, a4, a5, a6, a7, a8, a9, a10, a11, a12, a13, a14⟩ := u
  obtain ⟨hp, hn, hr, hc, hl, hK, hV, hH, h7, h90, h91, c0, k0, l0, h5⟩ := hu
  exact br_f (by rw [h90]; decide) (br_t h91 Hp)
end
section
/-! walks over a tree of one leaf, new pages -/
theorem ef_walk {post : Int32 → St2 → Prop} {rt we : Int32} {a1 a2 a3 a4 a5 a6 a7 a8 a9 a10 a11 a12 a13 a14 : Nat → Int32} {p : Nat} (hp : p < 110) (hl : a4 (6 * p) = -1) (h14 : a14 0 = nI p) (H : post (nI p) (rt, we, 0, a1, a2, a3, a4, a5, a6, a7, a8, a9, a10, a11, a12, a13, a14)) : wpX_walk post (rt, we, 1, a1, a2, a3, a4, a5, a6, a7, a8, a9, a10, a11, a12, a13, a14) :=
  nm_r (e' := (0 : Int32)) (by rfl) (And.intro (pk_in 0 110 (by omega)) (nm_r (e' := nI p) h14 (ef_leaf hp hl (br_f (by decide) H))))
theorem ef_mark {post : St2 → Prop} {rt we wt : Int32} {a1 a2 a3 a4 a5 a6 a7 a8 a9 a10 a11 a12 a13 a14 : Nat → Int32} {p : Nat} {x : Int32} (hx : x = nI p) (hp : p < 110) (hl : a4 (6 * p) = -1) (H : ∀ b14, post (rt, we, 0, a1, a2, a3, a4, a5, upd a6 p 1, a7, a8, a9, a10, a11, a12, a13, b14)) : wpX_markTree post (rt, we, wt, a1, a2, a3, a4, a5, a6, a7, a8, a9, a10, a11, a12, a13, a14) x := by
  subst hx
  exact br_t (nI_pos' (by omega)) (nm_r (e' := upd a14 0 (nI p)) (by rw [ef_b8 p (by omega)]) (Exists.intro 2 (br_f (by decide) (ef_walk hp hl pk_us (And.intro (pk_in p 110 hp) (nm_r (e' := upd a6 p 1) (by rw [nI_clamp (by omega)]) (br_t (by decide) (H _))))))))
theorem ef_mark_no {post : St2 → Prop} {rt we wt : Int32} {a1 a2 a3 a4 a5 a6 a7 a8 a9 a10 a11 a12 a13 a14 : Nat → Int32} {x : Int32} (hx : x = -1) (H : post (rt, we, 0, a1, a2, a3, a4, a5, a6, a7, a8, a9, a10, a11, a12, a13, a14)) : wpX_markTree post (rt, we, wt, a1, a2, a3, a4, a5, a6, a7, a8, a9, a10, a11, a12, a13, a14) x := by
  subst hx
  exact br_f (by decide) (Exists.intro 1 (br_t (by decide) H))
theorem ef_np72 {post : Int32 → St2 → Prop} {rt we wt : Int32} {a1 a2 a3 a4 a5 a6 a7 a8 a9 a10 a11 a12 a13 a14 : Nat → Int32} {x : Nat} (hx : x < 110) (H : post (nI x) (rt, we, wt, upd a1 x 0, a2, a3, upd a4 (6 * x) (-1), upd a5 x 1, a6, a7, a8, a9, a10, a11, a12, a13, a14)) : wX_newPage_72 post (nI x) rt we wt a1 a2 a3 a4 a5 a6 a7 a8 a9 a10 a11 a12 a13 a14 :=
  And.intro (pk_in x 110 hx) (nm_r (e' := upd a5 x 1) (by rw [nI_clamp (by omega)]) (And.intro (pk_in x 110 hx) (nm_r (e' := upd a1 x 0) (by rw [nI_clamp (by omega)]) (And.intro (pk_in (6 * x) 660 (by omega) (ef_k60 x)) (nm_r (e' := upd a4 (6 * x) (-1)) (by rw [ef_c60 hx]) H)))))
theorem ef_z {s : Nat → Int32} {i : Nat} (h : ∀ j, j < i → s j = 0) : ∀ j, j < i + 1 → upd s i 0 j = 0 := by
  intro j hj
  by_cases e : j = i
  · rw [e, pk_us]
  · rw [pk_un e]
    exact h j (by omega)
theorem ef_np2 {post : Int32 → St2 → Prop} {rt we wt : Int32} {a1 a2 a3 a4 a5 a6 a7 a8 a9 a10 a11 a12 a13 a14 : Nat → Int32} (h5 : ∀ x, x < 110 → a5 x = 0) (H : ∀ f b6, (∀ j, j < 110 → b6 j = 0) → wX_newPage_2 post rt we wt (f + 1) (nI 110) a1 a2 a3 a4 a5 b6 a7 a8 a9 a10 a11 a12 a13 a14) : wpX_newPage post (rt, we, wt, a1, a2, a3, a4, a5, a6, a7, a8, a9, a10, a11, a12, a13, a14) :=
  pk_loop (fun f x s => wX_newPage_2 post rt we wt f (nI x) a1 a2 a3 a4 a5 s a7 a8 a9 a10 a11 a12 a13 a14) (fun x s => ∀ j, j < x → s j = 0) 110 0 a6 (by omega) (fun j hj => absurd hj (by omega))
    (fun f s h => H f s h)
    (fun f x s hx h hw => pk_le 110 x (fun z => absurd z (by omega)) (fun _ => And.intro (pk_in x 110 hx) (And.intro (pk_in x 110 hx) (nm_r (e' := upd s x 0) (by rw [nI_clamp (by omega), h5 x hx]; rfl) (nm_r (nI_1 x) (hw _ (ef_z h)))))))
theorem ef_newPage1 {post : Int32 → St2 → Prop} {rt we wt : Int32} {a1 a2 a3 a4 a5 a6 a7 a8 a9 a10 a11 a12 a13 a14 : Nat → Int32} (hr : rt = nI 0) (h5 : ∀ x, x < 110 → a5 x = 0) (h90 : a9 0 = 1) (h91 : a9 1 = 0) (h7 : a7 0 = nI 0) (hl : a4 0 = -1)
    (H : ∀ b6 b14, post (nI 1) (rt, we, 0, upd a1 1 0, a2, a3, upd a4 6 (-1), upd a5 1 1, b6, a7, a8, a9, a10, a11, a12, a13, b14)) : wpX_newPage post (rt, we, wt, a1, a2, a3, a4, a5, a6, a7, a8, a9, a10, a11, a12, a13, a14) :=
  ef_np2 h5 (fun f b6 hb => pk_le 110 110 (fun _ => br_f (by rw [h90]; decide) (br_t h91 (ef_mark (p := 0) hr (by omega) hl (fun b14 => And.intro (pk_in 0 2 (by omega)) (ef_mark (p := 0) h7 (by omega) hl (fun c14 => Exists.intro 2
    (br_f (by decide) (And.intro (pk_in 0 110 (by omega)) (br_f (by rw [show (0 : Int32).toNatClampNeg = 0 from rfl, pk_us]; decide) (nm_r (e' := nI 1) (by rfl)
      (br_f (by decide) (And.intro (pk_in 1 110 (by omega)) (br_t (by rw [show (nI 1).toNatClampNeg = 1 from rfl, pk_un (by omega), pk_un (by omega), hb 1 (by omega)]) (ef_np72 (by omega) (H _ _))))))))))))))) (fun z => absurd z (by omega)))
theorem ef_newPage0 {post : Int32 → St2 → Prop} {rt we wt : Int32} {a1 a2 a3 a4 a5 a6 a7 a8 a9 a10 a11 a12 a13 a14 : Nat → Int32} (hr : rt = -1) (h5 : ∀ x, x < 110 → a5 x = 0) (h90 : a9 0 = 1) (h91 : a9 1 = 0) (h7 : a7 0 = -1)
    (H : ∀ b6 b14, post (nI 0) (rt, we, 0, upd a1 0 0, a2, a3, upd a4 0 (-1), upd a5 0 1, b6, a7, a8, a9, a10, a11, a12, a13, b14)) : wpX_newPage post (rt, we, wt, a1, a2, a3, a4, a5, a6, a7, a8, a9, a10, a11, a12, a13, a14) :=
  ef_np2 h5 (fun f b6 hb => pk_le 110 110 (fun _ => br_f (by rw [h90]; decide) (br_t h91 (ef_mark_no hr (And.intro (pk_in 0 2 (by omega)) (ef_mark_no h7 (Exists.intro 1
    (br_f (by decide) (And.intro (pk_in 0 110 (by omega)) (br_t (by rw [show (0 : Int32).toNatClampNeg = 0 from rfl, hb 0 (by omega)]) (ef_np72 (x := 0) (by omega) (H _ _))))))))))) (fun z => absurd z (by omega)))
/-! the copy of page 0 into page 1 -/
theorem ef_fc83 {post : Int32 → St2 → Prop} {rt we wt : Int32} {a1 a2 a3 a4 a5 a6 a7 a8 a9 a10 a11 a12 a13 a14 : Nat → Int32} (hl : a4 0 = -1) (H : ∀ b4 : Nat → Int32, b4 0 = -1 → b4 6 = -1 → post (nI 1) (rt, we, wt, a1, a2, a3, b4, a5, a6, a7, a8, a9, a10, a11, a12, a13, a14)) : ∃ f, wX_freshCopy_83 post (nI 0) (nI 1) rt we wt f 0 a1 a2 a3 a4 a5 a6 a7 a8 a9 a10 a11 a12 a13 a14 :=
  pk_loop (fun f x s => wX_freshCopy_83 post (nI 0) (nI 1) rt we wt f (nI x) a1 a2 a3 s a5 a6 a7 a8 a9 a10 a11 a12 a13 a14) (fun x s => s 0 = -1 ∧ (0 < x → s 6 = -1)) 6 0 a4 (by omega) ⟨hl, fun z => absurd z (by omega)⟩
    (fun f s h => pk_le 6 6 (fun _ => H s h.1 (h.2 (by omega))) (fun z => absurd z (by omega)))
    (fun f x s hx h hw => pk_le 6 x (fun z => absurd z (by omega)) (fun _ => And.intro (pk_in (6 * 0 + x) 660 (by omega) (ef_k6 0 x)) (And.intro (pk_in (6 * 1 + x) 660 (by omega) (ef_k6 1 x))
      (nm_r (e' := upd s (6 + x) (vp_nar .byte (s x))) (by rw [ef_k6, ef_k6, nI_clamp (by omega), nI_clamp (by omega), Nat.mul_zero, Nat.zero_add]) (nm_r (nI_1 x) (hw _ ⟨by rw [pk_un (by omega)]; exact h.1, fun _ => by
        by_cases e : x = 0
        · rw [e, pk_us, h.1]
          rfl
        · rw [pk_un (by omega)]
          exact h.2 (by omega)⟩))))))
theorem ef_fc30 {post : Int32 → St2 → Prop} {rt we wt : Int32} {a1 a2 a3 a4 a5 a6 a7 a8 a9 a10 a11 a12 a13 a14 : Nat → Int32} {k v : Nat} (hk : a2 0 = nI k) (hv : a3 0 = nI v) (hk5 : k < 512) (hv5 : v < 512) (hl : a4 0 = -1)
    (H : ∀ b2 b3 b4 : Nat → Int32, b2 0 = nI k → b2 5 = nI k → b3 5 = nI v → b4 0 = -1 → b4 6 = -1 → post (nI 1) (rt, we, wt, a1, b2, b3, b4, a5, a6, a7, a8, a9, a10, a11, a12, a13, a14)) : ∃ f, wX_freshCopy_30 post (nI 0) (nI 1) rt we wt f 0 a1 a2 a3 a4 a5 a6 a7 a8 a9 a10 a11 a12 a13 a14 :=
  pk_loop (σ := (Nat → Int32) × (Nat → Int32)) (fun f x s => wX_freshCopy_30 post (nI 0) (nI 1) rt we wt f (nI x) a1 s.1 s.2 a4 a5 a6 a7 a8 a9 a10 a11 a12 a13 a14) (fun x s => s.1 0 = nI k ∧ s.2 0 = nI v ∧ (0 < x → s.1 5 = nI k ∧ s.2 5 = nI v)) 5 0 (a2, a3) (by omega) ⟨hk, hv, fun z => absurd z (by omega)⟩
    (fun f s h => pk_le 5 5 (fun _ => ef_fc83 hl (fun b4 e1 e2 => H s.1 s.2 b4 h.1 (h.2.2 (by omega)).1 (h.2.2 (by omega)).2 e1 e2)) (fun z => absurd z (by omega)))
    (fun f x s hx h hw => pk_le 5 x (fun z => absurd z (by omega)) (fun _ => And.intro (pk_in (5 * 0 + x) 550 (by omega) (ef_k5 0 x)) (And.intro (pk_in (5 * 1 + x) 550 (by omega) (ef_k5 1 x))
      (nm_r (e' := upd s.1 (5 + x) (vp_nar .short (s.1 x))) (by rw [ef_k5, ef_k5, nI_clamp (by omega), nI_clamp (by omega), Nat.mul_zero, Nat.zero_add]) (And.intro (pk_in (5 * 0 + x) 550 (by omega) (ef_k5 0 x)) (And.intro (pk_in (5 * 1 + x) 550 (by omega) (ef_k5 1 x))
      (nm_r (e' := upd s.2 (5 + x) (vp_nar .short (s.2 x))) (by rw [ef_k5, ef_k5, nI_clamp (by omega), nI_clamp (by omega), Nat.mul_zero, Nat.zero_add]) (nm_r (nI_1 x) (hw (upd s.1 (5 + x) (vp_nar .short (s.1 x)), upd s.2 (5 + x) (vp_nar .short (s.2 x))) ⟨by
        show upd s.1 (5 + x) (vp_nar .short (s.1 x)) 0 = nI k
        rw [pk_un (by omega)]
        exact h.1, by
        show upd s.2 (5 + x) (vp_nar .short (s.2 x)) 0 = nI v
        rw [pk_un (by omega)]
        exact h.2.1, fun _ => by
        show upd s.1 (5 + x) (vp_nar .short (s.1 x)) 5 = nI k ∧ upd s.2 (5 + x) (vp_nar .short (s.2 x)) 5 = nI v
        by_cases e : x = 0
        · subst e
          rw [pk_us, pk_us, h.1, h.2.1, vp_nar_short, vp_nar_short, ef_s16 k hk5, ef_s16 v hv5]
          exact ⟨rfl, rfl⟩
        · rw [pk_un (by omega), pk_un (by omega)]
          exact h.2.2 (by omega)⟩)))))))))
theorem ef_fresh0 {post : Int32 → St2 → Prop} {rt we wt : Int32} {a1 a2 a3 a4 a5 a6 a7 a8 a9 a10 a11 a12 a13 a14 : Nat → Int32} {k v : Nat} {x : Int32} (hx : x = nI 0) (hr : rt = nI 0) (h5 : ∀ x, x < 110 → a5 x = 0) (h90 : a9 0 = 1) (h91 : a9 1 = 0) (h7 : a7 0 = nI 0) (hc : a1 0 = nI 1) (hk : a2 0 = nI k) (hv : a3 0 = nI v) (hk5 : k < 512) (hv5 : v < 512) (hl : a4 0 = -1)
    (H : ∀ b1 b2 b3 b4 b6 b14 : Nat → Int32, b1 0 = nI 1 → b1 1 = nI 1 → b2 0 = nI k → b2 5 = nI k → b3 5 = nI v → b4 0 = -1 → b4 6 = -1 → post (nI 1) (rt, we, 0, b1, b2, b3, b4, upd a5 1 1, b6, a7, a8, a9, a10, a11, a12, a13, b14)) : wpX_freshCopy post (rt, we, wt, a1, a2, a3, a4, a5, a6, a7, a8, a9, a10, a11, a12, a13, a14) x := by
  subst hx
  exact And.intro (pk_in 0 110 (by omega)) (br_t (h5 0 (by omega)) (ef_newPage1 hr h5 h90 h91 h7 hl (fun b6 b14 => And.intro (pk_in 0 110 (by omega)) (And.intro (pk_in 1 110 (by omega))
    (nm_r (e' := upd (upd a1 1 0) 1 (nI 1)) (by rw [show (nI 1).toNatClampNeg = 1 from rfl, show (nI 0).toNatClampNeg = 0 from rfl, pk_un (k := 1) (j := 0) (by omega), hc]; rfl)
      (ef_fc30 hk hv hk5 hv5 (by rw [pk_un (by omega)]; exact hl) (fun b2 b3 b4 q1 q2 q3 q4 q5 => H _ b2 b3 b4 b6 b14 (by rw [pk_un (by omega), pk_un (by omega)]; exact hc) pk_us q1 q2 q3 q4 q5)))))))
theorem ef_fresh1 {post : Int32 → St2 → Prop} {rt we wt : Int32} {a1 a2 a3 a4 a5 a6 a7 a8 a9 a10 a11 a12 a13 a14 : Nat → Int32} {p : Nat} {x : Int32} (hx : x = nI p) (hp : p < 110) (h5 : ¬ a5 p = 0) (H : post (nI p) (rt, we, wt, a1, a2, a3, a4, a5, a6, a7, a8, a9, a10, a11, a12, a13, a14)) : wpX_freshCopy post (rt, we, wt, a1, a2, a3, a4, a5, a6, a7, a8, a9, a10, a11, a12, a13, a14) x := by
  subst hx
  exact And.intro (pk_in p 110 hp) (br_f (by rw [nI_clamp (by omega)]; exact h5) H)
theorem ef_copy0 {post : St2 → Prop} {rt wt : Int32} {a1 a2 a3 a4 a5 a6 a7 a8 a9 a10 a11 a12 a13 a14 : Nat → Int32} {k v : Nat} (h12 : a12 0 = nI 0) (hr : rt = nI 0) (h5 : ∀ x, x < 110 → a5 x = 0) (h90 : a9 0 = 1) (h91 : a9 1 = 0) (h7 : a7 0 = nI 0) (hc : a1 0 = nI 1) (hk : a2 0 = nI k) (hv : a3 0 = nI v) (hk5 : k < 512) (hv5 : v < 512) (hl : a4 0 = -1)
    (H : ∀ b1 b2 b3 b4 b6 b12 b14 : Nat → Int32, b1 0 = nI 1 → b1 1 = nI 1 → b2 0 = nI k → b2 5 = nI k → b3 5 = nI v → b4 0 = -1 → b4 6 = -1 → b12 0 = nI 1 → post (nI 1, 1, 0, b1, b2, b3, b4, upd a5 1 1, b6, a7, a8, a9, a10, a11, b12, a13, b14)) : wpX_copyWay post (rt, 1, wt, a1, a2, a3, a4, a5, a6, a7, a8, a9, a10, a11, a12, a13, a14) :=
  Exists.intro 2 (br_f (by decide) (And.intro (pk_in 0 8 (by omega)) (ef_fresh0 h12 hr h5 h90 h91 h7 hc hk hv hk5 hv5 hl (fun b1 b2 b3 b4 b6 b14 q1 q2 q3 q4 q5 q6 q7 => And.intro (pk_in 0 8 (by omega))
    (nm_r (e' := upd a12 0 (nI 1)) (by rfl) (br_t (by rfl) (nm_r (e' := (1 : Int32)) (by rfl) (br_t (by decide) (H b1 b2 b3 b4 b6 _ b14 q1 q2 q3 q4 q5 q6 q7 pk_us)))))))))
theorem ef_copy1 {post : St2 → Prop} {rt wt : Int32} {a1 a2 a3 a4 a5 a6 a7 a8 a9 a10 a11 a12 a13 a14 : Nat → Int32} {p : Nat} (hp : p < 110) (h12 : a12 0 = nI p) (h5 : ¬ a5 p = 0) (H : ∀ b12 : Nat → Int32, b12 0 = nI p → post (nI p, 1, wt, a1, a2, a3, a4, a5, a6, a7, a8, a9, a10, a11, b12, a13, a14)) : wpX_copyWay post (rt, 1, wt, a1, a2, a3, a4, a5, a6, a7, a8, a9, a10, a11, a12, a13, a14) :=
  Exists.intro 2 (br_f (by decide) (And.intro (pk_in 0 8 (by omega)) (ef_fresh1 h12 hp h5 (And.intro (pk_in 0 8 (by omega))
    (nm_r (e' := upd a12 0 (nI p)) (by rw [ef_b8 p (by omega)]; rfl) (br_t (by rfl) (nm_r (e' := (1 : Int32)) (by rfl) (br_t (by decide) (H _ pk_us)))))))))
end
section
/-! putting a key into a leaf that has room -/
theorem ef_open0 {post : St2 → Prop} {rt we wt : Int32} {a1 a2 a3 a4 a5 a6 a7 a8 a9 a10 a11 a12 a13 a14 : Nat → Int32} {p i : Nat} {x y : Int32} (hx : x = nI p) (hy : y = nI i) (hp : p < 110) (hi : i < 5) (hc : a1 p = nI i) (H : post (rt, we, wt, upd a1 p (nI (i + 1)), a2, a3, a4, a5, a6, a7, a8, a9, a10, a11, a12, a13, a14)) : wpX_openPlace post (rt, we, wt, a1, a2, a3, a4, a5, a6, a7, a8, a9, a10, a11, a12, a13, a14) x y := by
  subst hx hy
  exact And.intro (pk_in p 110 hp) (nm_r (e' := nI i) (by rw [nI_clamp (by omega), hc]) (Exists.intro 1 (br_t (nI_le (Nat.le_refl i) (by omega)) (And.intro (pk_in p 110 hp) (And.intro (pk_in p 110 hp)
    (nm_r (e' := upd a1 p (nI (i + 1))) (by rw [nI_clamp (by omega), hc, nI_1, ef_b8 (i + 1) (by omega)]) H))))))
theorem ef_open1 {post : St2 → Prop} {rt we wt : Int32} {a1 a2 a3 a4 a5 a6 a7 a8 a9 a10 a11 a12 a13 a14 : Nat → Int32} {p i k v : Nat} {x y : Int32} (hx : x = nI p) (hy : y = nI i) (hp : p < 110) (hi : i < 4) (hc : a1 p = nI (i + 1)) (hk : a2 (5 * p + i) = nI k) (hv : a3 (5 * p + i) = nI v) (hk5 : k < 512) (hv5 : v < 512) (H : post (rt, we, wt, upd a1 p (nI (i + 2)), upd a2 (5 * p + (i + 1)) (nI k), upd a3 (5 * p + (i + 1)) (nI v), a4, a5, a6, a7, a8, a9, a10, a11, a12, a13, a14)) : wpX_openPlace post (rt, we, wt, a1, a2, a3, a4, a5, a6, a7, a8, a9, a10, a11, a12, a13, a14) x y := by
  subst hx hy
  exact And.intro (pk_in p 110 hp) (nm_r (e' := nI (i + 1)) (by rw [nI_clamp (by omega), hc]) (Exists.intro 2 (br_f (nI_ge (by omega) (by omega)) (And.intro (pk_in (5 * p + i) 550 (by omega) (ef_k5m p i)) (And.intro (pk_in (5 * p + (i + 1)) 550 (by omega) (ef_k5 p (i + 1)))
    (nm_r (e' := upd a2 (5 * p + (i + 1)) (nI k)) (by rw [ef_k5m, ef_k5, nI_clamp (by omega), nI_clamp (by omega), hk, vp_nar_short, ef_s16 k hk5]) (And.intro (pk_in (5 * p + i) 550 (by omega) (ef_k5m p i)) (And.intro (pk_in (5 * p + (i + 1)) 550 (by omega) (ef_k5 p (i + 1)))
    (nm_r (e' := upd a3 (5 * p + (i + 1)) (nI v)) (by rw [ef_k5m, ef_k5, nI_clamp (by omega), nI_clamp (by omega), hv, vp_nar_short, ef_s16 v hv5]) (nm_r (pk_m1 i)
    (br_t (nI_le (Nat.le_refl i) (by omega)) (And.intro (pk_in p 110 hp) (And.intro (pk_in p 110 hp)
    (nm_r (e' := upd a1 p (nI (i + 2))) (by rw [nI_clamp (by omega), hc, nI_1, ef_b8 (i + 1 + 1) (by omega)]) H))))))))))))))
theorem ef_putAt {post : St2 → Prop} {rt we wt : Int32} {a1 a2 a3 a4 a5 a6 a7 a8 a9 a10 a11 a12 a13 a14 : Nat → Int32} {p i k v : Nat} {x y : Int32} (hx : x = nI p) (hy : y = nI i) (hp : p < 110) (hi : i < 5) (hk5 : k < 512) (hv5 : v < 512) (H : post (rt, we, wt, a1, upd a2 (5 * p + i) (nI k), upd a3 (5 * p + i) (nI v), a4, a5, a6, a7, a8, a9, a10, a11, a12, a13, a14)) : wpX_putAt post (rt, we, wt, a1, a2, a3, a4, a5, a6, a7, a8, a9, a10, a11, a12, a13, a14) x y (nI k) (nI v) := by
  subst hx hy
  exact And.intro (pk_in (5 * p + i) 550 (by omega) (ef_k5 p i)) (nm_r (e' := upd a2 (5 * p + i) (nI k)) (by rw [ef_c5 hp (by omega), ef_s16 k hk5]) (And.intro (pk_in (5 * p + i) 550 (by omega) (ef_k5 p i)) (nm_r (e' := upd a3 (5 * p + i) (nI v)) (by rw [ef_c5 hp (by omega), ef_s16 v hv5]) H)))
theorem ef_put117 {post : St2 → Prop} {rt we wt : Int32} {a1 a2 a3 a4 a5 a6 a7 a8 a9 a10 a11 a12 a13 a14 : Nat → Int32} {p n : Nat} (hp : p < 110) (hn : n ≤ 4) (h12 : a12 0 = nI p) (hc : a1 p = nI n) (H : post (rt, we, wt, a1, a2, a3, a4, a5, a6, a7, a8, a9, a10, a11, a12, a13, a14)) : ∃ f, wX_put_117 post f 0 rt we wt a1 a2 a3 a4 a5 a6 a7 a8 a9 a10 a11 a12 a13 a14 :=
  Exists.intro 1 (br_f (by decide) (And.intro (pk_in 0 8 (by omega)) (And.intro (pk_in p 110 hp h12) (pk_eq n 5 (fun z => absurd z (by omega)) (fun _ => H) (by rw [show a12 (0 : Int32).toNatClampNeg = nI p from h12, nI_clamp (by omega), hc])))))
theorem ef_put71a {post : St2 → Prop} {rt wt : Int32} {a1 a2 a3 a4 a5 a6 a7 a8 a9 a10 a11 a12 a13 a14 : Nat → Int32} {p i k v : Nat} (hp : p < 110) (hi : i < 4) (h12 : a12 0 = nI p) (h13 : a13 0 = nI i) (hc : a1 p = nI i) (hk5 : k < 512) (hv5 : v < 512)
    (H : post (rt, 1, wt, upd a1 p (nI (i + 1)), upd a2 (5 * p + i) (nI k), upd a3 (5 * p + i) (nI v), a4, a5, a6, a7, a8, a9, a10, a11, a12, a13, a14)) : wX_put_71 post (nI k) (nI v) rt 1 wt a1 a2 a3 a4 a5 a6 a7 a8 a9 a10 a11 a12 a13 a14 :=
  nm_r (e' := (0 : Int32)) (by rfl) (And.intro (pk_in 0 8 (by omega)) (And.intro (pk_in 0 8 (by omega)) (ef_open0 h12 h13 hp (by omega) hc (And.intro (pk_in 0 8 (by omega)) (And.intro (pk_in 0 8 (by omega)) (ef_putAt h12 h13 hp (by omega) hk5 hv5 (ef_put117 hp (by omega) h12 pk_us H)))))))
theorem ef_put71b {post : St2 → Prop} {rt wt : Int32} {a1 a2 a3 a4 a5 a6 a7 a8 a9 a10 a11 a12 a13 a14 : Nat → Int32} {p i k v k' v' : Nat} (hp : p < 110) (hi : i < 3) (h12 : a12 0 = nI p) (h13 : a13 0 = nI i) (hc : a1 p = nI (i + 1)) (hk : a2 (5 * p + i) = nI k') (hv : a3 (5 * p + i) = nI v') (hk5' : k' < 512) (hv5' : v' < 512) (hk5 : k < 512) (hv5 : v < 512)
    (H : post (rt, 1, wt, upd a1 p (nI (i + 2)), upd (upd a2 (5 * p + (i + 1)) (nI k')) (5 * p + i) (nI k), upd (upd a3 (5 * p + (i + 1)) (nI v')) (5 * p + i) (nI v), a4, a5, a6, a7, a8, a9, a10, a11, a12, a13, a14)) : wX_put_71 post (nI k) (nI v) rt 1 wt a1 a2 a3 a4 a5 a6 a7 a8 a9 a10 a11 a12 a13 a14 :=
  nm_r (e' := (0 : Int32)) (by rfl) (And.intro (pk_in 0 8 (by omega)) (And.intro (pk_in 0 8 (by omega)) (ef_open1 h12 h13 hp (by omega) hc hk hv hk5' hv5' (And.intro (pk_in 0 8 (by omega)) (And.intro (pk_in 0 8 (by omega)) (ef_putAt h12 h13 hp (by omega) hk5 hv5 (ef_put117 hp (by omega) h12 pk_us H)))))))
/-- into page 1, at its end -/
theorem ef_putE {post : St2 → Prop} {u : St2} {n : Nat} {K V K' V' : Nat → Nat} {H : Nat → Int32} {k v : Nat} {x y : Int32} (hx : x = nI k) (hy : y = nI v) (hu : ef_I 1 n K V H u) (hn : n < 4) (hk5 : k < 512) (hv5 : v < 512) (h1 : ∀ j, j < n → K j < k)
    (hK' : ∀ j, j < n → K' j = K j ∧ V' j = V j) (hk' : K' n = k) (hv' : V' n = v) (Hp : ∀ u', ef_I 1 (n + 1) K' V' H u' → post u') : wpX_put post u x y := by
  subst hx hy
  obtain ⟨rt, we, wt, a1, a2, a3, a4, a5, a6, a7, a8, a9, a10, a11, a12, a13, a14⟩ := u
  obtain ⟨hp, hn', hr, hc, hl, hK, hV, hH, h7, h90, h91, c0, k0, l0, h5⟩ := hu
  subst hr
  refine ef_find (we := we) (p := 1) (n := n) (i := n) (by omega) (by omega) hc hl (Nat.le_refl n) (fun j hj => ?_) (fun z => absurd z (by omega)) (fun b12 b13 e1 e2 z1 z2 => absurd z1 (by omega)) (fun b12 b13 e1 e2 z => ?_)
  · rw [(hK j (by omega)).1]
    exact nI_lt (h1 j hj) (by omega)
  · refine ef_copy1 (p := 1) (by omega) e1 (by rw [h5 1 (by omega)]; decide) (fun c12 e3 => br_t (by rfl) (br_f (by decide) (ef_put71a (by omega) hn e3 e2 hc hk5 hv5 (Hp _ ?_))))
    refine And.intro (by omega) (And.intro (by omega) (And.intro rfl (And.intro pk_us (And.intro hl (And.intro (fun j hj => ?_) (And.intro (fun j hj => ?_) (And.intro hH (And.intro h7 (And.intro h90 (And.intro h91 (And.intro ?_ (And.intro ?_ (And.intro l0 h5)))))))))))))
    · by_cases e : j = n
      · subst e
        rw [pk_us, hk']
        exact ⟨rfl, hk5⟩
      · rw [pk_un (by omega), (hK' j (by omega)).1]
        exact hK j (by omega)
    · by_cases e : j = n
      · subst e
        rw [pk_us, hv']
        exact ⟨rfl, hv5⟩
      · rw [pk_un (by omega), (hK' j (by omega)).2]
        exact hV j (by omega)
    · rw [pk_un (by omega)]
      exact c0
    · rw [pk_un (by omega)]
      exact k0
/-- into page 1, ahead of its last key -/
theorem ef_putM {post : St2 → Prop} {u : St2} {i : Nat} {K V K' V' : Nat → Nat} {H : Nat → Int32} {k v : Nat} {x y : Int32} (hx : x = nI k) (hy : y = nI v) (hu : ef_I 1 (i + 1) K V H u) (hi : i < 3) (hk5 : k < 512) (hv5 : v < 512) (h1 : ∀ j, j < i → K j < k) (h2 : k < K i)
    (hK' : ∀ j, j < i → K' j = K j ∧ V' j = V j) (hk' : K' i = k) (hv' : V' i = v) (hk'' : K' (i + 1) = K i) (hv'' : V' (i + 1) = V i) (Hp : ∀ u', ef_I 1 (i + 2) K' V' H u' → post u') : wpX_put post u x y := by
  subst hx hy
  obtain ⟨rt, we, wt, a1, a2, a3, a4, a5, a6, a7, a8, a9, a10, a11, a12, a13, a14⟩ := u
  obtain ⟨hp, hn', hr, hc, hl, hK, hV, hH, h7, h90, h91, c0, k0, l0, h5⟩ := hu
  subst hr
  have q1 := (hK i (by omega)).2
  refine ef_find (we := we) (p := 1) (n := i + 1) (i := i) (by omega) (by omega) hc hl (by omega) (fun j hj => ?_) (fun z => ?_) (fun b12 b13 e1 e2 z1 z2 => ?_) (fun b12 b13 e1 e2 z => ?_)
  · rw [(hK j (by omega)).1]
    exact nI_lt (h1 j hj) (by omega)
  · rw [(hK i (by omega)).1]
    exact nI_le (by omega) (by omega)
  · rw [(hK i (by omega)).1] at z2
    have := (nI_eq (by omega) (by omega)).mp z2
    omega
  · refine ef_copy1 (p := 1) (by omega) e1 (by rw [h5 1 (by omega)]; decide) (fun c12 e3 => br_t (by rfl) (br_f (by decide) (ef_put71b (by omega) hi e3 e2 hc (hK i (by omega)).1 (hV i (by omega)).1 (hK i (by omega)).2 (hV i (by omega)).2 hk5 hv5 (Hp _ ?_))))
    refine And.intro (by omega) (And.intro (by omega) (And.intro rfl (And.intro pk_us (And.intro hl (And.intro (fun j hj => ?_) (And.intro (fun j hj => ?_) (And.intro hH (And.intro h7 (And.intro h90 (And.intro h91 (And.intro ?_ (And.intro ?_ (And.intro l0 h5)))))))))))))
    · by_cases e : j = i
      · subst e
        rw [pk_us, hk']
        exact ⟨rfl, hk5⟩
      · rw [pk_un (by omega)]
        by_cases e' : j = i + 1
        · subst e'
          rw [pk_us, hk'']
          exact ⟨rfl, q1⟩
        · rw [pk_un (by omega), (hK' j (by omega)).1]
          exact hK j (by omega)
    · by_cases e : j = i
      · subst e
        rw [pk_us, hv']
        exact ⟨rfl, hv5⟩
      · rw [pk_un (by omega)]
        by_cases e' : j = i + 1
        · subst e'
          rw [pk_us, hv'']
          exact ⟨rfl, (hV i (by omega)).2⟩
        · rw [pk_un (by omega), (hK' j (by omega)).2]
          exact hV j (by omega)
    · rw [pk_un (by omega)]
      exact c0
    · rw [pk_un (by omega), pk_un (by omega)]
      exact k0
/-- the first change after the saving: page 0 (one key) is copied into page 1, and the key is put behind it -/
theorem ef_putC {post : St2 → Prop} {u : St2} {K V K' V' : Nat → Nat} {H : Nat → Int32} {k v : Nat} {x y : Int32} (hx : x = nI k) (hy : y = nI v) (hu : ef_I 0 1 K V H u) (hk5 : k < 512) (hv5 : v < 512) (h1 : K 0 < k)
    (hK' : K' 0 = K 0) (hV' : V' 0 = V 0) (hk' : K' 1 = k) (hv' : V' 1 = v) (Hp : ∀ u', ef_I 1 2 K' V' H u' → post u') : wpX_put post u x y := by
  subst hx hy
  obtain ⟨rt, we, wt, a1, a2, a3, a4, a5, a6, a7, a8, a9, a10, a11, a12, a13, a14⟩ := u
  obtain ⟨hp, hn', hr, hc, hl, hK, hV, hH, h7, h90, h91, c0, k0, l0, h5⟩ := hu
  subst hr
  have q1 := hK 0 (by omega)
  have q2 := hV 0 (by omega)
  refine ef_find (we := we) (p := 0) (n := 1) (i := 1) (by omega) (by omega) hc hl (by omega) (fun j hj => ?_) (fun z => absurd z (by omega)) (fun b12 b13 e1 e2 z1 z2 => absurd z1 (by omega)) (fun b12 b13 e1 e2 z => ?_)
  · rw [(hK j (by omega)).1]
    have : j = 0 := by omega
    subst this
    exact nI_lt h1 (by omega)
  · refine ef_copy0 (k := K 0) (v := V 0) e1 rfl (fun x hx => by rw [h5 x hx]; split <;> rfl) h90 h91 h7 c0 q1.1 q2.1 q1.2 q2.2 l0 (fun b1 b2 b3 b4 b6 c12 b14 w1 w2 w3 w4 w5 w6 w7 w8 => br_t (by rfl) (br_f (by decide) (ef_put71a (p := 1) (i := 1) (by omega) (by omega) w8 e2 w2 hk5 hv5 (Hp _ ?_))))
    refine And.intro (by omega) (And.intro (by omega) (And.intro rfl (And.intro pk_us (And.intro w7 (And.intro (fun j hj => ?_) (And.intro (fun j hj => ?_) (And.intro hH (And.intro h7 (And.intro h90 (And.intro h91 (And.intro ?_ (And.intro ?_ (And.intro w6 (fun x hx => ?_))))))))))))))
    · by_cases e : j = 1
      · subst e
        rw [pk_us, hk']
        exact ⟨rfl, hk5⟩
      · have : j = 0 := by omega
        subst this
        rw [pk_un (by omega), hK']
        exact ⟨w4, q1.2⟩
    · by_cases e : j = 1
      · subst e
        rw [pk_us, hv']
        exact ⟨rfl, hv5⟩
      · have : j = 0 := by omega
        subst this
        rw [pk_un (by omega), hV']
        exact ⟨w5, q2.2⟩
    · rw [pk_un (by omega)]
      exact w1
    · rw [pk_un (by omega), w3, ← q1.1]
      exact k0
    · by_cases e : x = 1
      · subst e
        rw [pk_us]
        rfl
      · rw [pk_un e, h5 x hx, if_neg e, if_neg e]
end
section
/-! the constructor -/
def ef_K2 : Nat → Nat
  | 0 => 0
  | _ => 256
def ef_V2 (s : Nat) : Nat → Nat
  | 0 => 1
  | _ => s
def ef_K (m b : Nat) : Nat → Nat
  | 0 => 0
  | 1 => 1 + m
  | 2 => 256
  | _ => 384 + b
def ef_V (s : Nat) : Nat → Nat
  | 0 => 1
  | 1 => 1
  | 2 => s
  | _ => 1
def ef_H (h : Nat) : Nat → Int32 := fun j => if j = 0 then nI 0 else if j = h then nI 1 else -1
theorem ef_settle {post : St2 → Prop} {rt we wt : Int32} {a1 a2 a3 a4 a5 a6 a7 a8 a9 a10 a11 a12 a13 a14 : Nat → Int32} (H : ∀ b5, (∀ j, j < 110 → b5 j = 0) → post (rt, we, wt, a1, a2, a3, a4, b5, a6, a7, a8, a9, a10, a11, a12, a13, a14)) : wpX_settle post (rt, we, wt, a1, a2, a3, a4, a5, a6, a7, a8, a9, a10, a11, a12, a13, a14) :=
  pk_loop (fun f x s => wX_settle_2 post rt we wt f (nI x) a1 a2 a3 a4 s a6 a7 a8 a9 a10 a11 a12 a13 a14) (fun x s => ∀ j, j < x → s j = 0) 110 0 a5 (by omega) (fun j hj => absurd hj (by omega))
    (fun f s h => pk_le 110 110 (fun _ => H s h) (fun z => absurd z (by omega)))
    (fun f x s hx h hw => pk_le 110 x (fun z => absurd z (by omega)) (fun _ => And.intro (pk_in x 110 hx) (nm_r (e' := upd s x 0) (by rw [nI_clamp (by omega)]) (nm_r (nI_1 x) (hw _ (ef_z h))))))
theorem ef_put00 {post : St2 → Prop} {we wt : Int32} {a1 a2 a3 a4 a5 a6 a7 a8 a9 a10 a11 a12 a13 a14 : Nat → Int32} (h5 : ∀ x, x < 110 → a5 x = 0) (h90 : a9 0 = 1) (h91 : a9 1 = 0) (h7 : a7 0 = -1)
    (H : ∀ b1 b2 b3 b4 b5 b6 b12 b13 b14 : Nat → Int32, b1 0 = nI 1 → b2 0 = nI 0 → b3 0 = nI 1 → b4 0 = -1 → post (nI 0, 1, 0, b1, b2, b3, b4, b5, b6, a7, a8, a9, a10, a11, b12, b13, b14)) : wpX_put post (-1, we, wt, a1, a2, a3, a4, a5, a6, a7, a8, a9, a10, a11, a12, a13, a14) 0 1 :=
  Exists.intro 1 (br_t (by decide) (Exists.intro 1 (br_t (by decide) (br_t (by rfl) (br_t (by rfl) (ef_newPage0 rfl h5 h90 h91 h7 (fun b6 b14 =>
    And.intro (pk_in 0 8 (by omega)) (nm_r (e' := upd a12 0 (nI 0)) (by rfl) (And.intro (pk_in 0 8 (by omega)) (nm_r (e' := upd a13 0 (nI 0)) (by rfl) (nm_r (e' := (1 : Int32)) (by rfl)
      (ef_put71a (p := 0) (i := 0) (k := 0) (v := 1) (by omega) (by omega) pk_us pk_us pk_us (by omega) (by omega) (H _ _ _ _ _ _ _ _ _ pk_us pk_us pk_us pk_us)))))))))))))
theorem ef_init {post : St2 → Prop} {mc ms : Nat} (hm : 14 ≤ mc) (hs : 2418 ≤ ms) (Hp : ∀ u', ef_I 0 1 ef_K2 (ef_V2 1) (ef_H 0) u' → post u') : wpX_init post mc ms (0, 0, 0) := by
  refine And.intro (by omega) (And.intro (by omega) (And.intro (by omega) (And.intro (by omega) (And.intro (by omega) (And.intro (by omega) (And.intro (by omega) (And.intro (by omega) (And.intro (by omega) (And.intro (by omega) (And.intro (by omega) (And.intro (by omega) (And.intro (by omega) (And.intro (by omega) (And.intro (by omega) (And.intro (by omega) (And.intro (by omega) (And.intro (by omega) (And.intro (by omega) (And.intro (by omega) (And.intro (by omega) (And.intro (by omega) (And.intro (by omega) (And.intro (by omega) (And.intro (by omega) (And.intro (by omega) (And.intro (by omega) (And.intro (by omega) (Exists.intro 4 ?_))))))))))))))))))))))))))))
  refine br_f (by decide) (And.intro (pk_in 1 4 (by omega)) (nm_r (e' := upd (fun _ => 0) 1 (-1)) (by rfl) (nm_r (e' := (2 : Int32)) (by rfl) ?_)))
  refine br_f (by decide) (And.intro (pk_in 2 4 (by omega)) (nm_r (e' := upd (upd (fun _ => 0) 1 (-1)) 2 (-1)) (by rfl) (nm_r (e' := (3 : Int32)) (by rfl) ?_)))
  refine br_f (by decide) (And.intro (pk_in 3 4 (by omega)) (nm_r (e' := upd (upd (upd (fun _ => 0) 1 (-1)) 2 (-1)) 3 (-1)) (by rfl) (nm_r (e' := (4 : Int32)) (by rfl) ?_)))
  refine br_t (by decide) (nm_e (nm_e (nm_e (ef_put00 (fun x hx => rfl) rfl rfl rfl (fun b1 b2 b3 b4 b5 b6 b12 b13 b14 e1 e2 e3 e4 => nm_e (ef_settle (fun c5 h5 => Hp _ ?_)))))))
  refine And.intro (by omega) (And.intro (by omega) (And.intro rfl (And.intro e1 (And.intro e4 (And.intro (fun j hj => ?_) (And.intro (fun j hj => ?_) (And.intro (fun j hj => ?_) (And.intro rfl (And.intro rfl (And.intro rfl (And.intro e1 (And.intro e2 (And.intro e4 (fun x hx => ?_))))))))))))))
  · have : j = 0 := by omega
    subst this
    exact ⟨e2, by decide⟩
  · have : j = 0 := by omega
    subst this
    exact ⟨e3, by decide⟩
  · exact co_4 (P := fun j => upd (upd (upd (fun _ => 0) 1 (-1)) 2 (-1)) 3 (-1) j = ef_H 0 j) rfl rfl rfl rfl hj
  · rw [h5 x hx]
    split <;> rfl
end
section
/-! make, kind, next -/
theorem ef_rng (x : Int32) : (x < 0 ∨ 3 < x) ∨ ∃ j : Nat, j < 4 ∧ x = nI j := by
  rcases pk_ix x (n := 4) (by omega) with h | h | h
  · exact Or.inl (Or.inl h)
  · refine Or.inl (Or.inr ?_)
    have e : (nI 4).toInt ≤ x.toInt := Int32.le_iff_toInt_le.mp h
    refine Int32.lt_iff_toInt_lt.mpr ?_
    have e1 : (nI 4).toInt = 4 := rfl
    have e2 : (3 : Int32).toInt = 3 := rfl
    omega
  · exact Or.inr h
theorem ef_rngN (x : Int32) : (x < 0 ∨ 99 < x) ∨ ∃ j : Nat, j < 100 ∧ x = nI j := by
  rcases pk_ix x (n := 100) (by omega) with h | h | h
  · exact Or.inl (Or.inl h)
  · refine Or.inl (Or.inr ?_)
    have e : (nI 100).toInt ≤ x.toInt := Int32.le_iff_toInt_le.mp h
    refine Int32.lt_iff_toInt_lt.mpr ?_
    have e1 : (nI 100).toInt = 100 := rfl
    have e2 : (99 : Int32).toInt = 99 := rfl
    omega
  · exact Or.inr h
theorem ef_make_bad {post : Int32 → St2 → Prop} {u : St2} {x0 x1 x2 x3 : Int32} (h : (x0 < 1 ∨ 3 < x0) ∨ (x1 < 0 ∨ 3 < x1) ∨ (x2 < 0 ∨ 99 < x2)) (Hp : post (-1) u) : wpX_make post u x0 x1 x2 x3 := by
  obtain ⟨rt, we, wt, a1, a2, a3, a4, a5, a6, a7, a8, a9, a10, a11, a12, a13, a14⟩ := u
  refine br_c (fun _ => Hp) (fun z1 => br_c (fun _ => Hp) (fun z2 => ?_))
  have h' := h.resolve_left (fun z => z.elim z1 z2)
  rcases ef_rng x1 with g | ⟨j, hj, rfl⟩
  · exact ef_hd_bad g (br_t (by rfl) Hp)
  · refine ef_hd_ok hj (br_f (by decide) (ef_nm_bad (h'.resolve_left (fun z => z.elim (nI_pos (by omega)) (nI_nlt (a := 3) (by omega) (by omega)))) (br_t (by rfl) Hp)))
theorem ef_make_no {post : Int32 → St2 → Prop} {u : St2} {p n : Nat} {K V : Nat → Nat} {H : Nat → Int32} {h j m : Nat} {x3 : Int32} (hu : ef_I p n K V H u) (hh : 1 ≤ h) (hh3 : h ≤ 3) (hj : j < 4) (hm : m < 100) (hn : H j = -1) (Hp : post (-3) u) : wpX_make post u (nI h) (nI j) (nI m) x3 := by
  have hq := hu
  obtain ⟨rt, we, wt, a1, a2, a3, a4, a5, a6, a7, a8, a9, a10, a11, a12, a13, a14⟩ := u
  exact br_f (nI_nlt (b := 1) hh (by omega)) (br_f (nI_nlt (a := 3) hh3 (by omega)) (ef_hd_ok hj (br_f (by decide) (ef_nm_ok hm (br_f (by decide) (ef_df_no hq hj hn (br_f (by decide) Hp)))))))
theorem ef_k1 (m : Nat) : (256 : Int32) * nI 0 + 1 + nI m = nI (1 + m) := by
  rw [show (256 : Int32) * nI 0 + 1 = nI 1 from rfl, nI_add]
theorem ef_Hset {a : Nat → Int32} {h : Nat} (hh : 1 ≤ h) (H : ∀ j, j < 4 → a j = ef_H 0 j) : ∀ j, j < 4 → upd a h (nI 1) j = ef_H h j := by
  intro j hj
  by_cases e : j = h
  · subst e
    rw [pk_us]
    show nI 1 = if j = 0 then nI 0 else if j = j then nI 1 else -1
    rw [if_neg (by omega), if_pos rfl]
  · rw [pk_un e, H j hj]
    show (if j = 0 then nI 0 else if j = 0 then nI 1 else -1) = if j = 0 then nI 0 else if j = h then nI 1 else -1
    by_cases e0 : j = 0
    · rw [if_pos e0, if_pos e0]
    · rw [if_neg e0, if_neg e0, if_neg e0, if_neg e]
theorem ef_m106 {post : Int32 → St2 → Prop} {rt we wt : Int32} {a1 a2 a3 a4 a5 a6 a7 a8 a9 a10 a11 a12 a13 a14 : Nat → Int32} {h m s : Nat} {x6 x7 z0 z1 z2 : Int32} (hu : ef_I 0 1 ef_K2 (ef_V2 1) (ef_H 0) (rt, we, wt, a1, a2, a3, a4, a5, a6, a7, a8, a9, a10, a11, a12, a13, a14)) (hh : 1 ≤ h) (hh3 : h ≤ 3) (hm : m < 100) (hs : s < 512) (h6 : x6 = nI 0) (h7 : x7 = nI 1) (hz : z1 + z0 = nI s) (hz2 : z2 = nI 256)
    (Hp : ∀ u', ef_I 1 3 (ef_K m 0) (ef_V s) (ef_H h) u' → post 0 u') : wX_make_106 post (nI h) (nI m) x6 x7 z0 z1 z2 rt we wt a1 a2 a3 a4 a5 a6 a7 a8 a9 a10 a11 a12 a13 a14 := by
  refine ef_putC (K' := ef_K2) (V' := ef_V2 s) hz2 hz hu (by omega) hs (by decide) rfl rfl rfl rfl (fun u1 hu1 => ?_)
  have hq1 := hu1
  obtain ⟨rt', we', wt', a1', a2', a3', a4', a5', a6', a7', a8', a9', a10', a11', a12', a13', a14'⟩ := u1
  refine ef_putM (i := 1) (K' := ef_K m 0) (V' := ef_V s) (k := 1 + m) (v := 1) (by rw [h6]; exact ef_k1 m) h7 hq1 (by omega) (by omega) (by omega) (fun j hj => ?_) (show 1 + m < 256 by omega) (fun j hj => ?_) rfl rfl rfl rfl (fun u2 hu2 => ?_)
  · have : j = 0 := by omega
    subst this
    show 0 < 1 + m
    omega
  · have : j = 0 := by omega
    subst this
    exact ⟨rfl, rfl⟩
  · obtain ⟨rt'', we'', wt'', a1'', a2'', a3'', a4'', a5'', a6'', a7'', a8'', a9'', a10'', a11'', a12'', a13'', a14''⟩ := u2
    obtain ⟨hp, hn, hr, hc, hl, hK, hV, hH, h7', h90, h91, c0, k0, l0, h5⟩ := hu2
    refine And.intro (pk_in h 4 (by omega)) (nm_r (e' := upd a11'' h (nI 1)) (by rw [nI_clamp (by omega), h7]; rfl) (Hp _ ?_))
    exact And.intro hp (And.intro hn (And.intro hr (And.intro hc (And.intro hl (And.intro hK (And.intro hV (And.intro (ef_Hset hh hH) (And.intro h7' (And.intro h90 (And.intro h91 (And.intro c0 (And.intro k0 (And.intro l0 h5)))))))))))))
theorem ef_make_ok {post : Int32 → St2 → Prop} {u : St2} {h m s : Nat} {x3 : Int32} (hu : ef_I 0 1 ef_K2 (ef_V2 1) (ef_H 0) u) (hh : 1 ≤ h) (hh3 : h ≤ 3) (hm : m < 100) (hs : s = if x3 = 0 then 2 else 1)
    (Hp : ∀ u', ef_I 1 3 (ef_K m 0) (ef_V s) (ef_H h) u' → post 0 u') : wpX_make post u (nI h) (nI 0) (nI m) x3 := by
  have hq := hu
  obtain ⟨rt, we, wt, a1, a2, a3, a4, a5, a6, a7, a8, a9, a10, a11, a12, a13, a14⟩ := u
  refine br_f (nI_nlt (b := 1) hh (by omega)) (br_f (nI_nlt (a := 3) hh3 (by omega)) (ef_hd_ok (by omega) (br_f (by decide) (ef_nm_ok hm (br_f (by decide) (ef_df (t := 0) (i := 0) (v := 1) hq (by omega) rfl (by omega) (by omega) rfl (fun j hj => absurd hj (by omega)) rfl (by omega) (fun u1 hu1 => ?_)))))))
  have hq1 := hu1
  obtain ⟨rt', we', wt', a1', a2', a3', a4', a5', a6', a7', a8', a9', a10', a11', a12', a13', a14'⟩ := u1
  obtain ⟨hp, hn, hr, hc, hl, hK, hV, hH, h7', h90, h91, c0, k0, l0, h5⟩ := hq1
  refine br_t (by decide) (And.intro (pk_in 0 4 (by omega)) (nm_r (e' := nI 0) (hH 0 (by omega)) (ef_get_f (k := 1 + m) (i := 1) (ef_k1 m) (by omega) hu1 (by omega) (fun j hj => ?_) (fun z => absurd z (by omega)) (fun u2 hu2 => ?_))))
  · have : j = 0 := by omega
    subst this
    show 0 < 1 + m
    omega
  · have hq2 := hu2
    obtain ⟨rt'', we'', wt'', a1'', a2'', a3'', a4'', a5'', a6'', a7'', a8'', a9'', a10'', a11'', a12'', a13'', a14''⟩ := u2
    refine br_t (by decide) (Exists.intro 1 (br_f (by decide) (ef_get_f (k := 256) (i := 1) (by rfl) (by omega) hq2 (by omega) (fun j hj => ?_) (fun z => absurd z (by omega)) (fun u3 hu3 => ?_))))
    · have : j = 0 := by omega
      subst this
      show 0 < 256
      omega
    · have hq3 := hu3
      obtain ⟨rt_3, we_3, wt_3, a1_3, a2_3, a3_3, a4_3, a5_3, a6_3, a7_3, a8_3, a9_3, a10_3, a11_3, a12_3, a13_3, a14_3⟩ := u3
      refine br_f (by decide) (br_t (by decide) (br_c (fun z => ?_) (fun z => ?_)))
      · rw [if_pos z] at hs
        subst hs
        exact ef_m106 (s := 2) hq3 hh hh3 hm (by omega) rfl rfl rfl rfl Hp
      · rw [if_neg z] at hs
        subst hs
        exact ef_m106 (s := 1) hq3 hh hh3 hm (by omega) rfl rfl rfl rfl Hp
theorem ef_kind_bad {post : Int32 → St2 → Prop} {u : St2} {x : Int32} (hx : x < 0 ∨ 3 < x) (Hp : post (-1) u) : wpX_kind post u x := by
  obtain ⟨rt, we, wt, a1, a2, a3, a4, a5, a6, a7, a8, a9, a10, a11, a12, a13, a14⟩ := u
  unfold wpX_kind
  exact ef_hd_bad hx (br_t (by rfl) Hp)
theorem ef_kind_no {post : Int32 → St2 → Prop} {u : St2} {p n : Nat} {K V : Nat → Nat} {H : Nat → Int32} {j : Nat} (hu : ef_I p n K V H u) (hj : j < 4) (hh : H j = -1) (Hp : post 0 u) : wpX_kind post u (nI j) := by
  obtain ⟨rt, we, wt, a1, a2, a3, a4, a5, a6, a7, a8, a9, a10, a11, a12, a13, a14⟩ := u
  obtain ⟨hp, hn, hr, hc, hl, hK, hV, hH, h7, h90, h91, c0, k0, l0, h5⟩ := hu
  unfold wpX_kind
  exact ef_hd_ok hj (br_f (by decide) (And.intro (pk_in j 4 hj) (br_f (by rw [nI_clamp (by omega), hH j hj, hh]; decide) Hp)))
theorem ef_kind {post : Int32 → St2 → Prop} {u : St2} {p n : Nat} {K V : Nat → Nat} {H : Nat → Int32} {j t i v : Nat} (hu : ef_I p n K V H u) (hj : j < 4) (hh : H j = nI t) (ht : t ≤ 1) (hi : i < n) (hk : K i = 256 * t) (h1 : ∀ j, j < i → K j < 256 * t) (hv : V i = v) (h4 : v < 4) (Hp : ∀ u', ef_I p n K V H u' → post (nI v) u') : wpX_kind post u (nI j) := by
  have hq := hu
  obtain ⟨rt, we, wt, a1, a2, a3, a4, a5, a6, a7, a8, a9, a10, a11, a12, a13, a14⟩ := u
  obtain ⟨hp, hn, hr, hc, hl, hK, hV, hH, h7, h90, h91, c0, k0, l0, h5⟩ := hq
  have e : a11 (nI j).toNatClampNeg = nI t := by rw [nI_clamp (by omega), hH j hj, hh]
  unfold wpX_kind
  refine ef_hd_ok hj (br_f (by decide) (And.intro (pk_in j 4 hj) (br_t (by rw [e]; exact nI_pos' (by omega)) (And.intro (pk_in j 4 hj) (ef_sort e hu hi hk h1 hv h4 (fun u' hu' => ?_))))))
  have g := Hp u' hu'
  obtain ⟨rt', we', wt', a1', a2', a3', a4', a5', a6', a7', a8', a9', a10', a11', a12', a13', a14'⟩ := u'
  exact g
theorem ef_next_bad {post : Int32 → St2 → Prop} {u : St2} {x y : Int32} (hx : x < 0 ∨ 3 < x) (Hp : post (-1) u) : wpX_next post u x y := by
  obtain ⟨rt, we, wt, a1, a2, a3, a4, a5, a6, a7, a8, a9, a10, a11, a12, a13, a14⟩ := u
  unfold wpX_next
  exact ef_hd_bad hx (br_t (by rfl) Hp)
theorem ef_next_no {post : Int32 → St2 → Prop} {u : St2} {p n : Nat} {K V : Nat → Nat} {H : Nat → Int32} {j : Nat} {y : Int32} (hu : ef_I p n K V H u) (hj : j < 4) (hh : H j = -1) (Hp : post (-3) u) : wpX_next post u (nI j) y := by
  have hq := hu
  obtain ⟨rt, we, wt, a1, a2, a3, a4, a5, a6, a7, a8, a9, a10, a11, a12, a13, a14⟩ := u
  unfold wpX_next
  exact ef_hd_ok hj (br_f (by decide) (ef_df_no hq hj hh (br_f (by decide) Hp)))
theorem ef_next_file {post : Int32 → St2 → Prop} {u : St2} {p n : Nat} {K V : Nat → Nat} {H : Nat → Int32} {j t i : Nat} {y : Int32} (hu : ef_I p n K V H u) (hj : j < 4) (hh : H j = nI t) (ht : t ≤ 1) (hi : i < n) (hk : K i = 256 * t) (h1 : ∀ j, j < i → K j < 256 * t) (hv : V i = 2) (Hp : ∀ u', ef_I p n K V H u' → post (-4) u') : wpX_next post u (nI j) y := by
  have hq := hu
  obtain ⟨rt, we, wt, a1, a2, a3, a4, a5, a6, a7, a8, a9, a10, a11, a12, a13, a14⟩ := u
  unfold wpX_next
  refine ef_hd_ok hj (br_f (by decide) (ef_df (v := 2) hq hj hh ht hi hk h1 hv (by omega) (fun u' hu' => ?_)))
  have g := Hp u' hu'
  obtain ⟨rt', we', wt', a1', a2', a3', a4', a5', a6', a7', a8', a9', a10', a11', a12', a13', a14'⟩ := u'
  exact br_f (by decide) g
theorem ef_next_big {post : Int32 → St2 → Prop} {u : St2} {p n : Nat} {K V : Nat → Nat} {H : Nat → Int32} {j t i : Nat} {y : Int32} (hu : ef_I p n K V H u) (hj : j < 4) (hh : H j = nI t) (ht : t ≤ 1) (hi : i < n) (hk : K i = 256 * t) (h1 : ∀ j, j < i → K j < 256 * t) (hv : V i = 1) (hy : ¬ y ≤ 98) (Hp : ∀ u', ef_I p n K V H u' → post (-3) u') : wpX_next post u (nI j) y := by
  have hq := hu
  obtain ⟨rt, we, wt, a1, a2, a3, a4, a5, a6, a7, a8, a9, a10, a11, a12, a13, a14⟩ := u
  unfold wpX_next
  refine ef_hd_ok hj (br_f (by decide) (ef_df (v := 1) hq hj hh ht hi hk h1 hv (by omega) (fun u' hu' => ?_)))
  have g := Hp u' hu'
  obtain ⟨rt', we', wt', a1', a2', a3', a4', a5', a6', a7', a8', a9', a10', a11', a12', a13', a14'⟩ := u'
  exact br_t (by decide) (br_f hy g)
theorem ef_n59 {post : Int32 → St2 → Prop} {rt we wt : Int32} {a1 a2 a3 a4 a5 a6 a7 a8 a9 a10 a11 a12 a13 a14 : Nat → Int32} {p n : Nat} {K V : Nat → Nat} {H : Nat → Int32} {t i k : Nat} {x4 z0 : Int32} (hx : x4 = nI (256 * t)) (hz : z0 = nI k) (hu : ef_I p n K V H (rt, we, wt, a1, a2, a3, a4, a5, a6, a7, a8, a9, a10, a11, a12, a13, a14)) (ht : t ≤ 1) (hk5 : k < 512) (hkt : 256 * t ≤ k) (hi : i ≤ n) (h1 : ∀ j, j < i → K j ≤ k) (h2 : i < n → k < K i)
    (Ha : i < n → K i < 256 * t + 128 → post (nI (K i - 256 * t - 1)) (rt, we, wt, a1, a2, a3, a4, a5, a6, a7, a8, a9, a10, a11, a12, a13, a14)) (Hb : (i < n → ¬ K i < 256 * t + 128) → post (-3) (rt, we, wt, a1, a2, a3, a4, a5, a6, a7, a8, a9, a10, a11, a12, a13, a14)) : wX_next_59 post x4 z0 rt we wt a1 a2 a3 a4 a5 a6 a7 a8 a9 a10 a11 a12 a13 a14 := by
  subst hx
  have hq := hu
  obtain ⟨hp, hn, hr, hc, hl, hK, hV, hH, h7, h90, h91, c0, k0, l0, h5⟩ := hq
  refine ef_nextKey (i := i) hz (by omega) hu hi h1 h2 (fun z => br_t (by decide) (Hb (fun g => absurd g (by omega)))) (fun z => ?_)
  have q1 := (hK i z).2
  have q2 := h2 z
  refine br_f (nI_pos (by omega)) (pk_lt (K i) (256 * t + 128) (fun g => ?_) (fun g => Hb (fun _ => by omega)) rfl (by rw [← nI_add]; rfl))
  refine ek_v (P := fun z => post z (rt, we, wt, a1, a2, a3, a4, a5, a6, a7, a8, a9, a10, a11, a12, a13, a14)) ?_ (Ha z g)
  rw [pk_sub (by omega)]
  exact pk_sub (a := K i - 256 * t) (b := 1) (by omega)
theorem ef_next {post : Int32 → St2 → Prop} {u : St2} {p n : Nat} {K V : Nat → Nat} {H : Nat → Int32} {j t i i' k : Nat} {y : Int32} (hu : ef_I p n K V H u) (hj : j < 4) (hh : H j = nI t) (ht : t ≤ 1) (hi : i < n) (hk : K i = 256 * t) (h1 : ∀ j, j < i → K j < 256 * t) (hv : V i = 1) (hy : y ≤ 98)
    (hc : (y < 0 ∧ k = 256 * t) ∨ ∃ c : Nat, c < 99 ∧ y = nI c ∧ k = 256 * t + 1 + c)
    (hi' : i' ≤ n) (h1' : ∀ j, j < i' → K j ≤ k) (h2' : i' < n → k < K i')
    (Ha : ∀ u', ef_I p n K V H u' → i' < n → K i' < 256 * t + 128 → post (nI (K i' - 256 * t - 1)) u') (Hb : ∀ u', ef_I p n K V H u' → (i' < n → ¬ K i' < 256 * t + 128) → post (-3) u') : wpX_next post u (nI j) y := by
  have hq := hu
  obtain ⟨rt, we, wt, a1, a2, a3, a4, a5, a6, a7, a8, a9, a10, a11, a12, a13, a14⟩ := u
  unfold wpX_next
  refine ef_hd_ok hj (br_f (by decide) (ef_df (v := 1) hq hj hh ht hi hk h1 hv (by omega) (fun u' hu' => ?_)))
  have ga := Ha u' hu'
  have gb := Hb u' hu'
  obtain ⟨rt', we', wt', a1', a2', a3', a4', a5', a6', a7', a8', a9', a10', a11', a12', a13', a14'⟩ := u'
  have hq' := hu'
  obtain ⟨hp, hn, hr, hc', hl, hK, hV, hH, h7, h90, h91, c0, k0, l0, h5⟩ := hq'
  refine br_t (by decide) (br_t hy (And.intro (pk_in j 4 hj) (nm_r (e' := nI (256 * t)) (by rw [nI_clamp (by omega), hH j hj, hh, ef_k256]) ?_)))
  rcases hc with ⟨y0, rfl⟩ | ⟨c, hc9, rfl, rfl⟩
  · exact br_f (Int32.not_le.mpr y0) (ef_n59 (i := i') rfl rfl hu' ht (by omega) (by omega) hi' h1' h2' ga gb)
  · exact br_t (nI_pos' (by omega)) (ef_n59 (i := i') rfl (by rw [nI_1, nI_add]) hu' ht (by omega) (by omega) hi' h1' h2' ga gb)
end
section
/-! blocks of a tree of one leaf: at most its last key is a stretch, of one block at place 0 -/
theorem ef_b23 {post : Int64 → St2 → Prop} {J : Int64 → Int32 → Int32 → Int32 → (Nat → Int32) → (Nat → Int32) → (Nat → Int32) → (Nat → Int32) → (Nat → Int32) → (Nat → Int32) → (Nat → Int32) → (Nat → Int32) → (Nat → Int32) → (Nat → Int32) → (Nat → Int32) → (Nat → Int32) → (Nat → Int32) → (Nat → Int32) → Prop} {rt we wt : Int32} {a1 a2 a3 a4 a5 a6 a7 a8 a9 a10 a11 a12 a13 a14 : Nat → Int32} {p n m : Nat} (hp : p < 110) (hn : n ≤ 5) (hc : a1 p = nI n) (hm : m ≤ n) (hnm : n ≤ m + 1) (hK : ∀ j, j < m → ¬ 128 ≤ a2 (5 * p + j) &&& 255) (hS : m < n → 128 ≤ a2 (5 * p + m) &&& 255 ∧ a3 (5 * p + m) = nI 1)
    (H : J (lN (n - m)) rt we wt a1 a2 a3 a4 a5 a6 a7 a8 a9 a10 a11 a12 a13 a14) : ∃ f, wX_blocksIn_23 post J (nI p) rt we wt a1 a2 a3 a4 a5 a6 a7 a8 a9 a10 a11 a12 a13 a14 f 0 0 :=
  pk_loop (fun f x s => wX_blocksIn_23 post J (nI p) rt we wt a1 a2 a3 a4 a5 a6 a7 a8 a9 a10 a11 a12 a13 a14 f s (nI x)) (fun x s => s = lN (x - m)) n 0 (0 : Int64) (by omega) (by rw [Nat.zero_sub]; rfl)
    (fun f s h => And.intro (pk_in p 110 hp) (pk_le n n (fun _ => by rw [h]; exact H) (fun z => absurd z (by omega)) (by rw [nI_clamp (by omega), hc])))
    (fun f x s hx h hw => And.intro (pk_in p 110 hp) (pk_le n x (fun z => absurd z (by omega)) (fun _ => And.intro (pk_in (5 * p + x) 550 (by omega) (ef_k5 p x)) (by
      by_cases e : x < m
      · exact br_f (by rw [ef_c5 hp (by omega)]; exact hK x e) (nm_r (nI_1 x) (hw s (by rw [h, show x - m = 0 by omega, show x + 1 - m = 0 by omega])))
      · have e' : x = m := by omega
        subst e'
        exact br_t (by rw [ef_c5 hp (by omega)]; exact (hS hx).1) (And.intro (pk_in (5 * p + x) 550 (by omega) (ef_k5 p x)) (nm_r (e' := nI 1) (by rw [ef_c5 hp (by omega)]; exact (hS hx).2) (nm_r (e' := lN 1) (by rw [h, Nat.sub_self]; decide) (nm_r (nI_1 x) (hw (lN 1) (by rw [show x + 1 - x = 1 by omega]))))))))
      (by rw [nI_clamp (by omega), hc])))
theorem ef_blocks {post : Int64 → St2 → Prop} {rt we wt : Int32} {a1 a2 a3 a4 a5 a6 a7 a8 a9 a10 a11 a12 a13 a14 : Nat → Int32} {p n m : Nat} {x : Int32} (hx : x = nI p) (hp : p < 110) (hl : a4 (6 * p) = -1) (hn : n ≤ 5) (hc : a1 p = nI n) (hm : m ≤ n) (hnm : n ≤ m + 1) (hK : ∀ j, j < m → ¬ 128 ≤ a2 (5 * p + j) &&& 255) (hS : m < n → 128 ≤ a2 (5 * p + m) &&& 255 ∧ a3 (5 * p + m) = nI 1)
    (H : ∀ b14, post (lN (n - m)) (rt, we, 0, a1, a2, a3, a4, a5, a6, a7, a8, a9, a10, a11, a12, a13, b14)) : wpX_blocksIn post (rt, we, wt, a1, a2, a3, a4, a5, a6, a7, a8, a9, a10, a11, a12, a13, a14) x := by
  subst hx
  exact br_t (nI_pos' (by omega)) (nm_r (e' := upd a14 0 (nI p)) (by rw [ef_b8 p (by omega)]) (Exists.intro 2 (br_f (by decide) (ef_walk hp hl pk_us (ef_b23 hp hn hc hm hnm hK hS (br_t (by decide) (H _)))))))
theorem ef_and255 {k : Nat} (hk : k < 512) : nI k &&& 255 = nI (k % 256) := pk_andN (by omega) 8 (by decide)
/-- the blocks of the present tree -/
theorem ef_blkR {post : Int64 → St2 → Prop} {p n m : Nat} {K V : Nat → Nat} {H : Nat → Int32} {u : St2} {x : Int32} (hu : ef_I p n K V H u) (hx : x = nI p) (hm : m ≤ n) (hnm : n ≤ m + 1) (hK : ∀ j, j < m → K j % 256 < 128) (hS : m < n → 128 ≤ K m % 256 ∧ V m = 1) (Hp : ∀ u', ef_I p n K V H u' → post (lN (n - m)) u') : wpX_blocksIn post u x := by
  have hq := hu
  obtain ⟨rt, we, wt, a1, a2, a3, a4, a5, a6, a7, a8, a9, a10, a11, a12, a13, a14⟩ := u
  obtain ⟨hp, hn, hr, hc, hl, hK', hV, hH, h7, h90, h91, c0, k0, l0, h5⟩ := hq
  refine ef_blocks hx (by omega) hl (by omega) hc hm hnm (fun j hj => ?_) (fun z => ?_) (fun b14 => Hp _ hu)
  · rw [(hK' j (by omega)).1, ef_and255 (hK' j (by omega)).2]
    exact nI_ge (b := 128) (hK j hj) (by decide)
  · rw [(hK' m z).1, ef_and255 (hK' m z).2, (hV m z).1, (hS z).2]
    exact ⟨nI_le (a := 128) (hS z).1 (by omega), rfl⟩
/-- the blocks of the saved tree: none -/
theorem ef_blkS {post : Int64 → St2 → Prop} {p n : Nat} {K V : Nat → Nat} {H : Nat → Int32} {u : St2} {x : Int32} (hu : ef_I p n K V H u) (hx : x = nI 0) (Hp : ∀ u', ef_I p n K V H u' → post (lN 0) u') : wpX_blocksIn post u x := by
  have hq := hu
  obtain ⟨rt, we, wt, a1, a2, a3, a4, a5, a6, a7, a8, a9, a10, a11, a12, a13, a14⟩ := u
  obtain ⟨hp, hn, hr, hc, hl, hK', hV, hH, h7, h90, h91, c0, k0, l0, h5⟩ := hq
  refine ef_blocks (p := 0) (n := 1) (m := 1) hx (by omega) l0 (by omega) c0 (by omega) (by omega) (fun j hj => ?_) (fun z => absurd z (by omega)) (fun b14 => Hp _ hu)
  have : j = 0 := by omega
  subst this
  rw [show a2 (5 * 0 + 0) = nI 0 from k0]
  decide
theorem ef_bit : ∀ v, v < 2 → ∀ x, x < 48 → nI (min x v) + ((((lN v).toUInt64 >>> ((nI x).toInt64.toUInt64 &&& Int64.toUInt64 63)).toInt64) &&& 1).toInt32 = nI (min (x + 1) v) := by decide +kernel
theorem ef_bits {post : Int32 → Prop} {rt we wt : Int32} {a1 a2 a3 a4 a5 a6 a7 a8 a9 a10 a11 a12 a13 a14 : Nat → Int32} {v : Nat} {y : Int64} (hy : y = lN v) (hv : v < 2) (H : post (nI v)) : wpX_bitsIn post (rt, we, wt, a1, a2, a3, a4, a5, a6, a7, a8, a9, a10, a11, a12, a13, a14) y := by
  subst hy
  exact pk_loop (fun f x s => wX_bitsIn_5 post (lN v) rt we wt a1 a2 a3 a4 a5 a6 a7 a8 a9 a10 a11 a12 a13 a14 f s (nI x)) (fun x s => s = nI (min x v)) 48 0 (0 : Int32) (by omega) (by rw [Nat.zero_min]; rfl)
    (fun f s h => pk_le 48 48 (fun _ => by rw [h, show min 48 v = v by omega]; exact H) (fun z => absurd z (by omega)))
    (fun f x s hx h hw => pk_le 48 x (fun z => absurd z (by omega)) (fun _ => nm_r (e' := nI (min (x + 1) v)) (by rw [h]; exact ef_bit v hv x hx) (nm_r (nI_1 x) (hw _ rfl))))
theorem ef_copies {post : Int32 → St2 → Prop} {p n m : Nat} {K V : Nat → Nat} {H : Nat → Int32} {u : St2} (hu : ef_I p n K V H u) (hm : m ≤ n) (hnm : n ≤ m + 1) (hK : ∀ j, j < m → K j % 256 < 128) (hS : m < n → 128 ≤ K m % 256 ∧ V m = 1) (Hp : ∀ u', ef_I p n K V H u' → post (nI (n - m)) u') : wpX_copies post u := by
  have hq := hu
  obtain ⟨rt, we, wt, a1, a2, a3, a4, a5, a6, a7, a8, a9, a10, a11, a12, a13, a14⟩ := u
  unfold wpX_copies
  refine ef_valid hq (ef_blkR (m := m) hq hq.2.2.1 hm hnm hK hS (fun u1 hu1 => ?_))
  obtain ⟨rt', we', wt', a1', a2', a3', a4', a5', a6', a7', a8', a9', a10', a11', a12', a13', a14'⟩ := u1
  have hq1 := hu1
  obtain ⟨hp, hn, hr, hc, hl, hK', hV, hH, h7, h90, h91, c0, k0, l0, h5⟩ := hq1
  refine And.intro (pk_in 0 2 (by omega)) (ef_blkS hu1 h7 (fun u2 hu2 => ?_))
  have g := Hp u2 hu2
  obtain ⟨rt'', we'', wt'', a1'', a2'', a3'', a4'', a5'', a6'', a7'', a8'', a9'', a10'', a11'', a12'', a13'', a14''⟩ := u2
  refine nm_r (e' := lN (n - m)) ?_ (ef_bits (v := n - m) rfl (by omega) g)
  have h01 : n - m = 0 ∨ n - m = 1 := by omega
  rcases h01 with e | e <;> rw [e] <;> decide
/-! write: the first block of the file -/
theorem ef_pin {post : St2 → Prop} {u : St2} {H : Nat → Int32} {m b s : Nat} {x y : Int32} (hu : ef_I 1 3 (ef_K m 0) (ef_V s) H u) (hm : m < 100) (hb : b < 8) (hx : x = nI 1) (hy : y = nI b) (Hp : ∀ u', ef_I 1 4 (ef_K m b) (ef_V s) H u' → post u') : wpX_putIn post u x y 0 (-1) (-1) := by
  subst hx hy
  have hq := hu
  obtain ⟨rt, we, wt, a1, a2, a3, a4, a5, a6, a7, a8, a9, a10, a11, a12, a13, a14⟩ := u
  refine nm_r (e' := nI (384 + b)) (by rw [← nI_add]; rfl) (br_f (by decide) (br_t (by decide) ?_))
  unfold wX_putIn_106
  refine ef_putE (n := 3) (K' := ef_K m b) (V' := ef_V s) (k := 384 + b) (v := 1) rfl rfl hq (by omega) (by omega) (by omega) (fun j hj => ?_) (fun j hj => ?_) rfl rfl (fun u1 hu1 => ?_)
  · exact co_3 (P := fun j => ef_K m 0 j < 384 + b) (show 0 < 384 + b by omega) (show 1 + m < 384 + b by omega) (show 256 < 384 + b by omega) hj
  · exact co_3 (P := fun j => ef_K m b j = ef_K m 0 j ∧ ef_V s j = ef_V s j) ⟨rfl, rfl⟩ ⟨rfl, rfl⟩ ⟨rfl, rfl⟩ hj
  · have g := Hp u1 hu1
    obtain ⟨rt', we', wt', a1', a2', a3', a4', a5', a6', a7', a8', a9', a10', a11', a12', a13', a14'⟩ := u1
    exact g
theorem ef_m135 {post : Int32 → St2 → Prop} {rt we wt : Int32} {a1 a2 a3 a4 a5 a6 a7 a8 a9 a10 a11 a12 a13 a14 : Nat → Int32} {H : Nat → Int32} {m b s : Nat} {x y : Int32} (hu : ef_I 1 3 (ef_K m 0) (ef_V s) H (rt, we, wt, a1, a2, a3, a4, a5, a6, a7, a8, a9, a10, a11, a12, a13, a14)) (hm : m < 100) (hb : b < 8) (hx : x = nI 1) (hy : y = nI b) (Hp : ∀ u', ef_I 1 4 (ef_K m b) (ef_V s) H u' → post 0 u') : ∃ f, wX_moveBlock_135 post x y (-1) (-1) (-1) 0 rt we wt f 0 a1 a2 a3 a4 a5 a6 a7 a8 a9 a10 a11 a12 a13 a14 :=
  pk_loop (fun f x9 s => wX_moveBlock_135 post x y (-1) (-1) (-1) 0 rt we wt f (nI x9) a1 a2 a3 a4 a5 a6 a7 a8 a9 s a11 a12 a13 a14) (fun _ _ => True) 4 0 a10 (by omega) trivial
    (fun f s _ => pk_le 4 4 (fun _ => ef_pin (u := (rt, we, wt, a1, a2, a3, a4, a5, a6, a7, a8, a9, s, a11, a12, a13, a14)) hu hm hb hx hy (fun u1 hu1 => by
      have g := Hp u1 hu1
      obtain ⟨rt', we', wt', a1', a2', a3', a4', a5', a6', a7', a8', a9', a10', a11', a12', a13', a14'⟩ := u1
      exact g)) (fun z => absurd z (by omega)))
    (fun f x9 s hx9 _ hw => pk_le 4 x9 (fun z => absurd z (by omega)) (fun _ => br_t (by decide) (And.intro (pk_in x9 192 (by omega) (by rw [show (4 : Int32) * 0 = nI 0 from rfl, nI_add, Nat.zero_add])) (nm_e (nm_r (nI_1 x9) (hw _ trivial))))))
theorem ef_m46 {post : Int32 → St2 → Prop} {rt we wt : Int32} {a1 a2 a3 a4 a5 a6 a7 a8 a9 a10 a11 a12 a13 a14 : Nat → Int32} {H : Nat → Int32} {m b s : Nat} {x y : Int32} (hu : ef_I 1 3 (ef_K m 0) (ef_V s) H (rt, we, wt, a1, a2, a3, a4, a5, a6, a7, a8, a9, a10, a11, a12, a13, a14)) (hm : m < 100) (hb : b < 8) (hx : x = nI 1) (hy : y = nI b) (Hp : ∀ u', ef_I 1 4 (ef_K m b) (ef_V s) H u' → post 0 u') : wX_moveBlock_46 post x y (-1) (lN 0) (-1) (-1) rt we wt a1 a2 a3 a4 a5 a6 a7 a8 a9 a10 a11 a12 a13 a14 :=
  br_t (by decide) (br_t (by decide) (Exists.intro 1 (br_t (by decide) (ef_m135 hu hm hb hx hy Hp))))
theorem ef_K384 {m : Nat} (hm : m < 100) : ∀ j, j < 2 + 1 → ef_K m 0 j < 256 * 1 + 128 := fun j hj => co_3 (P := fun j => ef_K m 0 j < 256 * 1 + 128) (show 0 < 384 by omega) (show 1 + m < 384 by omega) (show 256 < 384 by omega) hj
theorem ef_m26 {post : Int32 → St2 → Prop} {rt we wt : Int32} {a1 a2 a3 a4 a5 a6 a7 a8 a9 a10 a11 a12 a13 a14 : Nat → Int32} {H : Nat → Int32} {m b s : Nat} {x y : Int32} (hu : ef_I 1 3 (ef_K m 0) (ef_V s) H (rt, we, wt, a1, a2, a3, a4, a5, a6, a7, a8, a9, a10, a11, a12, a13, a14)) (hm : m < 100) (hb : b < 8) (hx : x = nI 1) (hy : y = nI b) (Hp : ∀ u', ef_I 1 4 (ef_K m b) (ef_V s) H u' → post 0 u') : wX_moveBlock_26 post x y (-1) (lN 0) (-1) rt we wt a1 a2 a3 a4 a5 a6 a7 a8 a9 a10 a11 a12 a13 a14 :=
  pk_le 7 b (fun z => ef_m46 hu hm hb hx hy Hp) (fun z => ef_place (n := 2) hx (b := b + 1) (by rw [hy, nI_1]) (by omega) (by omega) hu (ef_K384 hm) (ef_m46 hu hm hb hx hy Hp)) rfl hy
theorem ef_m10 {post : Int32 → St2 → Prop} {rt we wt : Int32} {a1 a2 a3 a4 a5 a6 a7 a8 a9 a10 a11 a12 a13 a14 : Nat → Int32} {H : Nat → Int32} {m b s : Nat} {x y : Int32} (hu : ef_I 1 3 (ef_K m 0) (ef_V s) H (rt, we, wt, a1, a2, a3, a4, a5, a6, a7, a8, a9, a10, a11, a12, a13, a14)) (hm : m < 100) (hb : b < 8) (hx : x = nI 1) (hy : y = nI b) (Hp : ∀ u', ef_I 1 4 (ef_K m b) (ef_V s) H u' → post 0 u') : wX_moveBlock_10 post x y (-1) (lN 0) rt we wt a1 a2 a3 a4 a5 a6 a7 a8 a9 a10 a11 a12 a13 a14 :=
  pk_le b 0 (fun z => ef_m26 hu hm hb hx hy Hp) (fun z => ef_place (n := 2) hx (b := b - 1) (by rw [hy]; exact pk_sub (b := 1) (by omega)) (by omega) (by omega) hu (ef_K384 hm) (ef_m26 hu hm hb hx hy Hp)) hy rfl
theorem ef_and3 : ∀ c, c < 32 → (4 : Int32) * 0 + (nI c &&& 3) = nI (c % 4) := by decide +kernel
theorem ef_w135 {post : Int32 → St2 → Prop} {rt we wt : Int32} {a1 a2 a3 a4 a5 a6 a7 a8 a9 a10 a11 a12 a13 a14 : Nat → Int32} {p n : Nat} {K V : Nat → Nat} {H : Nat → Int32} {c : Nat} {z : Int32} (hu : ef_I p n K V H (rt, we, wt, a1, a2, a3, a4, a5, a6, a7, a8, a9, a10, a11, a12, a13, a14)) (hc : c < 32) (Hp : ∀ u', ef_I p n K V H u' → post 0 u') : wX_write_135 post (nI c) z 0 rt we wt a1 a2 a3 a4 a5 a6 a7 a8 a9 a10 a11 a12 a13 a14 :=
  And.intro (pk_in (c % 4) 192 (by omega) (ef_and3 c hc)) (fun b10 _ => Hp (rt, we, wt, a1, a2, a3, a4, a5, a6, a7, a8, a9, b10, a11, a12, a13, a14) hu)
theorem ef_w90 {post : Int32 → St2 → Prop} {rt we wt : Int32} {a1 a2 a3 a4 a5 a6 a7 a8 a9 a10 a11 a12 a13 a14 : Nat → Int32} {H : Nat → Int32} {m c j s : Nat} {z y : Int32} (hu : ef_I 1 3 (ef_K m 0) (ef_V s) H (rt, we, wt, a1, a2, a3, a4, a5, a6, a7, a8, a9, a10, a11, a12, a13, a14)) (hm : m < 100) (hc : c < 32) (hj : j < 4) (hh : H j = nI 1) (hy : y = nI (c / 4)) (Hp : ∀ u', ef_I 1 4 (ef_K m (c / 4)) (ef_V s) H u' → post 0 u') : wX_write_90 post (nI j) (nI c) z y (-1) (lN 0) rt we wt a1 a2 a3 a4 a5 a6 a7 a8 a9 a10 a11 a12 a13 a14 := by
  unfold wX_write_90
  refine ef_blkR (m := 3) hu hu.2.2.1 (by omega) (by omega) (fun j hj => ?_) (fun z => absurd z (by omega)) (fun u1 hu1 => ?_)
  · exact co_3 (P := fun j => ef_K m 0 j % 256 < 128) (show 0 % 256 < 128 by omega) (show (1 + m) % 256 < 128 by omega) (show 256 % 256 < 128 by omega) hj
  · obtain ⟨rt', we', wt', a1', a2', a3', a4', a5', a6', a7', a8', a9', a10', a11', a12', a13', a14'⟩ := u1
    have hq1 := hu1
    obtain ⟨hp, hn, hr, hc', hl, hK', hV, hH, h7, h90, h91, c0, k0, l0, h5⟩ := hq1
    refine nm_r (e' := lN 0) (by decide) (ef_bits (v := 0) rfl (by omega) (br_t (by decide) (And.intro (pk_in j 4 hj) (br_t (by decide) (ef_m10 hu1 hm (by omega) (by rw [nI_clamp (by omega), hH j hj, hh]) hy (fun u2 hu2 => ?_))))))
    obtain ⟨rt'', we'', wt'', a1'', a2'', a3'', a4'', a5'', a6'', a7'', a8'', a9'', a10'', a11'', a12'', a13'', a14''⟩ := u2
    exact ef_w135 hu2 hc Hp
theorem ef_write_bad {post : Int32 → St2 → Prop} {u : St2} {x y z : Int32} (hx : x < 0 ∨ 3 < x) (Hp : post (-1) u) : wpX_write post u x y z := by
  obtain ⟨rt, we, wt, a1, a2, a3, a4, a5, a6, a7, a8, a9, a10, a11, a12, a13, a14⟩ := u
  unfold wpX_write
  exact ef_hd_bad hx (br_t (by rfl) Hp)
theorem ef_write_bad2 {post : Int32 → St2 → Prop} {u : St2} {j : Nat} {y z : Int32} (hj : j < 4) (hy : y < 0 ∨ ¬ y ≤ 31) (Hp : post (-1) u) : wpX_write post u (nI j) y z := by
  obtain ⟨rt, we, wt, a1, a2, a3, a4, a5, a6, a7, a8, a9, a10, a11, a12, a13, a14⟩ := u
  unfold wpX_write
  exact ef_hd_ok hj (br_f (by decide) (br_c (fun _ => Hp) (fun g => br_f (hy.resolve_left g) Hp)))
theorem ef_write_no {post : Int32 → St2 → Prop} {u : St2} {p n : Nat} {K V : Nat → Nat} {H : Nat → Int32} {j c : Nat} {z : Int32} (hu : ef_I p n K V H u) (hj : j < 4) (hc : c < 32) (hh : H j = -1) (Hp : post (-3) u) : wpX_write post u (nI j) (nI c) z := by
  have hq := hu
  obtain ⟨rt, we, wt, a1, a2, a3, a4, a5, a6, a7, a8, a9, a10, a11, a12, a13, a14⟩ := u
  unfold wpX_write
  exact ef_hd_ok hj (br_f (by decide) (br_f (nI_pos (by omega)) (br_t (nI_le (b := 31) (by omega) (by omega)) (ef_ff_no hq hj hh (br_f (by decide) Hp)))))
theorem ef_write_dir {post : Int32 → St2 → Prop} {u : St2} {p n : Nat} {K V : Nat → Nat} {H : Nat → Int32} {j t i c : Nat} {z : Int32} (hu : ef_I p n K V H u) (hj : j < 4) (hc : c < 32) (hh : H j = nI t) (ht : t ≤ 1) (hi : i < n) (hk : K i = 256 * t) (h1 : ∀ j, j < i → K j < 256 * t) (hv : V i = 1) (Hp : ∀ u', ef_I p n K V H u' → post (-4) u') : wpX_write post u (nI j) (nI c) z := by
  have hq := hu
  obtain ⟨rt, we, wt, a1, a2, a3, a4, a5, a6, a7, a8, a9, a10, a11, a12, a13, a14⟩ := u
  unfold wpX_write
  refine ef_hd_ok hj (br_f (by decide) (br_f (nI_pos (by omega)) (br_t (nI_le (b := 31) (by omega) (by omega)) (ef_ff (v := 1) hq hj hh ht hi hk h1 hv (by omega) (fun u1 hu1 => ?_)))))
  have g := Hp u1 hu1
  obtain ⟨rt', we', wt', a1', a2', a3', a4', a5', a6', a7', a8', a9', a10', a11', a12', a13', a14'⟩ := u1
  exact br_f (by decide) g
theorem ef_write_file {post : Int32 → St2 → Prop} {u : St2} {H : Nat → Int32} {m j c : Nat} {z : Int32} (hu : ef_I 1 3 (ef_K m 0) (ef_V 2) H u) (hm : m < 100) (hj : j < 4) (hc : c < 32) (hh : H j = nI 1) (Hp : ∀ u', ef_I 1 4 (ef_K m (c / 4)) (ef_V 2) H u' → post 0 u') : wpX_write post u (nI j) (nI c) z := by
  have hq := hu
  obtain ⟨rt, we, wt, a1, a2, a3, a4, a5, a6, a7, a8, a9, a10, a11, a12, a13, a14⟩ := u
  unfold wpX_write
  refine ef_hd_ok hj (br_f (by decide) (br_f (nI_pos (by omega)) (br_t (nI_le (b := 31) (by omega) (by omega)) (ef_ff (t := 1) (i := 2) (v := 2) hq hj hh (by omega) (by omega) rfl (fun j hj => ?_) rfl (by omega) (fun u1 hu1 => ?_)))))
  · exact co_2 (P := fun j => ef_K m 0 j < 256 * 1) (show 0 < 256 by omega) (show 1 + m < 256 by omega) hj
  obtain ⟨rt', we', wt', a1', a2', a3', a4', a5', a6', a7', a8', a9', a10', a11', a12', a13', a14'⟩ := u1
  have hq1 := hu1
  obtain ⟨hp, hn, hr, hc', hl, hK', hV, hH, h7, h90, h91, c0, k0, l0, h5⟩ := hq1
  refine br_t (by decide) (nm_r (e' := nI (c / 4)) (by rw [pk_shrN (by omega) _ 2 (by decide)]) (And.intro (pk_in j 4 hj) (ef_place (n := 2) (t := 1) (b := c / 4) (by rw [nI_clamp (by omega), hH j hj, hh]) rfl (by omega) (by omega) hu1 (ef_K384 hm) (ef_valid hu1 (And.intro (pk_in 0 2 (by omega)) (ef_blkS hu1 h7 (fun u2 hu2 => ?_)))))))
  obtain ⟨rt'', we'', wt'', a1'', a2'', a3'', a4'', a5'', a6'', a7'', a8'', a9'', a10'', a11'', a12'', a13'', a14''⟩ := u2
  exact br_t (by decide) (ef_w90 hu2 hm hc hj hh rfl Hp)
/-! erase -/
theorem ef_erase_bad {post : Int32 → St2 → Prop} {u : St2} {x y : Int32} (h : (x < 0 ∨ 3 < x) ∨ (y < 0 ∨ 99 < y)) (Hp : post (-1) u) : wpX_erase post u x y := by
  obtain ⟨rt, we, wt, a1, a2, a3, a4, a5, a6, a7, a8, a9, a10, a11, a12, a13, a14⟩ := u
  unfold wpX_erase
  rcases ef_rng x with g | ⟨j, hj, rfl⟩
  · exact ef_hd_bad g (br_t (by rfl) Hp)
  · exact ef_hd_ok hj (br_f (by decide) (ef_nm_bad (h.resolve_left (fun z => z.elim (nI_pos (by omega)) (nI_nlt (a := 3) (by omega) (by omega)))) (br_t (by rfl) Hp)))
theorem ef_erase_no {post : Int32 → St2 → Prop} {u : St2} {p n : Nat} {K V : Nat → Nat} {H : Nat → Int32} {j m : Nat} (hu : ef_I p n K V H u) (hj : j < 4) (hm : m < 100) (hh : H j = -1) (Hp : post (-3) u) : wpX_erase post u (nI j) (nI m) := by
  have hq := hu
  obtain ⟨rt, we, wt, a1, a2, a3, a4, a5, a6, a7, a8, a9, a10, a11, a12, a13, a14⟩ := u
  unfold wpX_erase
  exact ef_hd_ok hj (br_f (by decide) (ef_nm_ok hm (br_f (by decide) (ef_df_no hq hj hh (br_f (by decide) Hp)))))
theorem ef_erase_none {post : Int32 → St2 → Prop} {u : St2} {m : Nat} (hu : ef_I 0 1 ef_K2 (ef_V2 1) (ef_H 0) u) (hm : m < 100) (Hp : ∀ u', post (-3) u') : wpX_erase post u (nI 0) (nI m) := by
  have hq := hu
  obtain ⟨rt, we, wt, a1, a2, a3, a4, a5, a6, a7, a8, a9, a10, a11, a12, a13, a14⟩ := u
  unfold wpX_erase
  refine ef_hd_ok (by omega) (br_f (by decide) (ef_nm_ok hm (br_f (by decide) (ef_df (t := 0) (i := 0) (v := 1) hq (by omega) rfl (by omega) (by omega) rfl (fun j hj => absurd hj (by omega)) rfl (by omega) (fun u1 hu1 => ?_)))))
  have hq1 := hu1
  obtain ⟨rt', we', wt', a1', a2', a3', a4', a5', a6', a7', a8', a9', a10', a11', a12', a13', a14'⟩ := u1
  obtain ⟨hp, hn, hr, hc, hl, hK, hV, hH, h7', h90, h91, c0, k0, l0, h5⟩ := hq1
  refine br_t (by decide) (And.intro (pk_in 0 4 (by omega)) (nm_r (e' := nI 0) (hH 0 (by omega)) (ef_get_f (k := 1 + m) (i := 1) (ef_k1 m) (by omega) hu1 (by omega) (fun j hj => ?_) (fun z => absurd z (by omega)) (fun u2 hu2 => ?_))))
  · have : j = 0 := by omega
    subst this
    show 0 < 1 + m
    omega
  · obtain ⟨rt'', we'', wt'', a1'', a2'', a3'', a4'', a5'', a6'', a7'', a8'', a9'', a10'', a11'', a12'', a13'', a14''⟩ := u2
    exact br_f (by decide) (Hp _)
theorem ef_erase_busy {post : Int32 → St2 → Prop} {u : St2} {n m b s h : Nat} (hu : ef_I 1 (n + 3) (ef_K m b) (ef_V s) (ef_H h) u) (hm : m < 100) (hh : 1 ≤ h) (hh3 : h ≤ 3) (Hp : ∀ u', post (-6) u') : wpX_erase post u (nI 0) (nI m) := by
  have hq := hu
  obtain ⟨rt, we, wt, a1, a2, a3, a4, a5, a6, a7, a8, a9, a10, a11, a12, a13, a14⟩ := u
  unfold wpX_erase
  refine ef_hd_ok (by omega) (br_f (by decide) (ef_nm_ok hm (br_f (by decide) (ef_df (t := 0) (i := 0) (v := 1) hq (by omega) rfl (by omega) (by omega) rfl (fun j hj => absurd hj (by omega)) rfl (by omega) (fun u1 hu1 => ?_)))))
  have hq1 := hu1
  obtain ⟨rt', we', wt', a1', a2', a3', a4', a5', a6', a7', a8', a9', a10', a11', a12', a13', a14'⟩ := u1
  obtain ⟨hp, hn, hr, hc, hl, hK, hV, hH, h7', h90, h91, c0, k0, l0, h5⟩ := hq1
  refine br_t (by decide) (And.intro (pk_in 0 4 (by omega)) (nm_r (e' := nI 0) (hH 0 (by omega)) (ef_get_t (k := 1 + m) (i := 1) (ef_k1 m) hu1 (by omega) rfl (fun j hj => ?_) (fun u2 hu2 => ?_))))
  · have : j = 0 := by omega
    subst this
    show 0 < 1 + m
    omega
  · obtain ⟨rt'', we'', wt'', a1'', a2'', a3'', a4'', a5'', a6'', a7'', a8'', a9'', a10'', a11'', a12'', a13'', a14''⟩ := u2
    obtain ⟨hp, hn, hr, hc, hl, hK, hV, hH, h7', h90, h91, c0, k0, l0, h5⟩ := hu2
    refine br_t (show (0 : Int32) ≤ nI 1 by decide) ?_
    exact pk_loop (σ := Unit) (fun f x _ => wX_erase_65 post (nI m) (nI 0) (nI 1) rt'' we'' wt'' a1'' a2'' a3'' a4'' a5'' a6'' a7'' a8'' a9'' a10'' a11'' a12'' a13'' a14'' f (nI x)) (fun _ _ => True) h 0 () (by omega) trivial
      (fun f _ _ => pk_le 4 h (fun z => absurd z (by omega)) (fun _ => And.intro (pk_in h 4 (by omega)) (br_t (by
        rw [nI_clamp (by omega), hH h (by omega)]
        show (if h = 0 then nI 0 else if h = h then nI 1 else -1) = nI 1
        rw [if_neg (by omega), if_pos rfl]) (Hp _))))
      (fun f x _ hx _ hw => pk_le 4 x (fun z => absurd z (by omega)) (fun _ => And.intro (pk_in x 4 (by omega)) (br_f (by
        rw [nI_clamp (by omega), hH x (by omega)]
        show ¬ (if x = 0 then nI 0 else if x = h then nI 1 else -1) = nI 1
        by_cases e : x = 0
        · rw [if_pos e]
          decide
        · rw [if_neg e, if_neg (by omega)]
          decide) (nm_r (nI_1 x) (hw () trivial)))))
end
section
/-! the law, from its end: erase, copies, write -/
def ef_T (P : Int32 → St0 → Prop) (mc ms kc ks : Nat) (x1 x2 x6 : Int32) (p n : Nat) (K V : Nat → Nat) (H : Nat → Int32) : Prop :=
  ∀ (rt we wt : Int32) (a1 a2 a3 a4 a5 a6 a7 a8 a9 a10 a11 a12 a13 a14 : Nat → Int32), ef_I p n K V H (rt, we, wt, a1, a2, a3, a4, a5, a6, a7, a8, a9, a10, a11, a12, a13, a14) → ∀ z, wL_lawOf_355 P mc ms x1 x2 x6 z z kc ks rt we wt a1 a2 a3 a4 a5 a6 a7 a8 a9 a10 a11 a12 a13 a14
theorem ef_T355N {P : Int32 → St0 → Prop} {mc ms kc ks : Nat} {x1 x2 : Int32} (hP : P 1 ()) : ef_T P mc ms kc ks x1 x2 0 0 1 ef_K2 (ef_V2 1) (ef_H 0) := by
  intro rt we wt a1 a2 a3 a4 a5 a6 a7 a8 a9 a10 a11 a12 a13 a14 hu z
  refine br_t rfl ?_
  rcases ef_rng x1 with g | ⟨j, hj, rfl⟩
  · exact ef_erase_bad (Or.inl g) (br_c (fun _ => br_t rfl hP) (fun z1 => br_t (g.resolve_left z1) (br_t rfl hP)))
  · rcases ef_rngN x2 with g | ⟨m, hm, rfl⟩
    · exact ef_erase_bad (Or.inr g) (br_f (nI_pos (by omega)) (br_f (nI_nlt (a := 3) (by omega) (by omega)) (br_c (fun _ => br_t rfl hP) (fun z1 => br_f (Int32.not_le.mpr (g.resolve_left z1)) (br_t rfl hP)))))
    · by_cases e : j = 0
      · subst e
        refine ef_erase_none hu hm (fun u' => ?_)
        obtain ⟨rt', we', wt', a1', a2', a3', a4', a5', a6', a7', a8', a9', a10', a11', a12', a13', a14'⟩ := u'
        exact br_f (nI_pos (by omega)) (br_f (nI_nlt (a := 3) (by omega) (by omega)) (br_f (nI_pos (by omega)) (br_t (nI_le (b := 99) (by omega) (by omega)) (br_t rfl (br_t rfl hP)))))
      · refine ef_erase_no hu hj hm ?_ (br_f (nI_pos (by omega)) (br_f (nI_nlt (a := 3) (by omega) (by omega)) (br_f (nI_pos (by omega)) (br_t (nI_le (b := 99) (by omega) (by omega)) (br_t rfl (br_t rfl hP))))))
        show (if j = 0 then nI 0 else if j = 0 then nI 1 else -1) = -1
        rw [if_neg e, if_neg e]
theorem ef_T355M {P : Int32 → St0 → Prop} {mc ms kc ks n m b s h : Nat} (hP : P 1 ()) (hm : m < 100) (hh : 1 ≤ h) (hh3 : h ≤ 3) : ef_T P mc ms kc ks (nI 0) (nI m) 1 1 (n + 3) (ef_K m b) (ef_V s) (ef_H h) := by
  intro rt we wt a1 a2 a3 a4 a5 a6 a7 a8 a9 a10 a11 a12 a13 a14 hu z
  refine br_t rfl (ef_erase_busy hu hm hh hh3 (fun u' => ?_))
  obtain ⟨rt', we', wt', a1', a2', a3', a4', a5', a6', a7', a8', a9', a10', a11', a12', a13', a14'⟩ := u'
  exact br_f (nI_pos (by omega)) (br_f (nI_nlt (a := 3) (by omega) (by omega)) (br_f (nI_pos (by omega)) (br_t (nI_le (b := 99) (by omega) (by omega)) (br_f (by decide) (br_t rfl hP)))))
theorem ef_L330a {P : Int32 → St0 → Prop} {mc ms kc ks : Nat} {x1 x2 x6 x9 x10 z : Int32} {rt we wt : Int32} {a1 a2 a3 a4 a5 a6 a7 a8 a9 a10 a11 a12 a13 a14 : Nat → Int32} {p n : Nat} {K V : Nat → Nat} {H : Nat → Int32} (HT : ef_T P mc ms kc ks x1 x2 x6 p n K V H) (hu : ef_I p n K V H (rt, we, wt, a1, a2, a3, a4, a5, a6, a7, a8, a9, a10, a11, a12, a13, a14)) (hK : ∀ j, j < n → K j % 256 < 128) (h9 : x9 = 0 ∨ x10 = 0) : wL_lawOf_330 P mc ms x1 x2 x6 x9 x10 z z kc ks rt we wt a1 a2 a3 a4 a5 a6 a7 a8 a9 a10 a11 a12 a13 a14 := by
  refine br_t rfl (ef_copies (m := n) hu (by omega) (by omega) hK (fun z => absurd z (by omega)) (fun u' hu' => ?_))
  rw [Nat.sub_self]
  obtain ⟨rt', we', wt', a1', a2', a3', a4', a5', a6', a7', a8', a9', a10', a11', a12', a13', a14'⟩ := u'
  exact br_c (fun _ => HT _ _ _ _ _ _ _ _ _ _ _ _ _ _ _ _ _ hu' 0) (fun z9 => br_t (h9.resolve_left z9) (HT _ _ _ _ _ _ _ _ _ _ _ _ _ _ _ _ _ hu' 0))
theorem ef_L330b {P : Int32 → St0 → Prop} {mc ms kc ks : Nat} {x1 x2 x6 z : Int32} {rt we wt : Int32} {a1 a2 a3 a4 a5 a6 a7 a8 a9 a10 a11 a12 a13 a14 : Nat → Int32} {p m b s : Nat} {H : Nat → Int32} (hm : m < 100) (hb : b < 8) (HT : ef_T P mc ms kc ks x1 x2 x6 p 4 (ef_K m b) (ef_V s) H) (hu : ef_I p 4 (ef_K m b) (ef_V s) H (rt, we, wt, a1, a2, a3, a4, a5, a6, a7, a8, a9, a10, a11, a12, a13, a14)) : wL_lawOf_330 P mc ms x1 x2 x6 1 1 z z kc ks rt we wt a1 a2 a3 a4 a5 a6 a7 a8 a9 a10 a11 a12 a13 a14 := by
  refine br_t rfl (ef_copies (m := 3) hu (by omega) (by omega) (fun j hj => ?_) (fun _ => ⟨?_, rfl⟩) (fun u' hu' => ?_))
  · exact co_3 (P := fun j => ef_K m b j % 256 < 128) (show 0 % 256 < 128 by omega) (show (1 + m) % 256 < 128 by omega) (show 256 % 256 < 128 by omega) hj
  · show 128 ≤ (384 + b) % 256
    omega
  · obtain ⟨rt', we', wt', a1', a2', a3', a4', a5', a6', a7', a8', a9', a10', a11', a12', a13', a14'⟩ := u'
    exact br_f (by decide) (br_f (by decide) (HT _ _ _ _ _ _ _ _ _ _ _ _ _ _ _ _ _ hu' 1))
theorem ef_L285_bad {P : Int32 → St0 → Prop} {mc ms kc ks : Nat} {x1 x2 x3 x4 x6 x7 z0 : Int32} {rt we wt : Int32} {a1 a2 a3 a4 a5 a6 a7 a8 a9 a10 a11 a12 a13 a14 : Nat → Int32} {p n : Nat} {K V : Nat → Nat} {H : Nat → Int32} (HT : ef_T P mc ms kc ks x1 x2 x6 p n K V H) (hu : ef_I p n K V H (rt, we, wt, a1, a2, a3, a4, a5, a6, a7, a8, a9, a10, a11, a12, a13, a14)) (hK : ∀ j, j < n → K j % 256 < 128) (g : (x3 < 0 ∨ 3 < x3) ∨ (x4 < 0 ∨ 31 < x4)) : wL_lawOf_285 P mc ms x1 x2 x3 x4 x6 x7 0 z0 kc ks rt we wt a1 a2 a3 a4 a5 a6 a7 a8 a9 a10 a11 a12 a13 a14 := by
  unfold wL_lawOf_285
  rcases ef_rng x3 with g3 | ⟨j, hj, rfl⟩
  · exact ef_write_bad g3 (br_t rfl (ef_L330a HT hu hK (Or.inl rfl)))
  · refine ef_write_bad2 hj ?_ (br_t rfl (ef_L330a HT hu hK (Or.inl rfl)))
    rcases g.resolve_left (fun z => z.elim (nI_pos (by omega)) (nI_nlt (a := 3) (by omega) (by omega))) with q | q
    · exact Or.inl q
    · exact Or.inr (Int32.not_le.mpr q)
theorem ef_L285_no {P : Int32 → St0 → Prop} {mc ms kc ks : Nat} {x1 x2 x6 : Int32} {rt we wt : Int32} {a1 a2 a3 a4 a5 a6 a7 a8 a9 a10 a11 a12 a13 a14 : Nat → Int32} {p n j c : Nat} {K V : Nat → Nat} {H : Nat → Int32} (HT : ef_T P mc ms kc ks x1 x2 x6 p n K V H) (hu : ef_I p n K V H (rt, we, wt, a1, a2, a3, a4, a5, a6, a7, a8, a9, a10, a11, a12, a13, a14)) (hK : ∀ j, j < n → K j % 256 < 128) (hj : j < 4) (j0 : j ≠ 0) (hc : c < 32) (hh : H j = -1) : wL_lawOf_285 P mc ms x1 x2 (nI j) (nI c) x6 0 1 0 kc ks rt we wt a1 a2 a3 a4 a5 a6 a7 a8 a9 a10 a11 a12 a13 a14 := by
  unfold wL_lawOf_285
  exact ef_write_no hu hj hc hh (br_f (by decide) (br_t rfl (br_f (nI_ne0 (by omega) (by omega)) (br_t rfl (ef_L330a HT hu hK (Or.inr rfl))))))
theorem ef_L285_dir {P : Int32 → St0 → Prop} {mc ms kc ks : Nat} {x1 x2 x6 x7 : Int32} {rt we wt : Int32} {a1 a2 a3 a4 a5 a6 a7 a8 a9 a10 a11 a12 a13 a14 : Nat → Int32} {p n j c t i : Nat} {K V : Nat → Nat} {H : Nat → Int32} (HT : ef_T P mc ms kc ks x1 x2 x6 p n K V H) (hu : ef_I p n K V H (rt, we, wt, a1, a2, a3, a4, a5, a6, a7, a8, a9, a10, a11, a12, a13, a14)) (hK : ∀ j, j < n → K j % 256 < 128) (hj : j < 4) (hc : c < 32) (hh : H j = nI t) (ht : t ≤ 1) (hi : i < n) (hk : K i = 256 * t) (h1 : ∀ j, j < i → K j < 256 * t) (hv : V i = 1) (h7 : nI j = 0 ∨ ¬ x7 = 0) : wL_lawOf_285 P mc ms x1 x2 (nI j) (nI c) x6 x7 1 0 kc ks rt we wt a1 a2 a3 a4 a5 a6 a7 a8 a9 a10 a11 a12 a13 a14 := by
  unfold wL_lawOf_285
  refine ef_write_dir hu hj hc hh ht hi hk h1 hv (fun u' hu' => ?_)
  obtain ⟨rt', we', wt', a1', a2', a3', a4', a5', a6', a7', a8', a9', a10', a11', a12', a13', a14'⟩ := u'
  exact br_f (by decide) (br_t rfl (br_c (fun _ => ef_L330a HT hu' hK (Or.inr rfl)) (fun z => br_f (h7.resolve_left z) (ef_L330a HT hu' hK (Or.inr rfl)))))
theorem ef_L285_file {P : Int32 → St0 → Prop} {mc ms kc ks : Nat} {x1 x2 x6 x7 : Int32} {rt we wt : Int32} {a1 a2 a3 a4 a5 a6 a7 a8 a9 a10 a11 a12 a13 a14 : Nat → Int32} {m j c : Nat} {H : Nat → Int32} (hm : m < 100) (HT : ∀ b, ef_T P mc ms kc ks x1 x2 x6 1 4 (ef_K m b) (ef_V 2) H) (hu : ef_I 1 3 (ef_K m 0) (ef_V 2) H (rt, we, wt, a1, a2, a3, a4, a5, a6, a7, a8, a9, a10, a11, a12, a13, a14)) (hj : j < 4) (hc : c < 32) (hh : H j = nI 1) : wL_lawOf_285 P mc ms x1 x2 (nI j) (nI c) x6 x7 1 1 kc ks rt we wt a1 a2 a3 a4 a5 a6 a7 a8 a9 a10 a11 a12 a13 a14 := by
  unfold wL_lawOf_285
  refine ef_write_file hu hm hj hc hh (fun u' hu' => ?_)
  obtain ⟨rt', we', wt', a1', a2', a3', a4', a5', a6', a7', a8', a9', a10', a11', a12', a13', a14'⟩ := u'
  exact br_f (by decide) (br_f (by decide) (ef_L330b hm (by omega) (HT _) hu'))
end
section
/-! the law's middle: kind, next, the flags ahead of write -/
/-- what is known of the script after make: (n = 1: nothing was made; n = 3: the node 1 stands in the root under the name m, at the handle h) -/
def ef_C (p n h m s : Nat) (x1 x2 x3 x4 x6 x7 : Int32) : Prop :=
  m < 100 ∧ ((n = 1 ∧ p = 0 ∧ h = 0 ∧ x6 = 0) ∨ (n = 3 ∧ p = 1 ∧ 1 ≤ h ∧ h ≤ 3 ∧ x6 = 1 ∧ x1 = nI 0 ∧ x2 = nI m)) ∧ ((s = 1 ∧ x4 &&& 1 = 1) ∨ (s = 2 ∧ x4 &&& 1 = 0)) ∧ ((x7 = 1 ∧ n = 3 ∧ x3 = nI h) ∨ (x7 = 0 ∧ (n = 3 → ¬ x3 = nI h)))
theorem ef_status {p n h m s : Nat} {x1 x2 x3 x4 x6 x7 : Int32} (c : ef_C p n h m s x1 x2 x3 x4 x6 x7) :
    (x3 < 0 ∨ 3 < x3) ∨ (∃ j, j < 4 ∧ x3 = nI j ∧ ((j = 0 ∧ x7 = 0) ∨ (j ≠ 0 ∧ x7 = 0 ∧ ef_H h j = -1) ∨ (j ≠ 0 ∧ x7 = 1 ∧ ef_H h j = nI 1 ∧ n = 3 ∧ p = 1))) := by
  obtain ⟨hm, hn, hs, h7⟩ := c
  rcases ef_rng x3 with g | ⟨j, hj, rfl⟩
  · exact Or.inl g
  · refine Or.inr ⟨j, hj, rfl, ?_⟩
    rcases h7 with ⟨e7, n3, e⟩ | ⟨e7, e⟩
    · rcases hn with ⟨n1, _⟩ | ⟨_, p1, h1, h3, _⟩
      · omega
      · have ej : j = h := (nI_eq (by omega) (by omega)).mp e
        subst ej
        refine Or.inr (Or.inr ⟨by omega, e7, ?_, n3, p1⟩)
        show (if j = 0 then nI 0 else if j = j then nI 1 else -1) = nI 1
        rw [if_neg (by omega), if_pos rfl]
    · by_cases j0 : j = 0
      · exact Or.inl ⟨j0, e7⟩
      · refine Or.inr (Or.inl ⟨j0, e7, ?_⟩)
        show (if j = 0 then nI 0 else if j = h then nI 1 else -1) = -1
        have : j ≠ h := by
          intro ej
          subst ej
          rcases hn with ⟨_, _, h0, _⟩ | ⟨n3, _⟩
          · exact j0 h0
          · exact e n3 rfl
        rw [if_neg j0, if_neg this]
theorem ef_nle3 {x : Int32} (g : x < 0 ∨ 3 < x) (z : ¬ x < 0) : ¬ x ≤ 3 := Int32.not_le.mpr (g.resolve_left z)
theorem ef_K256 {m : Nat} (hm : m < 100) : ∀ j, j < 2 → ef_K m 0 j < 256 * 1 := fun j hj => co_2 (P := fun j => ef_K m 0 j < 256 * 1) (show 0 < 256 by omega) (show 1 + m < 256 by omega) hj
theorem ef_Kmod {m n : Nat} (hm : m < 100) (hn : n ≤ 3) : ∀ j, j < n → ef_K m 0 j % 256 < 128 := fun j hj => co_3 (P := fun j => ef_K m 0 j % 256 < 128) (show 0 % 256 < 128 by omega) (show (1 + m) % 256 < 128 by omega) (show 256 % 256 < 128 by omega) (by omega)
theorem ef_L119 {P : Int32 → St0 → Prop} {mc ms kc ks : Nat} {x1 x2 x3 x4 x6 x7 z : Int32} {rt we wt : Int32} {a1 a2 a3 a4 a5 a6 a7 a8 a9 a10 a11 a12 a13 a14 : Nat → Int32} {p n h m s : Nat} (c : ef_C p n h m s x1 x2 x3 x4 x6 x7) (hu : ef_I p n (ef_K m 0) (ef_V s) (ef_H h) (rt, we, wt, a1, a2, a3, a4, a5, a6, a7, a8, a9, a10, a11, a12, a13, a14))
    (Hn : ∀ (rt we wt : Int32) (a1 a2 a3 a4 a5 a6 a7 a8 a9 a10 a11 a12 a13 a14 : Nat → Int32), ef_I p n (ef_K m 0) (ef_V s) (ef_H h) (rt, we, wt, a1, a2, a3, a4, a5, a6, a7, a8, a9, a10, a11, a12, a13, a14) → ∀ z, wL_lawOf_166 P mc ms x1 x2 x3 x4 x6 x7 z z kc ks rt we wt a1 a2 a3 a4 a5 a6 a7 a8 a9 a10 a11 a12 a13 a14) : wL_lawOf_119 P mc ms x1 x2 x3 x4 x6 x7 z z kc ks rt we wt a1 a2 a3 a4 a5 a6 a7 a8 a9 a10 a11 a12 a13 a14 := by
  refine br_t rfl ?_
  have c' := c
  obtain ⟨hm, hn, hs, h7⟩ := c'
  have n1 : 0 < n := by omega
  rcases ef_status c with g | ⟨j, hj, rfl, ⟨rfl, rfl⟩ | ⟨j0, rfl, hh⟩ | ⟨j0, rfl, hh, n3, p1⟩⟩
  · exact ef_kind_bad g (br_c (fun _ => Hn _ _ _ _ _ _ _ _ _ _ _ _ _ _ _ _ _ hu (-1)) (fun z0 => br_f (ef_nle3 g z0) (Hn _ _ _ _ _ _ _ _ _ _ _ _ _ _ _ _ _ hu (-1))))
  · refine ef_kind (t := 0) (i := 0) (v := 1) hu (by omega) rfl (by omega) n1 rfl (fun j hj => absurd hj (by omega)) rfl (by omega) (fun u' hu' => ?_)
    obtain ⟨rt', we', wt', a1', a2', a3', a4', a5', a6', a7', a8', a9', a10', a11', a12', a13', a14'⟩ := u'
    exact br_f (nI_pos (by omega)) (br_t (nI_le (b := 3) (by omega) (by omega)) (br_t rfl (Hn _ _ _ _ _ _ _ _ _ _ _ _ _ _ _ _ _ hu' 1)))
  · exact ef_kind_no hu hj hh (br_f (nI_pos (by omega)) (br_t (nI_le (b := 3) (by omega) (by omega)) (br_f (nI_ne0 (by omega) (by omega)) (br_t rfl (Hn _ _ _ _ _ _ _ _ _ _ _ _ _ _ _ _ _ hu 0)))))
  · refine ef_kind (t := 1) (i := 2) (v := s) hu hj hh (by omega) (by omega) rfl (ef_K256 hm) rfl (by omega) (fun u' hu' => ?_)
    obtain ⟨rt', we', wt', a1', a2', a3', a4', a5', a6', a7', a8', a9', a10', a11', a12', a13', a14'⟩ := u'
    have e : (2 : Int32) - (x4 &&& 1) = nI s := by
      rcases hs with ⟨e1, e2⟩ | ⟨e1, e2⟩
      · rw [e1, e2]
        rfl
      · rw [e1, e2]
        rfl
    refine br_f (nI_pos (by omega)) (br_t (nI_le (b := 3) (by omega) (by omega)) (br_f (nI_ne0 (by omega) (by omega)) (br_f (by decide) ?_)))
    rw [e]
    exact Hn _ _ _ _ _ _ _ _ _ _ _ _ _ _ _ _ _ hu' (nI s)
/-- an int below 99: below 0, or a natural -/
theorem ef_rng98 {y : Int32} (hy : y ≤ 98) (t : Nat) : ∃ k : Nat, 256 * t ≤ k ∧ k < 256 * t + 100 ∧ ((y < 0 ∧ k = 256 * t) ∨ ∃ c : Nat, c < 99 ∧ y = nI c ∧ k = 256 * t + 1 + c) := by
  by_cases e : y < 0
  · exact ⟨256 * t, by omega, by omega, Or.inl ⟨e, rfl⟩⟩
  · obtain ⟨c, hc, rfl⟩ := nI_of2 (M := 98) (n := 98) (by rfl) e hy
    exact ⟨256 * t + 1 + c, by omega, by omega, Or.inr ⟨c, by omega, rfl, rfl⟩⟩
theorem ef_L166 {P : Int32 → St0 → Prop} {mc ms kc ks : Nat} {x1 x2 x3 x4 x6 x7 z : Int32} {rt we wt : Int32} {a1 a2 a3 a4 a5 a6 a7 a8 a9 a10 a11 a12 a13 a14 : Nat → Int32} {p n h m s : Nat} (c : ef_C p n h m s x1 x2 x3 x4 x6 x7) (hu : ef_I p n (ef_K m 0) (ef_V s) (ef_H h) (rt, we, wt, a1, a2, a3, a4, a5, a6, a7, a8, a9, a10, a11, a12, a13, a14))
    (Hn : ∀ (rt we wt : Int32) (a1 a2 a3 a4 a5 a6 a7 a8 a9 a10 a11 a12 a13 a14 : Nat → Int32), ef_I p n (ef_K m 0) (ef_V s) (ef_H h) (rt, we, wt, a1, a2, a3, a4, a5, a6, a7, a8, a9, a10, a11, a12, a13, a14) → ∀ z, wL_lawOf_235 P mc ms x1 x2 x3 x4 x6 x7 z z kc ks rt we wt a1 a2 a3 a4 a5 a6 a7 a8 a9 a10 a11 a12 a13 a14) : wL_lawOf_166 P mc ms x1 x2 x3 x4 x6 x7 z z kc ks rt we wt a1 a2 a3 a4 a5 a6 a7 a8 a9 a10 a11 a12 a13 a14 := by
  refine br_t rfl ?_
  have c' := c
  obtain ⟨hm, hn, hs, h7⟩ := c'
  have n1 : 0 < n := by omega
  rcases ef_status c with g | ⟨j, hj, rfl, ⟨rfl, rfl⟩ | ⟨j0, rfl, hh⟩ | ⟨j0, rfl, hh, n3, p1⟩⟩
  · exact ef_next_bad g (br_c (fun _ => Hn _ _ _ _ _ _ _ _ _ _ _ _ _ _ _ _ _ hu (-1)) (fun z0 => br_f (ef_nle3 g z0) (Hn _ _ _ _ _ _ _ _ _ _ _ _ _ _ _ _ _ hu (-1))))
  · by_cases hy : x4 ≤ 98
    · obtain ⟨k, k1, k2, hk⟩ := ef_rng98 hy 0
      rcases hn with ⟨rfl, p0, h0, rfl⟩ | ⟨rfl, p1, h1, h3, rfl, ex1, rfl⟩
      · refine ef_next (t := 0) (i := 0) (i' := 1) (k := k) hu (by omega) rfl (by omega) n1 rfl (fun j hj => absurd hj (by omega)) rfl hy hk (by omega) (fun j hj => ?_) (fun z => absurd z (by omega)) (fun u' hu' z => absurd z (by omega)) (fun u' hu' _ => ?_)
        · have : j = 0 := by omega
          subst this
          exact Nat.zero_le k
        · obtain ⟨rt', we', wt', a1', a2', a3', a4', a5', a6', a7', a8', a9', a10', a11', a12', a13', a14'⟩ := u'
          exact br_f (nI_pos (by omega)) (br_t (nI_le (b := 3) (by omega) (by omega)) (br_t rfl (br_t rfl (Hn _ _ _ _ _ _ _ _ _ _ _ _ _ _ _ _ _ hu' (-3)))))
      · have hx : nI m ≤ x4 ↔ 1 + m ≤ k := by
          rcases hk with ⟨q1, q2⟩ | ⟨c0, q1, rfl, q2⟩
          · constructor
            · intro q
              exact absurd (Int32.lt_of_le_of_lt q q1) (nI_pos (by omega))
            · omega
          · rw [nI_leI (by omega) (by omega)]
            omega
        by_cases q : 1 + m ≤ k
        · refine ef_next (t := 0) (i := 0) (i' := 2) (k := k) hu (by omega) rfl (by omega) n1 rfl (fun j hj => absurd hj (by omega)) rfl hy hk (by omega) (fun j hj => ?_) (fun z => ?_) (fun u' hu' z q' => ?_) (fun u' hu' _ => ?_)
          · exact co_2 (P := fun j => ef_K m 0 j ≤ k) (Nat.zero_le k) q hj
          · show k < 256
            omega
          · exact absurd (show (256 : Nat) < 256 * 0 + 128 from q') (by omega)
          · obtain ⟨rt', we', wt', a1', a2', a3', a4', a5', a6', a7', a8', a9', a10', a11', a12', a13', a14'⟩ := u'
            exact br_f (nI_pos (by omega)) (br_t (nI_le (b := 3) (by omega) (by omega)) (br_t rfl (br_f (by decide) (br_t (hx.mpr q) (Hn _ _ _ _ _ _ _ _ _ _ _ _ _ _ _ _ _ hu' (-3))))))
        · refine ef_next (t := 0) (i := 0) (i' := 1) (k := k) hu (by omega) rfl (by omega) n1 rfl (fun j hj => absurd hj (by omega)) rfl hy hk (by omega) (fun j hj => ?_) (fun z => ?_) (fun u' hu' z q' => ?_) (fun u' hu' q' => ?_)
          · have : j = 0 := by omega
            subst this
            exact Nat.zero_le k
          · show k < 1 + m
            omega
          · have e : ef_K m 0 1 - 256 * 0 - 1 = m := by
              show 1 + m - 256 * 0 - 1 = m
              omega
            rw [e]
            obtain ⟨rt', we', wt', a1', a2', a3', a4', a5', a6', a7', a8', a9', a10', a11', a12', a13', a14'⟩ := u'
            exact br_f (nI_pos (by omega)) (br_t (nI_le (b := 3) (by omega) (by omega)) (br_t rfl (br_f (by decide) (br_f (fun w => q (hx.mp w)) (Hn _ _ _ _ _ _ _ _ _ _ _ _ _ _ _ _ _ hu' (nI m))))))
          · exact absurd (show 1 + m < 256 * 0 + 128 by omega) (q' (by omega))
    · refine ef_next_big (t := 0) (i := 0) hu (by omega) rfl (by omega) n1 rfl (fun j hj => absurd hj (by omega)) rfl hy (fun u' hu' => ?_)
      obtain ⟨rt', we', wt', a1', a2', a3', a4', a5', a6', a7', a8', a9', a10', a11', a12', a13', a14'⟩ := u'
      refine br_f (nI_pos (by omega)) (br_t (nI_le (b := 3) (by omega) (by omega)) (br_t rfl ?_))
      rcases hn with ⟨rfl, p0, h0, rfl⟩ | ⟨rfl, p1, h1, h3, rfl, ex1, rfl⟩
      · exact br_t rfl (Hn _ _ _ _ _ _ _ _ _ _ _ _ _ _ _ _ _ hu' (-3))
      · refine br_f (by decide) (br_t ?_ (Hn _ _ _ _ _ _ _ _ _ _ _ _ _ _ _ _ _ hu' (-3)))
        have q := Int32.lt_iff_toInt_lt.mp (Int32.not_le.mp hy)
        refine Int32.le_iff_toInt_le.mpr ?_
        rw [nI_toInt (by omega)]
        have e2 : (98 : Int32).toInt = 98 := rfl
        omega
  · exact ef_next_no hu hj hh (br_f (nI_pos (by omega)) (br_t (nI_le (b := 3) (by omega) (by omega)) (br_f (nI_ne0 (by omega) (by omega)) (br_t rfl (Hn _ _ _ _ _ _ _ _ _ _ _ _ _ _ _ _ _ hu (-3))))))
  · subst n3
    rcases hs with ⟨rfl, e4⟩ | ⟨rfl, e4⟩
    · by_cases hy : x4 ≤ 98
      · have j1 := nI_ne0 (n := j) (by omega) (by omega)
        have j2 := nI_pos (n := j) (by omega)
        have j3 := nI_le (a := j) (b := 3) (by omega) (by omega)
        obtain ⟨k, k1, k2, hk⟩ := ef_rng98 hy 1
        refine ef_next (t := 1) (i := 2) (i' := 3) (k := k) hu hj hh (by omega) (by omega) rfl (ef_K256 hm) rfl hy hk (by omega) (fun j hj => ?_) (fun z => absurd z (by omega)) (fun u' hu' z => absurd z (by omega)) (fun u' hu' _ => ?_)
        · exact co_3 (P := fun j => ef_K m 0 j ≤ k) (Nat.zero_le k) (show 1 + m ≤ k by omega) (show 256 ≤ k by omega) hj
        · obtain ⟨rt', we', wt', a1', a2', a3', a4', a5', a6', a7', a8', a9', a10', a11', a12', a13', a14'⟩ := u'
          exact br_f j2 (br_t j3 (br_f j1 (br_f (by decide) (br_f (by rw [e4]; decide) (Hn _ _ _ _ _ _ _ _ _ _ _ _ _ _ _ _ _ hu' (-3))))))
      · refine ef_next_big (t := 1) (i := 2) hu hj hh (by omega) (by omega) rfl (ef_K256 hm) rfl hy (fun u' hu' => ?_)
        obtain ⟨rt', we', wt', a1', a2', a3', a4', a5', a6', a7', a8', a9', a10', a11', a12', a13', a14'⟩ := u'
        exact br_f (nI_pos (by omega)) (br_t (nI_le (b := 3) (by omega) (by omega)) (br_f (nI_ne0 (by omega) (by omega)) (br_f (by decide) (br_f (by rw [e4]; decide) (Hn _ _ _ _ _ _ _ _ _ _ _ _ _ _ _ _ _ hu' (-3))))))
    · refine ef_next_file (t := 1) (i := 2) hu hj hh (by omega) (by omega) rfl (ef_K256 hm) rfl (fun u' hu' => ?_)
      obtain ⟨rt', we', wt', a1', a2', a3', a4', a5', a6', a7', a8', a9', a10', a11', a12', a13', a14'⟩ := u'
      exact br_f (nI_pos (by omega)) (br_t (nI_le (b := 3) (by omega) (by omega)) (br_f (nI_ne0 (by omega) (by omega)) (br_f (by decide) (br_t e4 (Hn _ _ _ _ _ _ _ _ _ _ _ _ _ _ _ _ _ hu' (-4))))))
theorem ef_L266_bad {P : Int32 → St0 → Prop} {mc ms kc ks : Nat} {x1 x2 x3 x4 x6 x7 : Int32} {rt we wt : Int32} {a1 a2 a3 a4 a5 a6 a7 a8 a9 a10 a11 a12 a13 a14 : Nat → Int32} {p n : Nat} {K V : Nat → Nat} {H : Nat → Int32} (HT : ef_T P mc ms kc ks x1 x2 x6 p n K V H) (hu : ef_I p n K V H (rt, we, wt, a1, a2, a3, a4, a5, a6, a7, a8, a9, a10, a11, a12, a13, a14)) (hK : ∀ j, j < n → K j % 256 < 128) (g : (x3 < 0 ∨ 3 < x3) ∨ (x4 < 0 ∨ 31 < x4)) : wL_lawOf_265 P mc ms x1 x2 x3 x4 x6 x7 kc ks rt we wt a1 a2 a3 a4 a5 a6 a7 a8 a9 a10 a11 a12 a13 a14 :=
  br_c (fun _ => ef_L285_bad HT hu hK g) (fun _ => br_c (fun _ => ef_L285_bad HT hu hK g) (fun _ => ef_L285_bad HT hu hK g))
theorem ef_L235 {P : Int32 → St0 → Prop} {mc ms kc ks : Nat} {x1 x2 x3 x4 x6 x7 z : Int32} {rt we wt : Int32} {a1 a2 a3 a4 a5 a6 a7 a8 a9 a10 a11 a12 a13 a14 : Nat → Int32} {p n h m s : Nat} (c : ef_C p n h m s x1 x2 x3 x4 x6 x7) (hu : ef_I p n (ef_K m 0) (ef_V s) (ef_H h) (rt, we, wt, a1, a2, a3, a4, a5, a6, a7, a8, a9, a10, a11, a12, a13, a14))
    (HT : ef_T P mc ms kc ks x1 x2 x6 p n (ef_K m 0) (ef_V s) (ef_H h)) (HT4 : n = 3 → ∀ b, ef_T P mc ms kc ks x1 x2 x6 1 4 (ef_K m b) (ef_V s) (ef_H h)) : wL_lawOf_235 P mc ms x1 x2 x3 x4 x6 x7 z z kc ks rt we wt a1 a2 a3 a4 a5 a6 a7 a8 a9 a10 a11 a12 a13 a14 := by
  refine br_t rfl ?_
  have c' := c
  obtain ⟨hm, hn, hs, h7⟩ := c'
  have n1 : 0 < n := by omega
  have hK := ef_Kmod (n := n) hm (by omega)
  refine br_c (fun q => ef_L266_bad HT hu hK (Or.inl (Or.inl q))) (fun q1 => br_c (fun q => ef_L266_bad HT hu hK (Or.inl (Or.inr q))) (fun q2 => br_c (fun q => ef_L266_bad HT hu hK (Or.inr (Or.inl q))) (fun q3 => br_c (fun q => ef_L266_bad HT hu hK (Or.inr (Or.inr q))) (fun q4 => ?_))))
  obtain ⟨d, hd, rfl⟩ := nI_of2 (M := 31) (n := 31) (by rfl) q3 (Int32.not_lt.mp q4)
  rcases ef_status c with g | ⟨j, hj, rfl, ⟨rfl, rfl⟩ | ⟨j0, rfl, hh⟩ | ⟨j0, rfl, hh, n3, p1⟩⟩
  · exact absurd g (fun w => w.elim q1 q2)
  · exact br_t rfl (ef_L285_dir (t := 0) (i := 0) HT hu hK (by omega) (by omega) rfl (by omega) n1 rfl (fun j hj => absurd hj (by omega)) rfl (Or.inl rfl))
  · exact br_t rfl (ef_L285_no HT hu hK hj j0 (by omega) hh)
  · subst n3 p1
    rcases hs with ⟨rfl, e4⟩ | ⟨rfl, e4⟩
    · exact br_f (by decide) (br_f (by rw [e4]; decide) (ef_L285_dir (t := 1) (i := 2) HT hu hK hj (by omega) hh (by omega) (by omega) rfl (ef_K256 hm) rfl (Or.inr (by decide))))
    · exact br_f (by decide) (br_t e4 (ef_L285_file hm (HT4 rfl) hu hj (by omega) hh))
end
section
/-! the law's head -/
theorem ef_cong {u : St2} {p n : Nat} {K K' V V' : Nat → Nat} {H : Nat → Int32} (hu : ef_I p n K V H u) (h : ∀ j, j < n → K' j = K j ∧ V' j = V j) : ef_I p n K' V' H u := by
  obtain ⟨rt, we, wt, a1, a2, a3, a4, a5, a6, a7, a8, a9, a10, a11, a12, a13, a14⟩ := u
  obtain ⟨hp, hn, hr, hc, hl, hK, hV, hH, h7', h90, h91, c0, k0, l0, h5⟩ := hu
  exact And.intro hp (And.intro hn (And.intro hr (And.intro hc (And.intro hl (And.intro (fun j hj => by rw [(h j hj).1]; exact hK j hj) (And.intro (fun j hj => by rw [(h j hj).2]; exact hV j hj) (And.intro hH (And.intro h7' (And.intro h90 (And.intro h91 (And.intro c0 (And.intro k0 (And.intro l0 h5)))))))))))))
theorem ef_congA {u : St2} {m s : Nat} {H : Nat → Int32} (hu : ef_I 0 1 ef_K2 (ef_V2 1) H u) : ef_I 0 1 (ef_K m 0) (ef_V s) H u :=
  ef_cong hu (fun j hj => by
    have : j = 0 := by omega
    subst this
    exact ⟨rfl, rfl⟩)
theorem ef_congB {u : St2} {m s : Nat} {H : Nat → Int32} (hu : ef_I 0 1 (ef_K m 0) (ef_V s) H u) : ef_I 0 1 ef_K2 (ef_V2 1) H u :=
  ef_cong hu (fun j hj => by
    have : j = 0 := by omega
    subst this
    exact ⟨rfl, rfl⟩)
theorem ef_run {P : Int32 → St0 → Prop} {mc ms kc ks : Nat} {x1 x2 x3 x4 x6 x7 z : Int32} {rt we wt : Int32} {a1 a2 a3 a4 a5 a6 a7 a8 a9 a10 a11 a12 a13 a14 : Nat → Int32} {p n h m s : Nat} (hP : P 1 ()) (c : ef_C p n h m s x1 x2 x3 x4 x6 x7) (hu : ef_I p n (ef_K m 0) (ef_V s) (ef_H h) (rt, we, wt, a1, a2, a3, a4, a5, a6, a7, a8, a9, a10, a11, a12, a13, a14)) : wL_lawOf_119 P mc ms x1 x2 x3 x4 x6 x7 z z kc ks rt we wt a1 a2 a3 a4 a5 a6 a7 a8 a9 a10 a11 a12 a13 a14 := by
  have HT : ef_T P mc ms kc ks x1 x2 x6 p n (ef_K m 0) (ef_V s) (ef_H h) ∧ (n = 3 → ∀ b, ef_T P mc ms kc ks x1 x2 x6 1 4 (ef_K m b) (ef_V s) (ef_H h)) := by
    obtain ⟨hm, hn, hs, h7⟩ := c
    rcases hn with ⟨rfl, rfl, rfl, rfl⟩ | ⟨rfl, rfl, h1, h3, rfl, rfl, rfl⟩
    · exact ⟨fun rt we wt a1 a2 a3 a4 a5 a6 a7 a8 a9 a10 a11 a12 a13 a14 hu z => ef_T355N hP _ _ _ _ _ _ _ _ _ _ _ _ _ _ _ _ _ (ef_congB hu) z, fun z => absurd z (by omega)⟩
    · exact ⟨ef_T355M (n := 0) hP hm h1 h3, fun _ b => ef_T355M (n := 1) hP hm h1 h3⟩
  exact ef_L119 c hu (fun rt we wt a1 a2 a3 a4 a5 a6 a7 a8 a9 a10 a11 a12 a13 a14 hu1 z1 => ef_L166 c hu1 (fun rt we wt a1 a2 a3 a4 a5 a6 a7 a8 a9 a10 a11 a12 a13 a14 hu2 z2 => ef_L235 c hu2 HT.1 HT.2))
/-- the flag that make takes, and the sort that it makes -/
def ef_F (x4 zd : Int32) (s : Nat) : Prop := (zd = 1 ∧ s = 1 ∧ x4 &&& 1 = 1) ∨ (zd = 0 ∧ s = 2 ∧ x4 &&& 1 = 0)
theorem ef_L96bad {P : Int32 → St0 → Prop} {mc ms kc ks s : Nat} {x0 x1 x2 x3 x4 zd : Int32} {rt we wt : Int32} {a1 a2 a3 a4 a5 a6 a7 a8 a9 a10 a11 a12 a13 a14 : Nat → Int32} (hP : P 1 ()) (hF : ef_F x4 zd s) (g : (x0 < 1 ∨ 3 < x0) ∨ (x1 < 0 ∨ 3 < x1) ∨ (x2 < 0 ∨ 99 < x2)) (hu : ef_I 0 1 ef_K2 (ef_V2 1) (ef_H 0) (rt, we, wt, a1, a2, a3, a4, a5, a6, a7, a8, a9, a10, a11, a12, a13, a14)) : wL_lawOf_96 P mc ms x1 x2 x3 x4 0 0 0 zd x2 x1 x0 kc ks rt we wt a1 a2 a3 a4 a5 a6 a7 a8 a9 a10 a11 a12 a13 a14 := by
  unfold wL_lawOf_96
  have hs : (s = 1 ∧ x4 &&& 1 = 1) ∨ (s = 2 ∧ x4 &&& 1 = 0) := hF.elim (fun w => Or.inl w.2) (fun w => Or.inr w.2)
  exact ef_make_bad g (br_t rfl (br_t rfl (ef_run (m := 0) (s := s) hP ⟨by omega, Or.inl ⟨rfl, rfl, rfl, rfl⟩, hs, Or.inr ⟨rfl, fun w => absurd w (by omega)⟩⟩ (ef_congA hu))))
theorem ef_L96no {P : Int32 → St0 → Prop} {mc ms kc ks s h j m : Nat} {x3 x4 zd : Int32} {rt we wt : Int32} {a1 a2 a3 a4 a5 a6 a7 a8 a9 a10 a11 a12 a13 a14 : Nat → Int32} (hP : P 1 ()) (hF : ef_F x4 zd s) (hh : 1 ≤ h) (hh3 : h ≤ 3) (hj : j < 4) (j0 : j ≠ 0) (hm : m < 100) (hu : ef_I 0 1 ef_K2 (ef_V2 1) (ef_H 0) (rt, we, wt, a1, a2, a3, a4, a5, a6, a7, a8, a9, a10, a11, a12, a13, a14)) : wL_lawOf_96 P mc ms (nI j) (nI m) x3 x4 1 0 0 zd (nI m) (nI j) (nI h) kc ks rt we wt a1 a2 a3 a4 a5 a6 a7 a8 a9 a10 a11 a12 a13 a14 := by
  unfold wL_lawOf_96
  have hs : (s = 1 ∧ x4 &&& 1 = 1) ∨ (s = 2 ∧ x4 &&& 1 = 0) := hF.elim (fun w => Or.inl w.2) (fun w => Or.inr w.2)
  refine ef_make_no hu hh hh3 hj hm ?_ (br_t rfl (br_f (by decide) (ef_run (m := 0) (s := s) hP ⟨by omega, Or.inl ⟨rfl, rfl, rfl, rfl⟩, hs, Or.inr ⟨rfl, fun w => absurd w (by omega)⟩⟩ (ef_congA hu))))
  show (if j = 0 then nI 0 else if j = 0 then nI 1 else -1) = -1
  rw [if_neg j0, if_neg j0]
theorem ef_L96ok {P : Int32 → St0 → Prop} {mc ms kc ks s h m : Nat} {x3 x4 x7 zd : Int32} {rt we wt : Int32} {a1 a2 a3 a4 a5 a6 a7 a8 a9 a10 a11 a12 a13 a14 : Nat → Int32} (hP : P 1 ()) (hF : ef_F x4 zd s) (hh : 1 ≤ h) (hh3 : h ≤ 3) (hm : m < 100) (h7 : (x7 = 1 ∧ x3 = nI h) ∨ (x7 = 0 ∧ ¬ x3 = nI h)) (hu : ef_I 0 1 ef_K2 (ef_V2 1) (ef_H 0) (rt, we, wt, a1, a2, a3, a4, a5, a6, a7, a8, a9, a10, a11, a12, a13, a14)) : wL_lawOf_96 P mc ms (nI 0) (nI m) x3 x4 1 1 x7 zd (nI m) (nI 0) (nI h) kc ks rt we wt a1 a2 a3 a4 a5 a6 a7 a8 a9 a10 a11 a12 a13 a14 := by
  unfold wL_lawOf_96
  have hs : (s = 1 ∧ x4 &&& 1 = 1) ∨ (s = 2 ∧ x4 &&& 1 = 0) := hF.elim (fun w => Or.inl w.2) (fun w => Or.inr w.2)
  have hz : s = if zd = 0 then 2 else 1 := by
    rcases hF with ⟨e1, e2, _⟩ | ⟨e1, e2, _⟩
    · rw [e1, e2]
      rfl
    · rw [e1, e2]
      rfl
  refine ef_make_ok hu hh hh3 hm hz (fun u' hu' => ?_)
  obtain ⟨rt', we', wt', a1', a2', a3', a4', a5', a6', a7', a8', a9', a10', a11', a12', a13', a14'⟩ := u'
  exact br_f (by decide) (ef_run (m := m) (s := s) hP ⟨hm, Or.inr ⟨rfl, rfl, hh, hh3, rfl, rfl, rfl⟩, hs, h7.elim (fun w => Or.inl ⟨w.1, rfl, w.2⟩) (fun w => Or.inr ⟨w.1, fun _ => w.2⟩)⟩ hu')
theorem ef_L67 {P : Int32 → St0 → Prop} {x0 x1 x2 x3 x4 x5 x6 x7 : Int32}
    (H : ∀ (zd : Int32) (s : Nat), ef_F x4 zd s → ∀ (rt we wt : Int32) (a1 a2 a3 a4 a5 a6 a7 a8 a9 a10 a11 a12 a13 a14 : Nat → Int32), ef_I 0 1 ef_K2 (ef_V2 1) (ef_H 0) (rt, we, wt, a1, a2, a3, a4, a5, a6, a7, a8, a9, a10, a11, a12, a13, a14) → wL_lawOf_96 P 15 2435 x1 x2 x3 x4 x5 x6 x7 zd x2 x1 x0 (0 + 1 + 14) (0 + 17 + 2418) rt we wt a1 a2 a3 a4 a5 a6 a7 a8 a9 a10 a11 a12 a13 a14) : wL_lawOf_67 P 15 2435 x0 x1 x2 x3 x4 x5 x6 x7 0 0 := by
  refine And.intro (by omega) (And.intro (by omega) (Exists.intro 14 (Exists.intro 2418 (And.intro (by omega) (And.intro (by omega) (ef_init (by omega) (by omega) (fun u hu => ?_)))))))
  obtain ⟨rt, we, wt, a1, a2, a3, a4, a5, a6, a7, a8, a9, a10, a11, a12, a13, a14⟩ := u
  refine br_c (fun q => H 1 1 (Or.inl ⟨rfl, rfl, q⟩) _ _ _ _ _ _ _ _ _ _ _ _ _ _ _ _ _ hu) (fun q => H 0 2 (Or.inr ⟨rfl, rfl, ?_⟩) _ _ _ _ _ _ _ _ _ _ _ _ _ _ _ _ _ hu)
  obtain ⟨j, hj, e⟩ := pk_andE x4 (m := 1) 1 (by decide)
  have : j = 0 ∨ j = 1 := by omega
  rcases this with r | r
  · rw [e, r]
    rfl
  · exact absurd (by rw [e, r]; rfl) q
theorem ef_Lbad {P : Int32 → St0 → Prop} {x0 x1 x2 x3 x4 : Int32} (hP : P 1 ()) (g : (x0 < 1 ∨ 3 < x0) ∨ (x1 < 0 ∨ 3 < x1) ∨ (x2 < 0 ∨ 99 < x2)) : wL_lawOf_33 P 15 2435 x0 x1 x2 x3 x4 0 0 :=
  br_t rfl (br_t rfl (ef_L67 (fun zd s hF rt we wt a1 a2 a3 a4 a5 a6 a7 a8 a9 a10 a11 a12 a13 a14 hu => ef_L96bad hP hF g hu)))
theorem ef_lawOf {P : Int32 → St0 → Prop} {x0 x1 x2 x3 x4 : Int32} (hP : P 1 ()) : wpL_lawOf P 15 2435 () x0 x1 x2 x3 x4 := by
  refine br_c (fun q => ef_Lbad hP (Or.inl (Or.inl q))) (fun q1 => br_c (fun q => ef_Lbad hP (Or.inl (Or.inr q))) (fun q2 => br_c (fun q => ef_Lbad hP (Or.inr (Or.inl (Or.inl q)))) (fun q3 => br_c (fun q => ef_Lbad hP (Or.inr (Or.inl (Or.inr q)))) (fun q4 => br_c (fun q => ef_Lbad hP (Or.inr (Or.inr (Or.inl q)))) (fun q5 => br_c (fun q => ef_Lbad hP (Or.inr (Or.inr (Or.inr q)))) (fun q6 => ?_))))))
  have q0 : ¬ x0 < 0 := fun w => q1 (Int32.lt_trans w (by decide))
  obtain ⟨h, hh3, rfl⟩ := nI_of2 (M := 3) (n := 3) (by rfl) q0 (Int32.not_lt.mp q2)
  obtain ⟨j, hj, rfl⟩ := nI_of2 (M := 3) (n := 3) (by rfl) q3 (Int32.not_lt.mp q4)
  obtain ⟨m, hm, rfl⟩ := nI_of2 (M := 99) (n := 99) (by rfl) q5 (Int32.not_lt.mp q6)
  have hh : 1 ≤ h := by
    rcases Nat.eq_zero_or_pos h with w | w
    · subst w
      exact absurd (by decide) q1
    · exact w
  by_cases e : j = 0
  · subst e
    refine br_f (by decide) (br_t rfl (br_f (by decide) (br_c (fun q => ?_) (fun q => ?_))))
    · exact ef_L67 (fun zd s hF rt we wt a1 a2 a3 a4 a5 a6 a7 a8 a9 a10 a11 a12 a13 a14 hu => ef_L96ok hP hF hh hh3 (by omega) (Or.inl ⟨rfl, q⟩) hu)
    · exact ef_L67 (fun zd s hF rt we wt a1 a2 a3 a4 a5 a6 a7 a8 a9 a10 a11 a12 a13 a14 hu => ef_L96ok hP hF hh hh3 (by omega) (Or.inr ⟨rfl, q⟩) hu)
  · refine br_f (by decide) (br_f (nI_ne0 (by omega) (by omega)) (br_t rfl ?_))
    exact ef_L67 (fun zd s hF rt we wt a1 a2 a3 a4 a5 a6 a7 a8 a9 a10 a11 a12 a13 a14 hu => ef_L96no hP hF hh hh3 (by omega) e (by omega) hu)
theorem ef_cell {post : Int32 → Prop} {L : Nat} {xs : Nat → Int32} {x : Int32} (k : Nat) (hx : x = nI k) (hk : k < 5) (hL : L ≤ 5) (H : ∀ v, post v) : wpL_cellAt post L xs () x :=
  pk_le L k (fun _ => H 0) (fun z => And.intro (pk_in k L z hx) (H _)) rfl hx
theorem i_vc (xs : Nat → Int32) (L : Nat) (hL : L ≤ 5) : wpL_law (fun r => r = 1) L xs := by
  unfold wpL_law
  exact ef_cell 0 rfl (by omega) hL (fun v0 => ef_cell 1 rfl (by omega) hL (fun v1 => ef_cell 2 rfl (by omega) hL (fun v2 => ef_cell 3 rfl (by omega) hL (fun v3 => ef_cell 4 rfl (by omega) hL (fun v4 => Exists.intro 15 (Exists.intro 2435 (And.intro (by omega) (And.intro (by omega) (ef_lawOf rfl)))))))))
end
