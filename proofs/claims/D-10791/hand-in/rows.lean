section
/-! naturals held by an array of eight -/
def pn_m (a : Nat → Int32) (M : Nat → Nat) : Prop := ∀ q, q < 8 → a q = nI (M q)
def pn_u (M : Nat → Nat) (k v : Nat) : Nat → Nat := fun j => if j = k then v else M j
theorem pn_us {M : Nat → Nat} {k v : Nat} : pn_u M k v k = v := if_pos rfl
theorem pn_un {M : Nat → Nat} {k v j : Nat} (h : j ≠ k) : pn_u M k v j = M j := if_neg h
theorem pn_uk (M : Nat → Nat) (k : Nat) : pn_u M k (M k) = M := by
  funext j
  by_cases e : j = k
  · rw [e, pn_us]
  · rw [pn_un e]
theorem pn_mu {a : Nat → Int32} {M : Nat → Nat} (h : pn_m a M) (p v : Nat) : pn_m (upd a p (nI v)) (pn_u M p v) := by
  intro q hq
  by_cases e : q = p
  · rw [e, pk_us, pn_us]
  · rw [pk_un e, pn_un e]
    exact h q hq
theorem pn_mk {a : Nat → Int32} {M : Nat → Nat} (h : pn_m a M) (p : Nat) : pn_m a (pn_u M p (M p)) := by
  rw [pn_uk]
  exact h
theorem pn_8 {p : Nat} (h : p < 8) : p = 0 ∨ p = 1 ∨ p = 2 ∨ p = 3 ∨ p = 4 ∨ p = 5 ∨ p = 6 ∨ p = 7 := by omega
/-! sums of eight -/
def pn_sum (M : Nat → Nat) : Nat := M 0 + M 1 + M 2 + M 3 + M 4 + M 5 + M 6 + M 7
theorem pn_sum_le {M M' : Nat → Nat} (h : ∀ q, M q ≤ M' q) : pn_sum M ≤ pn_sum M' := by
  unfold pn_sum
  have h0 := h 0
  have h1 := h 1
  have h2 := h 2
  have h3 := h 3
  have h4 := h 4
  have h5 := h 5
  have h6 := h 6
  have h7 := h 7
  omega
theorem pn_sum_lt {M M' : Nat → Nat} {p : Nat} (hp : p < 8) (h : ∀ q, M q ≤ M' q) (hl : M p < M' p) : pn_sum M + 1 ≤ pn_sum M' := by
  unfold pn_sum
  have h0 := h 0
  have h1 := h 1
  have h2 := h 2
  have h3 := h 3
  have h4 := h 4
  have h5 := h 5
  have h6 := h 6
  have h7 := h 7
  rcases pn_8 hp with e | e | e | e | e | e | e | e <;> (rw [e] at hl; omega)
theorem pn_sum_40 {M : Nat → Nat} (h : ∀ q, q < 8 → M q ≤ 40) : pn_sum M ≤ 320 := by
  unfold pn_sum
  have h0 := h 0 (by omega)
  have h1 := h 1 (by omega)
  have h2 := h 2 (by omega)
  have h3 := h 3 (by omega)
  have h4 := h 4 (by omega)
  have h5 := h 5 (by omega)
  have h6 := h 6 (by omega)
  have h7 := h 7 (by omega)
  omega
/-! how many are listed -/
def pn_c1 (x : Int32) : Nat := if x = 0 then 0 else 1
theorem pn_c1_le (x : Int32) : pn_c1 x ≤ 1 := by
  unfold pn_c1
  split <;> omega
theorem pn_c1_0 : pn_c1 0 = 0 := if_pos rfl
theorem pn_c1_n {x : Int32} (h : ¬ x = 0) : pn_c1 x = 1 := if_neg h
def pn_cnt (l : Nat → Int32) : Nat := pn_sum (fun q => pn_c1 (l q))
theorem pn_sum_u (M : Nat → Nat) {p : Nat} (hp : p < 8) (v : Nat) : pn_sum (pn_u M p v) + M p = pn_sum M + v := by
  rcases pn_8 hp with e | e | e | e | e | e | e | e <;> (subst e; simp only [pn_sum, pn_u]; simp; omega)
theorem pn_sum_ge (M : Nat → Nat) {p : Nat} (hp : p < 8) : M p ≤ pn_sum M := by
  unfold pn_sum
  rcases pn_8 hp with e | e | e | e | e | e | e | e <;> (subst e; omega)
theorem pn_cnt_u (l : Nat → Int32) {p : Nat} (hp : p < 8) (x : Int32) : pn_cnt (upd l p x) + pn_c1 (l p) = pn_cnt l + pn_c1 x := by
  have e : (fun q => pn_c1 (upd l p x q)) = pn_u (fun q => pn_c1 (l q)) p (pn_c1 x) := by
    funext q
    by_cases e : q = p
    · rw [e, pk_us, pn_us]
    · rw [pk_un e, pn_un e]
  have t := pn_sum_u (fun q => pn_c1 (l q)) hp (pn_c1 x)
  unfold pn_cnt
  rw [e]
  exact t
theorem pn_cnt_le (l : Nat → Int32) : pn_cnt l ≤ 8 := by
  have h : pn_sum (fun q => pn_c1 (l q)) ≤ pn_sum (fun _ => 1) := pn_sum_le (fun q => pn_c1_le (l q))
  exact h
theorem pn_cnt_0 {l : Nat → Int32} (h : pn_cnt l = 0) {q : Nat} (hq : q < 8) : l q = 0 := by
  have t : pn_c1 (l q) ≤ pn_cnt l := pn_sum_ge (fun q => pn_c1 (l q)) hq
  by_cases e : l q = 0
  · exact e
  · rw [pn_c1_n e] at t
    omega
/-! the ring -/
def pn_R (w h : Nat) (r l : Nat → Int32) : Prop := h < 8 ∧ w = pn_cnt l ∧ (∀ k, k < w → ∃ q, q < 8 ∧ r ((h + k) % 8) = nI q ∧ ¬ l q = 0) ∧ (∀ k j, k < j → j < w → ¬ r ((h + k) % 8) = r ((h + j) % 8))
theorem pn_R_w {w h : Nat} {r l : Nat → Int32} (H : pn_R w h r l) : w ≤ 8 := by
  have t := pn_cnt_le l
  have e := H.2.1
  omega
theorem pn_R_push {w h p : Nat} {r l : Nat → Int32} (H : pn_R w h r l) (hp : p < 8) (hl : l p = 0) : pn_R (w + 1) h (upd r ((h + w) % 8) (nI p)) (upd l p 1) := by
  obtain ⟨h1, h2, h3, h4⟩ := H
  have c := pn_cnt_u l hp 1
  rw [hl, pn_c1_0, pn_c1_n (show ¬ (1 : Int32) = 0 by decide)] at c
  have c8 := pn_cnt_le (upd l p 1)
  have hw : w < 8 := by omega
  have ne : ∀ k, k < w → (h + k) % 8 ≠ (h + w) % 8 := fun k hk => by omega
  refine ⟨h1, by omega, ?_, ?_⟩
  · intro k hk
    by_cases e : k = w
    · refine ⟨p, hp, by rw [e, pk_us], ?_⟩
      rw [pk_us]
      decide
    · have hk' : k < w := by omega
      obtain ⟨q, hq, e1, e2⟩ := h3 k hk'
      have hn : q ≠ p := fun z => e2 (by rw [z]; exact hl)
      refine ⟨q, hq, by rw [pk_un (ne k hk')]; exact e1, ?_⟩
      rw [pk_un hn]
      exact e2
  · intro k j hkj hj
    have hk' : k < w := by omega
    rw [pk_un (ne k hk')]
    by_cases e : j = w
    · rw [e, pk_us]
      obtain ⟨q, hq, e1, e2⟩ := h3 k hk'
      rw [e1]
      intro z
      have hn : q = p := (nI_eq (by omega) (by omega)).mp z
      exact e2 (by rw [hn]; exact hl)
    · have hj' : j < w := by omega
      rw [pk_un (ne j hj')]
      exact h4 k j hkj hj'
theorem pn_R_pop {w h : Nat} {r l : Nat → Int32} (H : pn_R (w + 1) h r l) : ∃ q, q < 8 ∧ r h = nI q ∧ ¬ l q = 0 ∧ pn_R w ((h + 1) % 8) r (upd l q 0) := by
  obtain ⟨h1, h2, h3, h4⟩ := H
  obtain ⟨q, hq, e1, e2⟩ := h3 0 (by omega)
  have e0 : (h + 0) % 8 = h := by omega
  rw [e0] at e1
  refine ⟨q, hq, e1, e2, by omega, ?_, ?_, ?_⟩
  · have c := pn_cnt_u l hq 0
    rw [pn_c1_0, pn_c1_n e2] at c
    omega
  · intro k hk
    have ek : ((h + 1) % 8 + k) % 8 = (h + (k + 1)) % 8 := by omega
    rw [ek]
    obtain ⟨q', hq', f1, f2⟩ := h3 (k + 1) (by omega)
    have hn : q' ≠ q := by
      intro z
      have t := h4 0 (k + 1) (by omega) (by omega)
      rw [e0, e1, f1, z] at t
      exact t rfl
    refine ⟨q', hq', f1, ?_⟩
    rw [pk_un hn]
    exact f2
  · intro k j hkj hj
    have ek : ((h + 1) % 8 + k) % 8 = (h + (k + 1)) % 8 := by omega
    have ej : ((h + 1) % 8 + j) % 8 = (h + (j + 1)) % 8 := by omega
    rw [ek, ej]
    exact h4 (k + 1) (j + 1) (by omega) (by omega)
theorem pn_R_0 {r l : Nat → Int32} (h : ∀ q, q < 8 → l q = 0) : pn_R 0 0 r l := by
  refine ⟨by omega, ?_, fun k hk => absurd hk (by omega), fun k j _ hj => absurd hj (by omega)⟩
  unfold pn_cnt pn_sum
  dsimp only
  rw [h 0 (by omega), h 1 (by omega), h 2 (by omega), h 3 (by omega), h 4 (by omega), h 5 (by omega), h 6 (by omega), h 7 (by omega), pn_c1_0]
section WAKE
variable {a1 a2 a3 a4 a5 a6 a7 a8 a9 a10 a11 : Nat → Int32}
theorem pn_wake {post : St2 → Prop} {w h p : Nat} (R : pn_R w h a10 a11) (hp : p < 8)
    (H : ∀ w' b10 b11, pn_R w' h b10 b11 → ¬ b11 p = 0 → (∀ q, ¬ a11 q = 0 → ¬ b11 q = 0) → post (nI w', nI h, a1, a2, a3, a4, a5, a6, a7, a8, a9, b10, b11)) :
    wpX_wake post (nI w, nI h, a1, a2, a3, a4, a5, a6, a7, a8, a9, a10, a11) (nI p) := by
  have c : (nI p).toNatClampNeg = p := nI_clamp (by omega)
  have hw := pn_R_w R
  have hh := R.1
  have e : (nI h + nI w) &&& 7 = nI ((h + w) % 8) := by
    rw [nI_add]
    exact pk_andN (by omega) 3 rfl
  unfold wpX_wake
  dsimp only
  rw [c, e, nI_clamp (show (h + w) % 8 < 2 ^ 31 by omega), nI_1]
  refine ⟨pk_in p 8 hp, br_c (fun z => ⟨pk_in p 8 hp, nm_e ⟨pk_in ((h + w) % 8) 8 (by omega), nm_e (nm_e (H (w + 1) _ _ (pn_R_push R hp z) ?_ ?_))⟩⟩) (fun z => H w a10 a11 R z (fun _ t => t))⟩
  · rw [pk_us]
    decide
  · intro q hq
    by_cases e : q = p
    · rw [e, pk_us]
      decide
    · rw [pk_un e]
      exact hq
end WAKE
end
section
section WALK
variable {a1 a2 a3 a4 a5 a6 a7 a8 a9 a10 a11 : Nat → Int32} {w h : Int32} {p ix iy m mx my x y : Nat}
theorem pn_i40 (i x : Nat) : nI i * 40 + nI x = nI (i * 40 + x) := by
  rw [show (40 : Int32) = nI 40 from rfl, pk_mul, nI_add]
theorem pn_hasX {post : Int32 → Prop} (hp : p < 8) (e2 : a2 p = nI ix) (hi : ix < 8) (e5 : a5 ix = nI mx) (hm : mx ≤ 40) (e6 : a6 p = nI x) (hx : x ≤ 40) (f : mx ≤ x → post 0) (g : x < mx → post 1) :
    wpX_hasX post (w, h, a1, a2, a3, a4, a5, a6, a7, a8, a9, a10, a11) (nI p) := by
  unfold wpX_hasX
  dsimp only
  rw [nI_clamp (show p < 2 ^ 31 by omega), e2, nI_clamp (show ix < 2 ^ 31 by omega), e5, e6]
  exact ⟨pk_in p 8 hp, pk_in p 8 hp, pk_in ix 8 hi, pk_le mx x f g⟩
theorem pn_hasY {post : Int32 → Prop} (hp : p < 8) (e3 : a3 p = nI iy) (hi : iy < 8) (e5 : a5 iy = nI my) (hm : my ≤ 40) (e7 : a7 p = nI y) (hx : y ≤ 40) (f : my ≤ y → post 0) (g : y < my → post 1) :
    wpX_hasY post (w, h, a1, a2, a3, a4, a5, a6, a7, a8, a9, a10, a11) (nI p) := by
  unfold wpX_hasY
  dsimp only
  rw [nI_clamp (show p < 2 ^ 31 by omega), e3, nI_clamp (show iy < 2 ^ 31 by omega), e5, e7]
  exact ⟨pk_in p 8 hp, pk_in p 8 hp, pk_in iy 8 hi, pk_le my y f g⟩
theorem pn_takeX {post : Int32 → St2 → Prop} (hp : p < 8) (e2 : a2 p = nI ix) (hi : ix < 8) (e6 : a6 p = nI x) (hx : x < 40)
    (H : post (a9 (ix * 40 + x)) (w, h, a1, a2, a3, a4, a5, upd a6 p (nI (x + 1)), a7, a8, a9, a10, a11)) :
    wpX_takeX post (w, h, a1, a2, a3, a4, a5, a6, a7, a8, a9, a10, a11) (nI p) := by
  unfold wpX_takeX
  dsimp only
  rw [nI_clamp (show p < 2 ^ 31 by omega), e2, e6, pn_i40, nI_clamp (show ix * 40 + x < 2 ^ 31 by omega), nI_1]
  exact ⟨pk_in p 8 hp, pk_in p 8 hp, pk_in (ix * 40 + x) 320 (by omega), nm_e ⟨pk_in p 8 hp, pk_in p 8 hp, nm_e H⟩⟩
theorem pn_takeX2 {post : Int32 → St2 → Prop} (hp : p < 8) (e2 : a2 p = nI ix) (hi : ix < 8) (e6 : a6 p = nI x) (hx : x < 40)
    (H : post (a9 (ix * 40 + x)) (w, h, a1, a2, a3, a4, a5, upd a6 p (nI (x + 1)), a7, a8, a9, a10, a11)) :
    wpX_takeX_2 post (w, h, a1, a2, a3, a4, a5, a6, a7, a8, a9, a10, a11) (nI p) := by
  unfold wpX_takeX_2
  dsimp only
  rw [nI_clamp (show p < 2 ^ 31 by omega), e2, e6, pn_i40, nI_clamp (show ix * 40 + x < 2 ^ 31 by omega), nI_1]
  exact ⟨pk_in p 8 hp, pk_in p 8 hp, pk_in (ix * 40 + x) 320 (by omega), nm_e ⟨pk_in p 8 hp, pk_in p 8 hp, nm_e H⟩⟩
theorem pn_takeY {post : Int32 → St2 → Prop} (hp : p < 8) (e3 : a3 p = nI iy) (hi : iy < 8) (e7 : a7 p = nI y) (hx : y < 40)
    (H : post (a9 (iy * 40 + y)) (w, h, a1, a2, a3, a4, a5, a6, upd a7 p (nI (y + 1)), a8, a9, a10, a11)) :
    wpX_takeY post (w, h, a1, a2, a3, a4, a5, a6, a7, a8, a9, a10, a11) (nI p) := by
  unfold wpX_takeY
  dsimp only
  rw [nI_clamp (show p < 2 ^ 31 by omega), e3, e7, pn_i40, nI_clamp (show iy * 40 + y < 2 ^ 31 by omega), nI_1]
  exact ⟨pk_in p 8 hp, pk_in p 8 hp, pk_in (iy * 40 + y) 320 (by omega), nm_e ⟨pk_in p 8 hp, pk_in p 8 hp, nm_e H⟩⟩
theorem pn_make {post : Int32 → St2 → Prop} {v : Int32} (hp : p < 8) (e5 : a5 p = nI m) (hm : m < 40)
    (H : post 1 (w, h, a1, a2, a3, a4, upd a5 p (nI (m + 1)), a6, a7, a8, upd a9 (p * 40 + m) v, a10, a11)) :
    wpX_make post (w, h, a1, a2, a3, a4, a5, a6, a7, a8, a9, a10, a11) (nI p) v := by
  unfold wpX_make
  dsimp only
  rw [nI_clamp (show p < 2 ^ 31 by omega), e5, pn_i40, nI_clamp (show p * 40 + m < 2 ^ 31 by omega), nI_1]
  exact ⟨pk_in p 8 hp, pk_in (p * 40 + m) 320 (by omega), nm_e ⟨pk_in p 8 hp, pk_in p 8 hp, nm_e H⟩⟩
theorem pn_nb1 : narrow .boolean (.int 1) = .int 1 := rfl
theorem pn_nb0 : narrow .boolean (.int 0) = .int 0 := rfl
theorem pn_stepSum {post : Int32 → St2 → Prop} (hp : p < 8) (e2 : a2 p = nI ix) (hi : ix < 8) (e5 : a5 ix = nI mx) (hm : mx ≤ 40) (e6 : a6 p = nI x) (hx : x ≤ 40) (e5' : a5 p = nI m) (hm' : m < 40)
    (f : mx ≤ x → post 0 (w, h, a1, a2, a3, a4, a5, a6, a7, a8, a9, a10, a11))
    (g : x < mx → ∀ b8 v, post 1 (w, h, a1, a2, a3, a4, upd a5 p (nI (m + 1)), upd a6 p (nI (x + 1)), a7, b8, upd a9 (p * 40 + m) v, a10, a11)) :
    wpX_stepSum post (w, h, a1, a2, a3, a4, a5, a6, a7, a8, a9, a10, a11) (nI p) := by
  unfold wpX_stepSum
  dsimp only
  refine pn_hasX hp e2 hi e5 hm e6 hx (fun z => br_t rfl (f z)) (fun z => br_f (by decide) ⟨pk_in p 8 hp, ?_⟩)
  exact pn_takeX hp e2 hi e6 (by omega) ⟨pk_in p 8 hp, nm_e ⟨pk_in p 8 hp, pn_make hp e5' hm' ⟨pn_nb1, g z _ _⟩⟩⟩
theorem pn_stepOdd {post : Int32 → St2 → Prop} (hp : p < 8) (e2 : a2 p = nI ix) (hi : ix < 8) (e5 : a5 ix = nI mx) (hm : mx ≤ 40) (e6 : a6 p = nI x) (hx : x ≤ 40) (e5' : a5 p = nI m) (hm' : m < 40)
    (f : mx ≤ x → post 0 (w, h, a1, a2, a3, a4, a5, a6, a7, a8, a9, a10, a11))
    (g : x < mx → a9 (ix * 40 + x) = 0)
    (k : x < mx → post 1 (w, h, a1, a2, a3, a4, a5, upd a6 p (nI (x + 1)), a7, a8, a9, a10, a11)) :
    wpX_stepOdd post (w, h, a1, a2, a3, a4, a5, a6, a7, a8, a9, a10, a11) (nI p) := by
  unfold wpX_stepOdd
  dsimp only
  refine pn_hasX hp e2 hi e5 hm e6 hx (fun z => br_t rfl (f z)) (fun z => br_f (by decide) ?_)
  refine pn_takeX2 hp e2 hi e6 (by omega) (br_f ?_ (k z))
  rw [g z]
  decide
theorem pn_stepDelay {post : Int32 → St2 → Prop} (hp : p < 8) (e2 : a2 p = nI ix) (hi : ix < 8) (e5 : a5 ix = nI mx) (hm : mx ≤ 40) (e6 : a6 p = nI x) (hx : x ≤ 40) (e5' : a5 p = nI m) (hm' : m < 40)
    (f : m ≠ 0 → mx ≤ x → post 0 (w, h, a1, a2, a3, a4, a5, a6, a7, a8, a9, a10, a11))
    (g : m = 0 → ∀ v, post 1 (w, h, a1, a2, a3, a4, upd a5 p (nI (m + 1)), a6, a7, a8, upd a9 (p * 40 + m) v, a10, a11))
    (k : m ≠ 0 → x < mx → ∀ v, post 1 (w, h, a1, a2, a3, a4, upd a5 p (nI (m + 1)), upd a6 p (nI (x + 1)), a7, a8, upd a9 (p * 40 + m) v, a10, a11)) :
    wpX_stepDelay post (w, h, a1, a2, a3, a4, a5, a6, a7, a8, a9, a10, a11) (nI p) := by
  unfold wpX_stepDelay
  dsimp only
  rw [nI_clamp (show p < 2 ^ 31 by omega)]
  refine ⟨pk_in p 8 hp, ?_⟩
  rw [e5']
  refine pk_eq m 0 (fun z => ⟨pk_in p 8 hp, pn_make hp e5' hm' ⟨pn_nb1, g z _⟩⟩) (fun z => ?_)
  refine pn_hasX hp e2 hi e5 hm e6 hx (fun t => br_t rfl (f z t)) (fun t => br_f (by decide) ?_)
  exact pn_takeX2 hp e2 hi e6 (by omega) (pn_make hp e5' hm' ⟨pn_nb1, k z t _⟩)
theorem pn_turn34 {post : Int32 → St2 → Prop} {x2 : Int32} (hp : p < 8) (e2 : a2 p = nI ix) (hi : ix < 8) (e6 : a6 p = nI x) (e3 : a3 p = nI iy) (hj : iy < 8) (e7 : a7 p = nI y) (e5' : a5 p = nI m) (hm' : m < 40)
    (gx : ¬ x2 = 0 → x < 40 ∧ ∀ v, post 1 (w, h, a1, a2, a3, a4, upd a5 p (nI (m + 1)), upd a6 p (nI (x + 1)), a7, a8, upd a9 (p * 40 + m) v, a10, a11))
    (gy : x2 = 0 → y < 40 ∧ ∀ v, post 1 (w, h, a1, a2, a3, a4, upd a5 p (nI (m + 1)), a6, upd a7 p (nI (y + 1)), a8, upd a9 (p * 40 + m) v, a10, a11)) :
    wX_stepTurn_34 post (nI p) x2 1 w h a1 a2 a3 a4 a5 a6 a7 a8 a9 a10 a11 := by
  refine br_f (by decide) (br_c (fun z => ?_) (fun z => ?_))
  · exact pn_takeY hp e3 hj e7 (gy z).1 (pn_make hp e5' hm' ⟨pn_nb1, (gy z).2 _⟩)
  · exact pn_takeX2 hp e2 hi e6 (gx z).1 (pn_make hp e5' hm' ⟨pn_nb1, (gx z).2 _⟩)
theorem pn_stepTurn {post : Int32 → St2 → Prop} (hp : p < 8) (e2 : a2 p = nI ix) (hi : ix < 8) (e5 : a5 ix = nI mx) (hm : mx ≤ 40) (e6 : a6 p = nI x) (hx : x ≤ 40)
    (e3 : a3 p = nI iy) (hj : iy < 8) (e5y : a5 iy = nI my) (hmy : my ≤ 40) (e7 : a7 p = nI y) (hy : y ≤ 40) (e5' : a5 p = nI m) (hm' : m < 40)
    (fx : m % 2 = 0 → mx ≤ x → post 0 (w, h, a1, a2, a3, a4, a5, a6, a7, a8, a9, a10, a11))
    (fy : m % 2 = 1 → my ≤ y → post 0 (w, h, a1, a2, a3, a4, a5, a6, a7, a8, a9, a10, a11))
    (gx : m % 2 = 0 → x < mx → ∀ v, post 1 (w, h, a1, a2, a3, a4, upd a5 p (nI (m + 1)), upd a6 p (nI (x + 1)), a7, a8, upd a9 (p * 40 + m) v, a10, a11))
    (gy : m % 2 = 1 → y < my → ∀ v, post 1 (w, h, a1, a2, a3, a4, upd a5 p (nI (m + 1)), a6, upd a7 p (nI (y + 1)), a8, upd a9 (p * 40 + m) v, a10, a11)) :
    wpX_stepTurn post (w, h, a1, a2, a3, a4, a5, a6, a7, a8, a9, a10, a11) (nI p) := by
  have ea : nI m &&& 1 = nI (m % 2) := pk_andN (by omega) 1 rfl
  unfold wpX_stepTurn
  dsimp only
  rw [nI_clamp (show p < 2 ^ 31 by omega), e5', ea]
  refine ⟨pk_in p 8 hp, pk_eq (m % 2) 0 (fun z => br_f (by decide) ?_) (fun z => br_t rfl ?_)⟩
  · exact pn_hasX hp e2 hi e5 hm e6 hx (fun t => br_t rfl (fx z t)) (fun t => pn_turn34 hp e2 hi e6 e3 hj e7 e5' hm' (fun _ => ⟨by omega, gx z t⟩) (fun u => absurd u (by decide)))
  · have z' : m % 2 = 1 := by omega
    exact pn_hasY hp e3 hj e5y hmy e7 hy (fun t => br_t rfl (fy z' t)) (fun t => pn_turn34 hp e2 hi e6 e3 hj e7 e5' hm' (fun u => absurd rfl u) (fun _ => ⟨by omega, gy z' t⟩))
theorem pn_pair21 {post : Int32 → St2 → Prop} (hp : p < 8) (e2 : a2 p = nI ix) (hi : ix < 8) (e6 : a6 p = nI x) (hx : x < 40)
    (e3 : a3 p = nI iy) (hj : iy < 8) (e7 : a7 p = nI y) (hy : y < 40) (e5' : a5 p = nI m) (hm' : m < 40)
    (g2 : a1 p = 2 → ∀ v, post 1 (w, h, a1, a2, a3, a4, upd a5 p (nI (m + 1)), upd a6 p (nI (x + 1)), upd a7 p (nI (y + 1)), a8, upd a9 (p * 40 + m) v, a10, a11))
    (gx : ¬ a1 p = 2 → ¬ a9 (iy * 40 + y) < a9 (ix * 40 + x) → ∀ v, post 1 (w, h, a1, a2, a3, a4, upd a5 p (nI (m + 1)), upd a6 p (nI (x + 1)), a7, a8, upd a9 (p * 40 + m) v, a10, a11))
    (gy : ¬ a1 p = 2 → a9 (iy * 40 + y) < a9 (ix * 40 + x) → ∀ v, post 1 (w, h, a1, a2, a3, a4, upd a5 p (nI (m + 1)), a6, upd a7 p (nI (y + 1)), a8, upd a9 (p * 40 + m) v, a10, a11)) :
    wX_stepPair_21 post (nI p) 1 w h a1 a2 a3 a4 a5 a6 a7 a8 a9 a10 a11 := by
  unfold wX_stepPair_21
  rw [nI_clamp (show p < 2 ^ 31 by omega), e2, e3, e6, e7, pn_i40, pn_i40, nI_clamp (show ix * 40 + x < 2 ^ 31 by omega), nI_clamp (show iy * 40 + y < 2 ^ 31 by omega)]
  refine br_f (by decide) ⟨pk_in p 8 hp, br_c (fun z => ?_) (fun z => ?_)⟩
  · exact pn_takeX2 hp e2 hi e6 hx (pn_takeY hp e3 hj e7 hy (pn_make hp e5' hm' ⟨pn_nb1, g2 z _⟩))
  · refine ⟨pk_in p 8 hp, pk_in p 8 hp, pk_in (ix * 40 + x) 320 (by omega), pk_in p 8 hp, pk_in p 8 hp, pk_in (iy * 40 + y) 320 (by omega), br_c (fun t => br_t rfl ?_) (fun t => br_f (by decide) ?_)⟩
    · exact pn_takeY hp e3 hj e7 hy (pn_make hp e5' hm' ⟨pn_nb1, gy z t _⟩)
    · exact pn_takeX2 hp e2 hi e6 hx (pn_make hp e5' hm' ⟨pn_nb1, gx z t _⟩)
theorem pn_stepPair {post : Int32 → St2 → Prop} (hp : p < 8) (e2 : a2 p = nI ix) (hi : ix < 8) (e5 : a5 ix = nI mx) (hm : mx ≤ 40) (e6 : a6 p = nI x) (hx : x ≤ 40)
    (e3 : a3 p = nI iy) (hj : iy < 8) (e5y : a5 iy = nI my) (hmy : my ≤ 40) (e7 : a7 p = nI y) (hy : y ≤ 40) (e5' : a5 p = nI m) (hm' : m < 40)
    (f : (mx ≤ x ∨ my ≤ y) → post 0 (w, h, a1, a2, a3, a4, a5, a6, a7, a8, a9, a10, a11))
    (g2 : x < mx → y < my → a1 p = 2 → ∀ v, post 1 (w, h, a1, a2, a3, a4, upd a5 p (nI (m + 1)), upd a6 p (nI (x + 1)), upd a7 p (nI (y + 1)), a8, upd a9 (p * 40 + m) v, a10, a11))
    (gx : x < mx → y < my → ¬ a1 p = 2 → ¬ a9 (iy * 40 + y) < a9 (ix * 40 + x) → ∀ v, post 1 (w, h, a1, a2, a3, a4, upd a5 p (nI (m + 1)), upd a6 p (nI (x + 1)), a7, a8, upd a9 (p * 40 + m) v, a10, a11))
    (gy : x < mx → y < my → ¬ a1 p = 2 → a9 (iy * 40 + y) < a9 (ix * 40 + x) → ∀ v, post 1 (w, h, a1, a2, a3, a4, upd a5 p (nI (m + 1)), a6, upd a7 p (nI (y + 1)), a8, upd a9 (p * 40 + m) v, a10, a11)) :
    wpX_stepPair post (w, h, a1, a2, a3, a4, a5, a6, a7, a8, a9, a10, a11) (nI p) := by
  unfold wpX_stepPair
  dsimp only
  refine pn_hasX hp e2 hi e5 hm e6 hx (fun z => br_t rfl (br_t rfl (f (Or.inl z)))) (fun z => br_f (by decide) ?_)
  refine pn_hasY hp e3 hj e5y hmy e7 hy (fun t => br_t rfl (br_t rfl (f (Or.inr t)))) (fun t => br_f (by decide) ?_)
  exact pn_pair21 hp e2 hi e6 (by omega) e3 hj e7 (by omega) e5' hm' (g2 z t) (gx z t) (gy z t)
end WALK
end
section
/-! what is known of the network -/
def pn_C (pr : Nat) (K IX IY : Nat → Nat) (nu : Int32) (a1 a2 a3 a4 : Nat → Int32) : Prop :=
  pr < 8 ∧ pn_m a1 K ∧ pn_m a2 IX ∧ pn_m a3 IY ∧ (∀ q, q < 8 → K q ≤ 7 ∧ IX q < 8 ∧ IY q < 8) ∧ (∀ q, q < 8 → q ≠ pr → K q = 1 ∧ a4 q = 0) ∧ a4 pr = nu
/-- the process that was set: made m, read x and y, its items f -/
def pn_P (k : Nat) (own both : Prop) (nu : Int32) (m x y : Nat) (f : Nat → Int32) : Prop :=
  (k = 0 → ∀ j, j < m → f j = nu + nI j) ∧
  (k = 1 → m ≤ 5) ∧
  (k = 2 → x = m ∧ y = m ∧ (both → m = 0)) ∧
  (k = 3 → ¬ both → x = (m + 1) / 2 ∧ y = m / 2) ∧
  (k = 4 → m = 0) ∧
  (k = 5 → (m = 0 ∧ x = 0) ∨ m = x + 1) ∧
  (k = 6 → (both → m = 0) ∧ (¬ both → x = m ∧ y = 0)) ∧
  (k = 7 → x = m ∧ (own → m = 0))
def pn_D (pr : Nat) (K IX IY : Nat → Nat) (nu : Int32) (M X Y : Nat → Nat) (it : Nat → Int32) : Prop :=
  (∀ q, q < 8 → M q ≤ 40 ∧ X q ≤ M (IX q) ∧ Y q ≤ M (IY q)) ∧
  (∀ q, q < 8 → q ≠ pr → M q ≤ 5 ∧ ∀ j, j < M q → it (q * 40 + j) = 0) ∧
  pn_P (K pr) (IX pr = pr) (IX pr = pr ∨ IY pr = pr) nu (M pr) (X pr) (Y pr) (fun j => it (pr * 40 + j))
/-- a process that can't go on -/
def pn_b (k m mx x my y : Nat) : Prop :=
  40 ≤ m ∨ (k = 1 ∧ 5 ≤ m) ∨ ((k = 2 ∨ k = 6) ∧ (mx ≤ x ∨ my ≤ y)) ∨ (k = 3 ∧ m % 2 = 0 ∧ mx ≤ x) ∨ (k = 3 ∧ m % 2 = 1 ∧ my ≤ y) ∨ ((k = 4 ∨ k = 7) ∧ mx ≤ x) ∨ (k = 5 ∧ m ≠ 0 ∧ mx ≤ x)
def pn_B (K IX IY M X Y : Nat → Nat) (q : Nat) : Prop := pn_b (K q) (M q) (M (IX q)) (X q) (M (IY q)) (Y q)
theorem pn_B_congr {K IX IY M X Y M' X' Y' : Nat → Nat} {q : Nat} (h1 : M' q = M q) (h2 : M' (IX q) = M (IX q)) (h3 : M' (IY q) = M (IY q)) (h4 : X' q = X q) (h5 : Y' q = Y q) (h : pn_B K IX IY M X Y q) : pn_B K IX IY M' X' Y' q := by
  unfold pn_B
  rw [h1, h2, h3, h4, h5]
  exact h
theorem pn_P_congr {k : Nat} {own both : Prop} {nu : Int32} {m x y : Nat} {f g : Nat → Int32} (h : pn_P k own both nu m x y f) (e : ∀ j, j < m → g j = f j) : pn_P k own both nu m x y g :=
  ⟨fun z j hj => (e j hj).trans (h.1 z j hj), h.2⟩
theorem pn_go {pr : Nat} {K IX IY : Nat → Nat} {nu : Int32} {M X Y : Nat → Nat} {it it' : Nat → Int32} {p m' x' y' : Nat} (D : pn_D pr K IX IY nu M X Y it) (hp : p < 8) (hl : M p < 40)
    (h1 : M p ≤ m') (h2 : m' ≤ 40) (hx : x' ≤ M (IX p)) (hy : y' ≤ M (IY p)) (hit : ∀ i, i ≠ p * 40 + M p → it' i = it i)
    (ho : p ≠ pr → m' ≤ 5 ∧ m' ≤ M p + 1 ∧ it' (p * 40 + M p) = 0)
    (hs : p = pr → pn_P (K pr) (IX pr = pr) (IX pr = pr ∨ IY pr = pr) nu m' x' y' (fun j => it' (pr * 40 + j))) :
    pn_D pr K IX IY nu (pn_u M p m') (pn_u X p x') (pn_u Y p y') it' := by
  have mono : ∀ z, M z ≤ pn_u M p m' z := by
    intro z
    by_cases e : z = p
    · rw [e, pn_us]
      exact h1
    · rw [pn_un e]
      exact Nat.le_refl _
  refine ⟨?_, ?_, ?_⟩
  · intro q hq
    obtain ⟨d1, d2, d3⟩ := D.1 q hq
    by_cases e : q = p
    · subst e
      refine ⟨by rw [pn_us]; exact h2, ?_, ?_⟩
      · rw [pn_us (M := X)]
        exact Nat.le_trans hx (mono _)
      · rw [pn_us (M := Y)]
        exact Nat.le_trans hy (mono _)
    · refine ⟨by rw [pn_un e]; exact d1, ?_, ?_⟩
      · rw [pn_un (M := X) e]
        exact Nat.le_trans d2 (mono _)
      · rw [pn_un (M := Y) e]
        exact Nat.le_trans d3 (mono _)
  · intro q hq hne
    obtain ⟨g1, g2⟩ := D.2.1 q hq hne
    by_cases e : q = p
    · subst e
      obtain ⟨o1, o2, o3⟩ := ho hne
      rw [pn_us]
      refine ⟨o1, fun j hj => ?_⟩
      by_cases ej : j = M q
      · rw [ej]
        exact o3
      · rw [hit _ (by omega)]
        exact g2 j (by omega)
    · rw [pn_un e]
      refine ⟨g1, fun j hj => ?_⟩
      rw [hit _ (by omega)]
      exact g2 j hj
  · by_cases e : pr = p
    · subst e
      rw [pn_us, pn_us, pn_us]
      exact hs rfl
    · rw [pn_un e, pn_un e, pn_un e]
      have hpr40 : M pr ≤ 40 ∨ ¬ pr < 8 := by
        by_cases z : pr < 8
        · exact Or.inl (D.1 pr z).1
        · exact Or.inr z
      refine pn_P_congr D.2.2 (fun j hj => hit _ ?_)
      omega
section STEP
variable {a1 a2 a3 a4 a5 a6 a7 a8 a9 a10 a11 : Nat → Int32} {w h nu : Int32} {pr p : Nat} {K IX IY M X Y : Nat → Nat}
theorem pn_step {post : Int32 → St2 → Prop} (C : pn_C pr K IX IY nu a1 a2 a3 a4) (m5 : pn_m a5 M) (m6 : pn_m a6 X) (m7 : pn_m a7 Y) (D : pn_D pr K IX IY nu M X Y a9) (hp : p < 8)
    (hB : pn_B K IX IY M X Y p → post 0 (w, h, a1, a2, a3, a4, a5, a6, a7, a8, a9, a10, a11))
    (hG : ∀ m' x' y' b5 b6 b7 b8 b9, pn_m b5 (pn_u M p m') → pn_m b6 (pn_u X p x') → pn_m b7 (pn_u Y p y') → pn_D pr K IX IY nu (pn_u M p m') (pn_u X p x') (pn_u Y p y') b9 → M p ≤ m' → M p + X p < m' + x' → post 1 (w, h, a1, a2, a3, a4, b5, b6, b7, b8, b9, a10, a11)) :
    wpX_step post (w, h, a1, a2, a3, a4, a5, a6, a7, a8, a9, a10, a11) (nI p) := by
  obtain ⟨hpr, m1, m2, m3, hK, hO, hnu⟩ := C
  obtain ⟨hk7, hix, hiy⟩ := hK p hp
  obtain ⟨hM40, hXle, hYle⟩ := D.1 p hp
  have hMx := (D.1 (IX p) hix).1
  have hMy := (D.1 (IY p) hiy).1
  have e1 := m1 p hp
  have e2 := m2 p hp
  have e3 := m3 p hp
  have e5 := m5 p hp
  have e6 := m6 p hp
  have e7 := m7 p hp
  have e5x := m5 (IX p) hix
  have e5y := m5 (IY p) hiy
  have hB' : pn_b (K p) (M p) (M (IX p)) (X p) (M (IY p)) (Y p) → post 0 (w, h, a1, a2, a3, a4, a5, a6, a7, a8, a9, a10, a11) := hB
  have own : K p ≠ 1 → p = pr := fun z => by
    by_cases e : p = pr
    · exact e
    · exact absurd (hO p hp e).1 z
  have zer : ∀ q j, q < 8 → q ≠ pr → j < M q → a9 (q * 40 + j) = 0 := fun q j hq hn hj => (D.2.1 q hq hn).2 j hj
  have keep : ∀ (v : Int32) (i : Nat), i ≠ p * 40 + M p → upd a9 (p * 40 + M p) v i = a9 i := fun v i hi => pk_un hi
  have hP := D.2.2
  unfold wpX_step
  dsimp only
  rw [nI_clamp (show p < 2 ^ 31 by omega), e5, e1]
  refine ⟨pk_in p 8 hp, nm_e (pk_lt (M p) 40 (fun hm => ⟨pk_in p 8 hp, nm_e ?_⟩) (fun hm => hB' (Or.inl hm)))⟩
  refine pk_lt (K p) 0 (fun z => absurd z (by omega)) (fun _ => pk_lt 6 (K p) (fun z => ?_) (fun z6 => pk_eq (K p) 0 (fun z => ⟨pk_in p 8 hp, ?_⟩) (fun z0 => pk_eq (K p) 1 (fun z => ?_) (fun z1 => pk_eq (K p) 2 (fun z => ?_) (fun z2 => pk_eq (K p) 3 (fun z => ?_) (fun z3 => pk_eq (K p) 4 (fun z => ?_) (fun z4 => pk_eq (K p) 5 (fun z => ?_) (fun z5 => pk_eq (K p) 6 (fun z => ?_) (fun _ => trivial)))))))))
  · -- the sum
    have k7 : K p = 7 := by omega
    obtain rfl := own (by omega)
    obtain ⟨_, _, _, _, _, _, _, P7⟩ := hP
    obtain ⟨P71, P72⟩ := P7 k7
    refine pn_stepSum hp e2 hix e5x hMx e6 (by omega) e5 hm (fun t => ⟨pn_nb0, hB' (by unfold pn_b; omega)⟩) (fun t b8 v => ⟨pn_nb1, ?_⟩)
    refine hG (M p + 1) (X p + 1) (Y p) _ _ _ _ _ (pn_mu m5 p _) (pn_mu m6 p _) (pn_mk m7 p) (pn_go D hp hm (by omega) (by omega) (by omega) hYle (keep v) (fun z => absurd rfl z) (fun _ => ?_)) (by omega) (by omega)
    refine ⟨fun _ => by omega, fun _ => by omega, fun _ => by omega, fun _ => by omega, fun _ => by omega, fun _ => by omega, fun _ => by omega, fun _ => ⟨by omega, fun o => ?_⟩⟩
    rw [o] at t
    have := P72 o
    omega
  · -- counting
    obtain rfl := own (by omega)
    refine pn_make hp e5 hm ⟨pn_nb1, ?_⟩
    refine hG (M p + 1) (X p) (Y p) _ _ _ _ _ (pn_mu m5 p _) (pn_mk m6 p) (pn_mk m7 p) (pn_go D hp hm (by omega) (by omega) hXle hYle (keep _) (fun z => absurd rfl z) (fun _ => ?_)) (by omega) (by omega)
    refine ⟨fun _ j hj => ?_, fun _ => by omega, fun _ => by omega, fun _ => by omega, fun _ => by omega, fun _ => by omega, fun _ => by omega, fun _ => by omega⟩
    by_cases ej : j = M p
    · rw [ej]
      dsimp only
      rw [pk_us, hnu]
    · dsimp only
      rw [keep _ _ (by omega)]
      exact hP.1 z j (by omega)
  · -- a list
    refine pk_le 5 (M p) (fun t => hB' (by unfold pn_b; omega)) (fun t => ⟨pk_in p 8 hp, pn_make hp e5 hm (br_f (by decide) ?_)⟩)
    refine hG (M p + 1) (X p) (Y p) _ _ _ _ _ (pn_mu m5 p _) (pn_mk m6 p) (pn_mk m7 p) (pn_go D hp hm (by omega) (by omega) hXle hYle (keep _) (fun z => ⟨by omega, by omega, ?_⟩) (fun e => ?_)) (by omega) (by omega)
    · dsimp only
      rw [pk_us, (hO p hp z).2]
      exact Int32.zero_mul
    · subst e
      exact ⟨fun _ => by omega, fun _ => by omega, fun _ => by omega, fun _ => by omega, fun _ => by omega, fun _ => by omega, fun _ => by omega, fun _ => by omega⟩
  · -- adding
    obtain rfl := own (by omega)
    obtain ⟨_, _, P2, _⟩ := hP
    obtain ⟨Px, Py, Pb⟩ := P2 z
    refine pn_stepPair hp e2 hix e5x hMx e6 (by omega) e3 hiy e5y hMy e7 (by omega) e5 hm (fun t => ⟨pn_nb0, hB' (by unfold pn_b; omega)⟩) (fun t s _ v => ⟨pn_nb1, ?_⟩) (fun _ _ n => absurd (e1.trans (by rw [z]; rfl)) n) (fun _ _ n => absurd (e1.trans (by rw [z]; rfl)) n)
    refine hG (M p + 1) (X p + 1) (Y p + 1) _ _ _ _ _ (pn_mu m5 p _) (pn_mu m6 p _) (pn_mu m7 p _) (pn_go D hp hm (by omega) (by omega) (by omega) (by omega) (keep v) (fun z => absurd rfl z) (fun _ => ?_)) (by omega) (by omega)
    refine ⟨fun _ => by omega, fun _ => by omega, fun _ => ⟨by omega, by omega, fun o => ?_⟩, fun _ => by omega, fun _ => by omega, fun _ => by omega, fun _ => by omega, fun _ => by omega⟩
    rcases o with o | o
    · rw [o] at t
      omega
    · rw [o] at s
      omega
  · -- taking turns
    obtain rfl := own (by omega)
    obtain ⟨_, _, _, P3, _⟩ := hP
    refine pn_stepTurn hp e2 hix e5x hMx e6 (by omega) e3 hiy e5y hMy e7 (by omega) e5 hm (fun t s => ⟨pn_nb0, hB' (by unfold pn_b; omega)⟩) (fun t s => ⟨pn_nb0, hB' (by unfold pn_b; omega)⟩) (fun t s v => ⟨pn_nb1, ?_⟩) (fun t s v => ⟨pn_nb1, ?_⟩)
    · refine hG (M p + 1) (X p + 1) (Y p) _ _ _ _ _ (pn_mu m5 p _) (pn_mu m6 p _) (pn_mk m7 p) (pn_go D hp hm (by omega) (by omega) (by omega) (by omega) (keep v) (fun z => absurd rfl z) (fun _ => ?_)) (by omega) (by omega)
      refine ⟨fun _ => by omega, fun _ => by omega, fun _ => by omega, fun _ b => ?_, fun _ => by omega, fun _ => by omega, fun _ => by omega, fun _ => by omega⟩
      have := P3 z b
      omega
    · refine hG (M p + 1) (X p) (Y p + 1) _ _ _ _ _ (pn_mu m5 p _) (pn_mk m6 p) (pn_mu m7 p _) (pn_go D hp hm (by omega) (by omega) (by omega) (by omega) (keep v) (fun z => absurd rfl z) (fun _ => ?_)) (by omega) (by omega)
      refine ⟨fun _ => by omega, fun _ => by omega, fun _ => by omega, fun _ b => ?_, fun _ => by omega, fun _ => by omega, fun _ => by omega, fun _ => by omega⟩
      have := P3 z b
      omega
  · -- the odd ones
    obtain rfl := own (by omega)
    obtain ⟨_, _, _, _, P4, _⟩ := hP
    have P4' := P4 z
    refine pn_stepOdd hp e2 hix e5x hMx e6 (by omega) e5 hm (fun t => ⟨pn_nb0, hB' (by unfold pn_b; omega)⟩) (fun t => ?_) (fun t => ⟨pn_nb1, ?_⟩)
    · refine zer (IX p) (X p) hix (fun o => ?_) t
      rw [o] at t
      omega
    · refine hG (M p) (X p + 1) (Y p) _ _ _ _ _ (pn_mk m5 p) (pn_mu m6 p _) (pn_mk m7 p) (pn_go D hp hm (by omega) (by omega) (by omega) (by omega) (fun _ _ => rfl) (fun z => absurd rfl z) (fun _ => ?_)) (by omega) (by omega)
      exact ⟨fun _ => by omega, fun _ => by omega, fun _ => by omega, fun _ => by omega, fun _ => by omega, fun _ => by omega, fun _ => by omega, fun _ => by omega⟩
  · -- the delay
    obtain rfl := own (by omega)
    obtain ⟨_, _, _, _, _, P5, _⟩ := hP
    have P5' := P5 z
    refine pn_stepDelay hp e2 hix e5x hMx e6 (by omega) e5 hm (fun s t => ⟨pn_nb0, hB' (by unfold pn_b; omega)⟩) (fun t v => ⟨pn_nb1, ?_⟩) (fun s t v => ⟨pn_nb1, ?_⟩)
    · refine hG (M p + 1) (X p) (Y p) _ _ _ _ _ (pn_mu m5 p _) (pn_mk m6 p) (pn_mk m7 p) (pn_go D hp hm (by omega) (by omega) (by omega) (by omega) (keep v) (fun z => absurd rfl z) (fun _ => ?_)) (by omega) (by omega)
      exact ⟨fun _ => by omega, fun _ => by omega, fun _ => by omega, fun _ => by omega, fun _ => by omega, fun _ => by omega, fun _ => by omega, fun _ => by omega⟩
    · refine hG (M p + 1) (X p + 1) (Y p) _ _ _ _ _ (pn_mu m5 p _) (pn_mu m6 p _) (pn_mk m7 p) (pn_go D hp hm (by omega) (by omega) (by omega) (by omega) (keep v) (fun z => absurd rfl z) (fun _ => ?_)) (by omega) (by omega)
      exact ⟨fun _ => by omega, fun _ => by omega, fun _ => by omega, fun _ => by omega, fun _ => by omega, fun _ => by omega, fun _ => by omega, fun _ => by omega⟩
  · -- merging
    obtain rfl := own (by omega)
    obtain ⟨_, _, _, _, _, _, P6, _⟩ := hP
    obtain ⟨Pb, Pn⟩ := P6 z
    have n2 : ¬ a1 p = 2 := by
      rw [e1, z]
      decide
    have nb : X p < M (IX p) → Y p < M (IY p) → ¬ (IX p = p ∨ IY p = p) := fun t s o => by
      have := Pb o
      rcases o with o | o
      · rw [o] at t
        omega
      · rw [o] at s
        omega
    refine pn_stepPair hp e2 hix e5x hMx e6 (by omega) e3 hiy e5y hMy e7 (by omega) e5 hm (fun t => ⟨pn_nb0, hB' (by unfold pn_b; omega)⟩) (fun _ _ n => absurd n n2) (fun t s _ _ v => ⟨pn_nb1, ?_⟩) (fun t s _ g => ?_)
    · have o := nb t s
      have := Pn o
      refine hG (M p + 1) (X p + 1) (Y p) _ _ _ _ _ (pn_mu m5 p _) (pn_mu m6 p _) (pn_mk m7 p) (pn_go D hp hm (by omega) (by omega) (by omega) (by omega) (keep v) (fun z => absurd rfl z) (fun _ => ?_)) (by omega) (by omega)
      exact ⟨fun _ => by omega, fun _ => by omega, fun _ => by omega, fun _ => by omega, fun _ => by omega, fun _ => by omega, fun _ => ⟨fun o' => absurd o' o, fun _ => by omega⟩, fun _ => by omega⟩
    · have o := nb t s
      rw [zer (IX p) (X p) hix (fun z => o (Or.inl z)) t, zer (IY p) (Y p) hiy (fun z => o (Or.inr z)) s] at g
      exact absurd g (by decide)
end STEP
end
section
section RUN
variable {a1 a2 a3 a4 a5 a6 a7 a8 a9 a10 a11 : Nat → Int32} {nu : Int32} {pr p w h : Nat} {K IX IY M X Y : Nat → Nat}
theorem pn_run68 {post : St2 → Prop} (hp : p < 8) (m2 : pn_m a2 IX) (m3 : pn_m a3 IY) (hI : ∀ q, q < 8 → K q ≤ 7 ∧ IX q < 8 ∧ IY q < 8) (R : pn_R w h a10 a11)
    (H : ∀ w' b10 b11, pn_R w' h b10 b11 → (∀ q, ¬ a11 q = 0 → ¬ b11 q = 0) → (∀ q, q < 8 → (IX q = p ∨ IY q = p) → ¬ b11 q = 0) → post (nI w', nI h, a1, a2, a3, a4, a5, a6, a7, a8, a9, b10, b11)) :
    ∃ n, wX_run_68 post (nI p) n 0 (nI w) (nI h) a1 a2 a3 a4 a5 a6 a7 a8 a9 a10 a11 := by
  refine pk_loop (fun n i (s : Nat × (Nat → Int32) × (Nat → Int32)) => wX_run_68 post (nI p) n (nI i) (nI s.1) (nI h) a1 a2 a3 a4 a5 a6 a7 a8 a9 s.2.1 s.2.2)
    (fun i s => pn_R s.1 h s.2.1 s.2.2 ∧ (∀ q, ¬ a11 q = 0 → ¬ s.2.2 q = 0) ∧ (∀ q, q < i → (IX q = p ∨ IY q = p) → ¬ s.2.2 q = 0)) 8 0 (w, a10, a11) (by omega) ⟨R, fun _ t => t, fun q hq => absurd hq (by omega)⟩
    (fun n s hs => pk_le 8 8 (fun _ => H s.1 s.2.1 s.2.2 hs.1 hs.2.1 hs.2.2) (fun z => absurd z (by omega))) ?_
  intro n i s hi hs hw
  obtain ⟨w1, r1, l1⟩ := s
  obtain ⟨R1, k1, k2⟩ := hs
  have wk : wX_run_97 post (wX_run_68 post (nI p) n) (nI p) (nI i) (nI w1) (nI h) a1 a2 a3 a4 a5 a6 a7 a8 a9 r1 l1 := by
    refine pn_wake R1 hi (fun w' b10 b11 R' hb mono => nm_r (nI_1 i) (hw (w', b10, b11) ⟨R', fun q t => mono q (k1 q t), fun q hq t => ?_⟩))
    by_cases e : q = i
    · rw [e]
      exact hb
    · exact mono q (k2 q (by omega) t)
  refine pk_le 8 i (fun z => absurd z (by omega)) (fun _ => ⟨pk_in i 8 hi, ?_⟩)
  rw [nI_clamp (show i < 2 ^ 31 by omega), m2 i hi, m3 i hi]
  obtain ⟨_, hx, hy⟩ := hI i hi
  refine pk_eq (IX i) p (fun _ => wk) (fun z => ⟨pk_in i 8 hi, pk_eq (IY i) p (fun _ => wk) (fun z' => nm_r (nI_1 i) (hw (w1, r1, l1) ⟨R1, k1, fun q hq t => ?_⟩))⟩)
  by_cases e : q = i
  · rw [e] at t
    exact absurd t (fun o => o.elim z z')
  · exact k2 q (by omega) t
theorem pn_run54 {post : St2 → Prop} {m0 : Nat} (hp : p < 8) (m2 : pn_m a2 IX) (m3 : pn_m a3 IY) (hI : ∀ q, q < 8 → K q ≤ 7 ∧ IX q < 8 ∧ IY q < 8) (m5 : pn_m a5 M) (h5 : M p ≤ 40) (h0 : m0 ≤ 40) (R : pn_R w h a10 a11)
    (H : ∀ w' b10 b11, pn_R w' h b10 b11 → (∀ q, ¬ a11 q = 0 → ¬ b11 q = 0) → (M p ≠ m0 → ∀ q, q < 8 → (IX q = p ∨ IY q = p) → ¬ b11 q = 0) → (M p = m0 → w' = w) → post (nI w', nI h, a1, a2, a3, a4, a5, a6, a7, a8, a9, b10, b11)) :
    wX_run_54 post (nI p) (nI m0) (nI w) (nI h) a1 a2 a3 a4 a5 a6 a7 a8 a9 a10 a11 := by
  unfold wX_run_54
  rw [nI_clamp (show p < 2 ^ 31 by omega), m5 p hp]
  refine ⟨pk_in p 8 hp, pk_eq (M p) m0 (fun z => H w a10 a11 R (fun _ t => t) (fun n => absurd z n) (fun _ => rfl)) (fun z => ?_)⟩
  exact pn_run68 hp m2 m3 hI R (fun w' b10 b11 R' k1 k2 => H w' b10 b11 R' k1 (fun _ => k2) (fun e => absurd e z))
theorem pn_run44 {post : St2 → Prop} {m0 : Nat} {b : Int32} (hp : p < 8) (m2 : pn_m a2 IX) (m3 : pn_m a3 IY) (hI : ∀ q, q < 8 → K q ≤ 7 ∧ IX q < 8 ∧ IY q < 8) (m5 : pn_m a5 M) (h5 : M p ≤ 40) (h0 : m0 ≤ 40) (R : pn_R w h a10 a11)
    (H : ∀ w' b10 b11, pn_R w' h b10 b11 → (∀ q, ¬ a11 q = 0 → ¬ b11 q = 0) → (¬ b = 0 → ¬ b11 p = 0) → (M p ≠ m0 → ∀ q, q < 8 → (IX q = p ∨ IY q = p) → ¬ b11 q = 0) → (b = 0 → M p = m0 → w' = w) → post (nI w', nI h, a1, a2, a3, a4, a5, a6, a7, a8, a9, b10, b11)) :
    wX_run_44 post (nI p) (nI m0) b (nI w) (nI h) a1 a2 a3 a4 a5 a6 a7 a8 a9 a10 a11 := by
  refine br_c (fun z => ?_) (fun z => ?_)
  · exact pn_run54 hp m2 m3 hI m5 h5 h0 R (fun w' b10 b11 R' k1 k2 k3 => H w' b10 b11 R' k1 (fun n => absurd z n) k2 (fun _ => k3))
  · refine pn_wake R hp (fun w1 c10 c11 R1 hc mono => ?_)
    exact pn_run54 hp m2 m3 hI m5 h5 h0 R1 (fun w' b10 b11 R' k1 k2 k3 => H w' b10 b11 R' (fun q t => k1 q (mono q t)) (fun _ => k1 p hc) k2 (fun e => absurd e z))
theorem pn_run13 {post : St2 → Prop} {x2 w h : Int32} {m0 : Nat} (C : pn_C pr K IX IY nu a1 a2 a3 a4) (hp : p < 8) (M0 X0 Y0 : Nat → Nat)
    (H : ∀ b M X Y a5 a6 a7 a8 a9, pn_m a5 M → pn_m a6 X → pn_m a7 Y → pn_D pr K IX IY nu M X Y a9 → (∀ q, q ≠ p → M q = M0 q ∧ X q = X0 q ∧ Y q = Y0 q) → M0 p ≤ M p → (b = 0 → pn_B K IX IY M X Y p) → (x2 = 120 → b = 0) → wX_run_44 post (nI p) (nI m0) b w h a1 a2 a3 a4 a5 a6 a7 a8 a9 a10 a11) :
    ∀ n b i M X Y a5 a6 a7 a8 a9, pn_m a5 M → pn_m a6 X → pn_m a7 Y → pn_D pr K IX IY nu M X Y a9 → (∀ q, q ≠ p → M q = M0 q ∧ X q = X0 q ∧ Y q = Y0 q) → M0 p ≤ M p →
      (b = 0 ∧ pn_B K IX IY M X Y p ∧ i ≤ 81 ∧ 0 < n) ∨ (b = 1 ∧ i ≤ M p + X p ∧ 82 < n + (M p + X p)) →
      wX_run_13 post (nI p) x2 (nI m0) n b (nI i) w h a1 a2 a3 a4 a5 a6 a7 a8 a9 a10 a11 := by
  have hix := (C.2.2.2.2.1 p hp).2.1
  intro n
  induction n with
  | zero =>
    intro b i M X Y a5 a6 a7 a8 a9 m5 m6 m7 D same hge hb
    have d1 := D.1 p hp
    have d2 := (D.1 (IX p) hix).1
    rcases hb with hb | hb
    · exact absurd hb.2.2.2 (by omega)
    · omega
  | succ n ih =>
    intro b i M X Y a5 a6 a7 a8 a9 m5 m6 m7 D same hge hb
    have d1 := D.1 p hp
    have d2 := (D.1 (IX p) hix).1
    have hb0 : b = 0 → pn_B K IX IY M X Y p := fun z => by
      rcases hb with hb | hb
      · exact hb.2.1
      · exact absurd (hb.1.symm.trans z) (by decide)
    have hi : i ≤ 81 := by
      rcases hb with hb | hb <;> omega
    refine br_c (fun z => ?_) (fun z => pk_le 120 i (fun z' => absurd z' (by omega)) (fun z' => br_c (fun z0 => ?_) (fun z0 => ?_)))
    · refine H b M X Y a5 a6 a7 a8 a9 m5 m6 m7 D same hge hb0 (fun e => ?_)
      rw [e] at z
      exact absurd z (nI_ge (a := i) (b := 120) (by omega) (by omega))
    · exact H b M X Y a5 a6 a7 a8 a9 m5 m6 m7 D same hge hb0 (fun _ => z0)
    · have hb1 : b = 1 ∧ i ≤ M p + X p ∧ 82 < n + 1 + (M p + X p) := by
        rcases hb with hb | hb
        · exact absurd hb.1 z0
        · exact hb
      obtain ⟨_, i1, i2⟩ := hb1
      refine pn_step C m5 m6 m7 D hp (fun hB => nm_r (nI_1 i) ?_) (fun m' x' y' b5 b6 b7 b8 b9 k5 k6 k7 D' g1 g2 => nm_r (nI_1 i) ?_)
      · exact ih 0 (i + 1) M X Y a5 a6 a7 a8 a9 m5 m6 m7 D same hge (Or.inl ⟨rfl, hB, by omega, by omega⟩)
      · refine ih 1 (i + 1) _ _ _ b5 b6 b7 b8 b9 k5 k6 k7 D' (fun q hq => ?_) ?_ (Or.inr ⟨rfl, ?_, ?_⟩)
        · rw [pn_un hq, pn_un hq, pn_un hq]
          exact same q hq
        · rw [pn_us]
          omega
        · rw [pn_us, pn_us]
          omega
        · rw [pn_us, pn_us]
          omega
theorem pn_run {post : St2 → Prop} {x2 : Int32} (C : pn_C pr K IX IY nu a1 a2 a3 a4) (m5 : pn_m a5 M) (m6 : pn_m a6 X) (m7 : pn_m a7 Y) (D : pn_D pr K IX IY nu M X Y a9) (R : pn_R w h a10 a11)
    (L : ∀ q, q < 8 → q ≠ p → a11 q = 0 → pn_B K IX IY M X Y q) (hp : p < 8)
    (H : ∀ M' X' Y' w' b5 b6 b7 b8 b9 b10 b11, pn_m b5 M' → pn_m b6 X' → pn_m b7 Y' → pn_D pr K IX IY nu M' X' Y' b9 → pn_R w' h b10 b11 → (∀ q, q < 8 → b11 q = 0 → pn_B K IX IY M' X' Y' q) → (∀ q, M q ≤ M' q) → (x2 = 120 → M' p = M p → w' = w) → post (nI w', nI h, a1, a2, a3, a4, b5, b6, b7, b8, b9, b10, b11)) :
    wpX_run post (nI w, nI h, a1, a2, a3, a4, a5, a6, a7, a8, a9, a10, a11) (nI p) x2 := by
  unfold wpX_run
  dsimp only
  rw [nI_clamp (show p < 2 ^ 31 by omega), m5 p hp]
  refine ⟨pk_in p 8 hp, nm_e ⟨83, ?_⟩⟩
  refine pn_run13 C hp M X Y (fun b M' X' Y' b5 b6 b7 b8 b9 k5 k6 k7 D' same hge hb hx => ?_) 83 1 0 M X Y a5 a6 a7 a8 a9 m5 m6 m7 D (fun q _ => ⟨rfl, rfl, rfl⟩) (Nat.le_refl _) (Or.inr ⟨rfl, by omega, by omega⟩)
  have d1 := D.1 p hp
  have d1' := D'.1 p hp
  refine pn_run44 hp C.2.2.1 C.2.2.2.1 C.2.2.2.2.1 k5 d1'.1 d1.1 R (fun w' b10 b11 R' mono kb kr kw => ?_)
  refine H M' X' Y' w' b5 b6 b7 b8 b9 b10 b11 k5 k6 k7 D' R' (fun q hq hz => ?_) (fun q => ?_) (fun e he => kw (hx e) he)
  · by_cases e : q = p
    · subst e
      by_cases z : b = 0
      · exact hb z
      · exact absurd hz (kb z)
    · have hz' : a11 q = 0 := by
        by_cases t : a11 q = 0
        · exact t
        · exact absurd hz (mono q t)
      have hq0 := L q hq e hz'
      obtain ⟨s1, s2, s3⟩ := same q e
      have rd : M' p = M p ∨ (IX q ≠ p ∧ IY q ≠ p) := by
        by_cases t : M' p = M p
        · exact Or.inl t
        · refine Or.inr ⟨fun o => kr t q hq (Or.inl o) hz, fun o => kr t q hq (Or.inr o) hz⟩
      refine pn_B_congr s1 ?_ ?_ s2 s3 hq0
      · by_cases t : IX q = p
        · rcases rd with rd | rd
          · rw [t]
            exact rd
          · exact absurd t rd.1
        · exact (same (IX q) t).1
      · by_cases t : IY q = p
        · rcases rd with rd | rd
          · rw [t]
            exact rd
          · exact absurd t rd.2
        · exact (same (IY q) t).1
  · by_cases e : q = p
    · rw [e]
      exact hge
    · rw [(same q e).1]
      exact Nat.le_refl _
theorem pn_settle2 {post : St2 → Prop} (C : pn_C pr K IX IY nu a1 a2 a3 a4)
    (H : ∀ M X Y h a5 a6 a7 a8 a9 a10 a11, pn_m a5 M → pn_m a6 X → pn_m a7 Y → pn_D pr K IX IY nu M X Y a9 → pn_R 0 h a10 a11 → (∀ q, q < 8 → pn_B K IX IY M X Y q) → post (nI 0, nI h, a1, a2, a3, a4, a5, a6, a7, a8, a9, a10, a11)) :
    ∀ n i w h M X Y a5 a6 a7 a8 a9 a10 a11, pn_m a5 M → pn_m a6 X → pn_m a7 Y → pn_D pr K IX IY nu M X Y a9 → pn_R w h a10 a11 → (∀ q, q < 8 → a11 q = 0 → pn_B K IX IY M X Y q) →
      i + w ≤ 8 + 9 * pn_sum M → 2889 ≤ n + i → wX_settle_2 post n (nI i) (nI w) (nI h) a1 a2 a3 a4 a5 a6 a7 a8 a9 a10 a11 := by
  intro n
  induction n with
  | zero =>
    intro i w h M X Y a5 a6 a7 a8 a9 a10 a11 m5 m6 m7 D R L h1 h2
    have s := pn_sum_40 (fun q hq => (D.1 q hq).1)
    omega
  | succ n ih =>
    intro i w h M X Y a5 a6 a7 a8 a9 a10 a11 m5 m6 m7 D R L h1 h2
    have s := pn_sum_40 (fun q hq => (D.1 q hq).1)
    have hw := pn_R_w R
    have hh := R.1
    refine pk_le 4000 i (fun z => absurd z (by omega)) (fun _ => pk_le w 0 (fun z => ?_) (fun z => ?_))
    · have e : w = 0 := by omega
      subst e
      exact H M X Y h a5 a6 a7 a8 a9 a10 a11 m5 m6 m7 D R (fun q hq => L q hq (pn_cnt_0 R.2.1.symm hq))
    · obtain ⟨w1, rfl⟩ : ∃ w1, w = w1 + 1 := ⟨w - 1, by omega⟩
      obtain ⟨q, hq, e1, e2, R'⟩ := pn_R_pop R
      have eh : (nI h + 1) &&& 7 = nI ((h + 1) % 8) := by
        rw [nI_1]
        exact pk_andN (by omega) 3 rfl
      refine ⟨pk_in h 8 hh, nm_r (e' := nI q) (by rw [nI_clamp (show h < 2 ^ 31 by omega)]; exact e1) (nm_r eh (nm_r (nI_pred w1) ⟨pk_in q 8 hq, nm_r (e' := upd a11 q 0) (by rw [nI_clamp (show q < 2 ^ 31 by omega)]) ?_⟩))⟩
      refine pn_run C m5 m6 m7 D R' (fun q' hq' hn hz => L q' hq' ?_) hq (fun M' X' Y' w' b5 b6 b7 b8 b9 b10 b11 k5 k6 k7 D' R'' L' mono kw => nm_r (nI_1 i) (ih (i + 1) w' _ M' X' Y' b5 b6 b7 b8 b9 b10 b11 k5 k6 k7 D' R'' L' ?_ (by omega)))
      · rw [pk_un hn] at hz
        exact hz
      · have hw' := pn_R_w R''
        by_cases t : M' q = M q
        · have e := kw rfl t
          have sl := pn_sum_le mono
          omega
        · have t' := mono q
          have sl := pn_sum_lt hq mono (by omega)
          omega
end RUN
end
section
/-! the plain law: where all are blocked, the process has made what is due -/
def pn_E (k : Nat) (own both : Prop) (m : Nat) : Prop :=
  (k = 0 → m = 40) ∧ (k = 1 → m = 5) ∧ (k = 2 ∨ k = 6 → (both → m = 0) ∧ (¬ both → m = 5)) ∧ (k = 3 → ¬ both → m = 10) ∧ (k = 4 → m = 0) ∧ (k = 5 → (own → m = 40) ∧ (¬ own → m = 6)) ∧ (k = 7 → (own → m = 0) ∧ (¬ own → m = 5))
theorem pn_due0 {m mx x my y : Nat} (b : pn_b 0 m mx x my y) (h : m ≤ 40) : m = 40 := by
  unfold pn_b at b
  omega
theorem pn_due1 {m mx x my y : Nat} (b : pn_b 1 m mx x my y) (h : m ≤ 5) : m = 5 := by
  unfold pn_b at b
  omega
theorem pn_due2 {m mx x my y : Nat} (b : pn_b 2 m mx x my y) (hx : mx = 5) (hy : my = 5) (h1 : x = m) (h2 : y = m) (h3 : x ≤ mx) : m = 5 := by
  unfold pn_b at b
  omega
theorem pn_due6 {m mx x my y : Nat} (b : pn_b 6 m mx x my y) (hx : mx = 5) (hy : my = 5) (h1 : x = m) (h2 : y = 0) (h3 : x ≤ mx) : m = 5 := by
  unfold pn_b at b
  omega
theorem pn_due3 {m mx x my y : Nat} (b : pn_b 3 m mx x my y) (hx : mx = 5) (hy : my = 5) (h1 : x = (m + 1) / 2) (h2 : y = m / 2) (h3 : x ≤ mx) (h4 : y ≤ my) : m = 10 := by
  unfold pn_b at b
  omega
theorem pn_due5 {m mx x my y : Nat} (b : pn_b 5 m mx x my y) (hx : mx = m) (h1 : (m = 0 ∧ x = 0) ∨ m = x + 1) (h : m ≤ 40) : m = 40 := by
  unfold pn_b at b
  omega
theorem pn_due5' {m mx x my y : Nat} (b : pn_b 5 m mx x my y) (hx : mx = 5) (h1 : (m = 0 ∧ x = 0) ∨ m = x + 1) (h : x ≤ mx) : m = 6 := by
  unfold pn_b at b
  omega
theorem pn_due7 {m mx x my y : Nat} (b : pn_b 7 m mx x my y) (hx : mx = 5) (h1 : x = m) (h : x ≤ mx) : m = 5 := by
  unfold pn_b at b
  omega
theorem pn_due {pr : Nat} {K IX IY : Nat → Nat} {nu : Int32} {M X Y : Nat → Nat} {a1 a2 a3 a4 it : Nat → Int32} (C : pn_C pr K IX IY nu a1 a2 a3 a4) (D : pn_D pr K IX IY nu M X Y it) (hB : ∀ q, q < 8 → pn_B K IX IY M X Y q) :
    pn_E (K pr) (IX pr = pr) (IX pr = pr ∨ IY pr = pr) (M pr) := by
  obtain ⟨hpr, _, _, _, hK, hO, _⟩ := C
  have oth : ∀ q, q < 8 → q ≠ pr → M q = 5 := by
    intro q hq hn
    have b : pn_b (K q) (M q) (M (IX q)) (X q) (M (IY q)) (Y q) := hB q hq
    rw [(hO q hq hn).1] at b
    exact pn_due1 b (D.2.1 q hq hn).1
  have b : pn_b (K pr) (M pr) (M (IX pr)) (X pr) (M (IY pr)) (Y pr) := hB pr hpr
  obtain ⟨_, hix, hiy⟩ := hK pr hpr
  have hX : IX pr ≠ pr → M (IX pr) = 5 := fun n => oth _ hix n
  have hY : IY pr ≠ pr → M (IY pr) = 5 := fun n => oth _ hiy n
  have hX' : IX pr = pr → M (IX pr) = M pr := fun n => by rw [n]
  obtain ⟨d1, d2, d3⟩ := D.1 pr hpr
  obtain ⟨P0, P1, P2, P3, P4, P5, P6, P7⟩ := D.2.2
  refine ⟨fun z => ?_, fun z => ?_, fun z => ⟨fun o => ?_, fun o => ?_⟩, fun z o => ?_, P4, fun z => ⟨fun o => ?_, fun o => ?_⟩, fun z => ⟨fun o => (P7 z).2 o, fun o => ?_⟩⟩
  · rw [z] at b
    exact pn_due0 b d1
  · rw [z] at b
    exact pn_due1 b (P1 z)
  · rcases z with z | z
    · exact (P2 z).2.2 o
    · exact (P6 z).1 o
  · have hx := hX (fun t => o (Or.inl t))
    have hy := hY (fun t => o (Or.inr t))
    rcases z with z | z
    · rw [z] at b
      exact pn_due2 b hx hy (P2 z).1 (P2 z).2.1 d2
    · rw [z] at b
      exact pn_due6 b hx hy ((P6 z).2 o).1 ((P6 z).2 o).2 d2
  · have hx := hX (fun t => o (Or.inl t))
    have hy := hY (fun t => o (Or.inr t))
    rw [z] at b
    exact pn_due3 b hx hy (P3 z o).1 (P3 z o).2 d2 d3
  · rw [z] at b
    exact pn_due5 b (hX' o) (P5 z) d1
  · rw [z] at b
    exact pn_due5' b (hX o) (P5 z) d2
  · rw [z] at b
    exact pn_due7 b (hX o) (P7 z).1 d2
/-- a state that fits the network -/
def pn_V (pr : Nat) (K IX IY : Nat → Nat) (nu : Int32) (u : St2) : Prop := match u with
  | (w, h, a1, a2, a3, a4, a5, a6, a7, _, a9, a10, a11) => ∃ (wn hn : Nat) (M X Y : Nat → Nat), w = nI wn ∧ h = nI hn ∧ pn_C pr K IX IY nu a1 a2 a3 a4 ∧ pn_m a5 M ∧ pn_m a6 X ∧ pn_m a7 Y ∧ pn_D pr K IX IY nu M X Y a9 ∧ pn_R wn hn a10 a11 ∧ ∀ q, q < 8 → a11 q = 0 → pn_B K IX IY M X Y q
/-- and nothing can go on -/
def pn_Z (pr : Nat) (K IX IY : Nat → Nat) (nu : Int32) (m : Nat) (u : St2) : Prop := match u with
  | (_, _, _, _, _, _, a5, _, _, _, a9, _, _) => pn_V pr K IX IY nu u ∧ pr < 8 ∧ a5 pr = nI m ∧ m ≤ 40 ∧ pn_E (K pr) (IX pr = pr) (IX pr = pr ∨ IY pr = pr) m ∧ (K pr = 0 → ∀ j, j < m → a9 (pr * 40 + j) = nu + nI j)
section OPS
variable {nu : Int32} {pr : Nat} {K IX IY : Nat → Nat}
theorem pn_Vpr {u : St2} (V : pn_V pr K IX IY nu u) : pr < 8 := by
  obtain ⟨w, h, a1, a2, a3, a4, a5, a6, a7, a8, a9, a10, a11⟩ := u
  obtain ⟨wn, hn, M, X, Y, _, _, C, _⟩ := V
  exact C.1
theorem pn_settle {post : St2 → Prop} (u : St2) (V : pn_V pr K IX IY nu u) (H : ∀ u' m, pn_Z pr K IX IY nu m u' → post u') : wpX_settle post u := by
  obtain ⟨w, h, a1, a2, a3, a4, a5, a6, a7, a8, a9, a10, a11⟩ := u
  obtain ⟨wn, hn, M, X, Y, ew, eh, C, m5, m6, m7, D, R, L⟩ := V
  subst ew eh
  have hw := pn_R_w R
  refine ⟨2889, pn_settle2 C (fun M' X' Y' h' b5 b6 b7 b8 b9 b10 b11 k5 k6 k7 D' R' hB => ?_) 2889 0 wn hn M X Y a5 a6 a7 a8 a9 a10 a11 m5 m6 m7 D R L (by omega) (by omega)⟩
  exact H _ (M' pr) ⟨⟨0, h', M', X', Y', rfl, rfl, C, k5, k6, k7, D', R', fun q hq _ => hB q hq⟩, C.1, k5 pr C.1, (D'.1 pr C.1).1, pn_due C D' hB, fun z => D'.2.2.1 z⟩
theorem pn_badb {post : Int32 → Prop} {x : Int32} (hb : x < 0 ∨ ¬ x < 8) (h : post 1) : wpX_bad post () x :=
  br_c (fun _ => h) (fun z => br_c (fun t => (hb.elim z (fun n => n t)).elim) (fun _ => h))
theorem pn_badg {post : Int32 → Prop} {j : Nat} (hj : j < 8) (h : post 0) : wpX_bad post () (nI j) :=
  br_f (nI_pos (by omega)) (br_t (nI_lt (b := 8) hj (by omega)) h)
theorem pn_ix8 (x : Int32) : (x < 0 ∨ ¬ x < 8) ∨ ∃ j, j < 8 ∧ x = nI j := by
  by_cases z : x < 0
  · exact Or.inl (Or.inl z)
  · by_cases t : x < 8
    · obtain ⟨j, hj, rfl⟩ := nI_of z
      exact Or.inr ⟨j, (nI_ltI (b := 8) hj (by omega)).mp t, rfl⟩
    · exact Or.inl (Or.inr t)
theorem pn_fire_b {post : Int32 → St2 → Prop} {u : St2} {x n : Int32} (hb : x < 0 ∨ ¬ x < 8) (h : post (-1) u) : wpX_fire post u x n := by
  obtain ⟨w, h, a1, a2, a3, a4, a5, a6, a7, a8, a9, a10, a11⟩ := u
  unfold wpX_fire
  dsimp only
  exact pn_badb hb (br_f (by decide) h)
theorem pn_fire_g {post : Int32 → St2 → Prop} {u : St2} {n : Int32} (V : pn_V pr K IX IY nu u) (H : ∀ u', pn_V pr K IX IY nu u' → post 0 u') : wpX_fire post u (nI pr) n := by
  have hpr := pn_Vpr V
  obtain ⟨w, h, a1, a2, a3, a4, a5, a6, a7, a8, a9, a10, a11⟩ := u
  obtain ⟨wn, hn, M, X, Y, ew, eh, C, m5, m6, m7, D, R, L⟩ := V
  subst ew eh
  unfold wpX_fire
  dsimp only
  refine pn_badg hpr (br_t rfl ?_)
  exact pn_run C m5 m6 m7 D R (fun q hq _ => L q hq) hpr (fun M' X' Y' w' b5 b6 b7 b8 b9 b10 b11 k5 k6 k7 D' R' L' _ _ => H _ ⟨w', hn, M', X', Y', rfl, rfl, C, k5, k6, k7, D', R', L'⟩)
theorem pn_length_b {post : Int32 → St2 → Prop} {u : St2} {x : Int32} (hb : x < 0 ∨ ¬ x < 8) (h : post (-1) u) : wpX_length post u x := by
  obtain ⟨w, h, a1, a2, a3, a4, a5, a6, a7, a8, a9, a10, a11⟩ := u
  unfold wpX_length
  dsimp only
  exact pn_badb hb (br_f (by decide) h)
theorem pn_length_g {post : Int32 → St2 → Prop} {u : St2} (V : pn_V pr K IX IY nu u) (H : ∀ u' m, pn_V pr K IX IY nu u' → m ≤ 40 → pn_E (K pr) (IX pr = pr) (IX pr = pr ∨ IY pr = pr) m → post (nI m) u') : wpX_length post u (nI pr) := by
  have hpr := pn_Vpr V
  obtain ⟨w, h, a1, a2, a3, a4, a5, a6, a7, a8, a9, a10, a11⟩ := u
  unfold wpX_length
  dsimp only
  refine pn_badg hpr (br_t rfl (pn_settle _ V (fun u' m Z => ?_)))
  obtain ⟨w', h', b1, b2, b3, b4, b5, b6, b7, b8, b9, b10, b11⟩ := u'
  obtain ⟨V', _, e, hm, E, _⟩ := Z
  refine ⟨pk_in pr 8 hpr, ?_⟩
  dsimp only
  rw [nI_clamp (show pr < 2 ^ 31 by omega), e]
  exact H _ m V' hm E
theorem pn_item_b {post : Int32 → St2 → Prop} {u : St2} {x i : Int32} (hb : x < 0 ∨ ¬ x < 8) (h : post (-1) u) : wpX_item post u x i := by
  obtain ⟨w, h, a1, a2, a3, a4, a5, a6, a7, a8, a9, a10, a11⟩ := u
  unfold wpX_item
  dsimp only
  exact pn_badb hb (br_f (by decide) h)
theorem pn_item_g {post : Int32 → St2 → Prop} {u : St2} {i : Int32} (V : pn_V pr K IX IY nu u) (k0 : K pr = 0)
    (f : ∀ u', (i < 0 ∨ ¬ i < 40) → pn_V pr K IX IY nu u' → post (-3) u') (g : ∀ u' j, j < 40 → i = nI j → pn_V pr K IX IY nu u' → post (nu + nI j) u') : wpX_item post u (nI pr) i := by
  have hpr := pn_Vpr V
  obtain ⟨w, h, a1, a2, a3, a4, a5, a6, a7, a8, a9, a10, a11⟩ := u
  unfold wpX_item
  dsimp only
  refine pn_badg hpr (br_t rfl (pn_settle _ V (fun u' m Z => ?_)))
  obtain ⟨w', h', b1, b2, b3, b4, b5, b6, b7, b8, b9, b10, b11⟩ := u'
  obtain ⟨V', _, e, _, E, I⟩ := Z
  have em : m = 40 := E.1 k0
  subst em
  refine br_c (fun z => f _ (Or.inl z) V') (fun z => ⟨pk_in pr 8 hpr, ?_⟩)
  dsimp only
  rw [nI_clamp (show pr < 2 ^ 31 by omega), e]
  refine br_c (fun t => ?_) (fun t => f _ (Or.inr t) V')
  obtain ⟨j, hj, rfl⟩ := nI_of z
  have hj40 : j < 40 := (nI_ltI hj (by omega)).mp t
  rw [pn_i40, nI_clamp (show pr * 40 + j < 2 ^ 31 by omega), I k0 j hj40]
  exact ⟨pk_in (pr * 40 + j) 320 (by omega), g _ j hj40 rfl V'⟩
end OPS
section START
variable {a1 a2 a3 a4 a5 a6 a7 a8 a9 a10 a11 : Nat → Int32}
theorem pn_restart61 {post : St2 → Prop} (R : pn_R 0 0 a10 a11) (H : ∀ w' b10 b11, pn_R w' 0 b10 b11 → (∀ q, q < 8 → ¬ b11 q = 0) → post (nI w', nI 0, a1, a2, a3, a4, a5, a6, a7, a8, a9, b10, b11)) :
    ∃ n, wX_restart_61 post n 0 0 0 a1 a2 a3 a4 a5 a6 a7 a8 a9 a10 a11 := by
  refine pk_loop (fun n i (s : Nat × (Nat → Int32) × (Nat → Int32)) => wX_restart_61 post n (nI i) (nI s.1) (nI 0) a1 a2 a3 a4 a5 a6 a7 a8 a9 s.2.1 s.2.2)
    (fun i s => pn_R s.1 0 s.2.1 s.2.2 ∧ (∀ q, q < i → ¬ s.2.2 q = 0)) 8 0 (0, a10, a11) (by omega) ⟨R, fun q hq => absurd hq (by omega)⟩
    (fun n s hs => pk_le 8 8 (fun _ => H s.1 s.2.1 s.2.2 hs.1 hs.2) (fun z => absurd z (by omega))) ?_
  intro n i s hi hs hw
  obtain ⟨w1, r1, l1⟩ := s
  obtain ⟨R1, k1⟩ := hs
  refine pk_le 8 i (fun z => absurd z (by omega)) (fun _ => ?_)
  refine pn_wake R1 hi (fun w' b10 b11 R' hb mono => nm_r (nI_1 i) (hw (w', b10, b11) ⟨R', fun q hq => ?_⟩))
  by_cases e : q = i
  · rw [e]
    exact hb
  · exact mono q (k1 q (by omega))
theorem pn_z {s : Nat → Int32} {i k q : Nat} (v : Int32) (h : ∀ q, q < i → s q = v) (hk : k = i) (hq : q < i + 1) : upd s k v q = v := by
  subst hk
  by_cases e : q = k
  · rw [e, pk_us]
  · rw [pk_un e]
    exact h q (by omega)
theorem pn_restart {post : St2 → Prop} {w h : Int32} (H : ∀ w' b5 b6 b7 b8 b10 b11, (∀ q, q < 8 → b5 q = 0) → (∀ q, q < 8 → b6 q = 0) → (∀ q, q < 8 → b7 q = 0) → pn_R w' 0 b10 b11 → (∀ q, q < 8 → ¬ b11 q = 0) → post (nI w', nI 0, a1, a2, a3, a4, b5, b6, b7, b8, a9, b10, b11)) :
    wpX_restart post (w, h, a1, a2, a3, a4, a5, a6, a7, a8, a9, a10, a11) := by
  refine pk_loop (fun n i (s : (Nat → Int32) × (Nat → Int32) × (Nat → Int32) × (Nat → Int32) × (Nat → Int32)) => wX_restart_12 post 0 0 n (nI i) a1 a2 a3 a4 s.1 s.2.1 s.2.2.1 s.2.2.2.1 a9 a10 s.2.2.2.2)
    (fun i s => (∀ q, q < i → s.1 q = 0) ∧ (∀ q, q < i → s.2.1 q = 0) ∧ (∀ q, q < i → s.2.2.1 q = 0) ∧ (∀ q, q < i → s.2.2.2.2 q = 0)) 8 0 (a5, a6, a7, a8, a11) (by omega)
    ⟨fun q hq => absurd hq (by omega), fun q hq => absurd hq (by omega), fun q hq => absurd hq (by omega), fun q hq => absurd hq (by omega)⟩
    (fun n s hs => pk_le 8 8 (fun _ => pn_restart61 (pn_R_0 hs.2.2.2) (fun w' b10 b11 R' k => H w' s.1 s.2.1 s.2.2.1 s.2.2.2.1 b10 b11 hs.1 hs.2.1 hs.2.2.1 R' k)) (fun z => absurd z (by omega))) ?_
  intro n i s hi hs hw
  obtain ⟨s5, s6, s7, s8, s11⟩ := s
  obtain ⟨k5, k6, k7, k11⟩ := hs
  have c : (nI i).toNatClampNeg = i := nI_clamp (by omega)
  refine pk_le 8 i (fun z => absurd z (by omega)) (fun _ => ⟨pk_in i 8 hi, nm_e ⟨pk_in i 8 hi, nm_e ⟨pk_in i 8 hi, nm_e ⟨pk_in i 8 hi, nm_e ⟨pk_in i 8 hi, nm_e (nm_r (nI_1 i) ?_)⟩⟩⟩⟩⟩)
  exact hw (upd s5 (nI i).toNatClampNeg 0, upd s6 (nI i).toNatClampNeg 0, upd s7 (nI i).toNatClampNeg 0, upd s8 (nI i).toNatClampNeg 0, upd s11 (nI i).toNatClampNeg 0)
    ⟨fun q hq => pn_z 0 k5 c hq, fun q hq => pn_z 0 k6 c hq, fun q hq => pn_z 0 k7 c hq, fun q hq => pn_z 0 k11 c hq⟩
theorem pn_init {post : St2 → Prop} {mc ms : Nat} (hc : 11 ≤ mc) (hs : 400 ≤ ms)
    (H : ∀ w' b1 b5 b6 b7 b8 b10 b11, (∀ q, q < 8 → b1 q = 1) → (∀ q, q < 8 → b5 q = 0) → (∀ q, q < 8 → b6 q = 0) → (∀ q, q < 8 → b7 q = 0) → pn_R w' 0 b10 b11 → (∀ q, q < 8 → ¬ b11 q = 0) → post (nI w', nI 0, b1, (fun _ => 0), (fun _ => 0), (fun _ => 0), b5, b6, b7, b8, (fun _ => 0), b10, b11)) :
    wpX_init post mc ms (0, 0) := by
  refine ⟨by omega, by omega, by omega, by omega, by omega, by omega, by omega, by omega, by omega, by omega, by omega, by omega, by omega, by omega, by omega, by omega, by omega, by omega, by omega, by omega, by omega, by omega, ?_⟩
  refine pk_loop (fun n i (s : Nat → Int32) => wX_init_95 post mc ms 11 400 0 0 n (nI i) s (fun _ => 0) (fun _ => 0) (fun _ => 0) (fun _ => 0) (fun _ => 0) (fun _ => 0) (fun _ => 0) (fun _ => 0) (fun _ => 0) (fun _ => 0))
    (fun i s => ∀ q, q < i → s q = 1) 8 0 (fun _ => 0) (by omega) (fun q hq => absurd hq (by omega))
    (fun n s hs => pk_le 8 8 (fun _ => pn_restart (fun w' b5 b6 b7 b8 b10 b11 k5 k6 k7 R k => H w' s b5 b6 b7 b8 b10 b11 hs k5 k6 k7 R k)) (fun z => absurd z (by omega))) ?_
  intro n i s hi hs hw
  refine pk_le 8 i (fun z => absurd z (by omega)) (fun _ => ⟨pk_in i 8 hi, nm_e (nm_r (nI_1 i) ?_)⟩)
  exact hw (upd s (nI i).toNatClampNeg 1) (fun q hq => pn_z 1 hs (nI_clamp (by omega)) hq)
theorem pn_V0 {pr w' : Nat} {K IX IY : Nat → Nat} {nu : Int32} (C : pn_C pr K IX IY nu a1 a2 a3 a4) (h5 : ∀ q, q < 8 → a5 q = 0) (h6 : ∀ q, q < 8 → a6 q = 0) (h7 : ∀ q, q < 8 → a7 q = 0) (R : pn_R w' 0 a10 a11) (k : ∀ q, q < 8 → ¬ a11 q = 0) :
    pn_V pr K IX IY nu (nI w', nI 0, a1, a2, a3, a4, a5, a6, a7, a8, a9, a10, a11) := by
  refine ⟨w', 0, fun _ => 0, fun _ => 0, fun _ => 0, rfl, rfl, C, h5, h6, h7, ⟨fun q _ => ⟨Nat.zero_le _, Nat.zero_le _, Nat.zero_le _⟩, fun q _ _ => ⟨Nat.zero_le _, fun j hj => absurd hj (Nat.not_lt_zero _)⟩, ?_⟩, R, fun q hq z => absurd z (k q hq)⟩
  exact ⟨fun _ j hj => absurd hj (Nat.not_lt_zero _), fun _ => Nat.zero_le _, fun _ => ⟨rfl, rfl, fun _ => rfl⟩, fun _ _ => ⟨show (0 : Nat) = (0 + 1) / 2 by omega, show (0 : Nat) = 0 / 2 by omega⟩, fun _ => rfl, fun _ => Or.inl ⟨rfl, rfl⟩, fun _ => ⟨fun _ => rfl, fun _ => ⟨rfl, rfl⟩⟩, fun _ => ⟨rfl, fun _ => rfl⟩⟩
theorem pn_C0 {pr : Nat} (hpr : pr < 8) (h1 : ∀ q, q < 8 → a1 q = 1) : pn_C pr (fun _ => 1) (fun _ => 0) (fun _ => 0) 0 a1 (fun _ => 0) (fun _ => 0) (fun _ => 0) :=
  ⟨hpr, h1, fun _ _ => rfl, fun _ _ => rfl, fun q _ => ⟨show 1 ≤ 7 by omega, show 0 < 8 by omega, show 0 < 8 by omega⟩, fun q _ _ => ⟨rfl, rfl⟩, rfl⟩
theorem pn_C1 {pr k ix iy : Nat} {nu : Int32} (hpr : pr < 8) (hk : k ≤ 7) (hx : ix < 8) (hy : iy < 8) (h1 : ∀ q, q < 8 → a1 q = 1) :
    pn_C pr (pn_u (fun _ => 1) pr k) (pn_u (fun _ => 0) pr ix) (pn_u (fun _ => 0) pr iy) nu (upd a1 pr (nI k)) (upd (fun _ => 0) pr (nI ix)) (upd (fun _ => 0) pr (nI iy)) (upd (fun _ => 0) pr nu) := by
  have t1 : pn_m a1 (fun _ => 1) := h1
  have t0 : pn_m (fun _ => 0) (fun _ => 0) := fun _ _ => rfl
  refine ⟨hpr, pn_mu t1 pr k, pn_mu t0 pr ix, pn_mu t0 pr iy, fun q _ => ?_, fun q _ hn => ⟨pn_un hn, pk_un hn⟩, pk_us⟩
  by_cases e : q = pr
  · rw [e, pn_us, pn_us, pn_us]
    exact ⟨hk, hx, hy⟩
  · rw [pn_un e, pn_un e, pn_un e]
    exact ⟨show 1 ≤ 7 by omega, show 0 < 8 by omega, show 0 < 8 by omega⟩
theorem pn_set_b {post : Int32 → St2 → Prop} {u : St2} {x k i n : Int32} (hb : x < 0 ∨ ¬ x < 8) (h : post (-1) u) : wpX_set post u x k i n := by
  obtain ⟨w, h, a1, a2, a3, a4, a5, a6, a7, a8, a9, a10, a11⟩ := u
  unfold wpX_set
  dsimp only
  exact pn_badb hb (br_f (by decide) h)
theorem pn_set_odd {post : Int32 → St2 → Prop} {u : St2} {pr : Nat} {k i n : Int32} (hpr : pr < 8) (hk : k < 0 ∨ ¬ k ≤ 7) (h : post (-2) u) : wpX_set post u (nI pr) k i n := by
  obtain ⟨w, h, a1, a2, a3, a4, a5, a6, a7, a8, a9, a10, a11⟩ := u
  unfold wpX_set
  dsimp only
  exact pn_badg hpr (br_t rfl (br_c (fun _ => h) (fun z => br_c (fun t => (hk.elim z (fun n => n t)).elim) (fun _ => h))))
theorem pn_set_g {post : Int32 → St2 → Prop} {w h : Int32} {pr k ix iy : Nat} {x2 nu : Int32} (hpr : pr < 8) (hk : k ≤ 7) (h1 : ∀ q, q < 8 → a1 q = 1) (ex : x2 &&& 7 = nI ix) (hx : ix < 8) (ey : (x2 >>> ((3 : Int32) &&& 31)) &&& 7 = nI iy) (hy : iy < 8)
    (H : ∀ u', pn_V pr (pn_u (fun _ => 1) pr k) (pn_u (fun _ => 0) pr ix) (pn_u (fun _ => 0) pr iy) nu u' → post 0 u') :
    wpX_set post (w, h, a1, (fun _ => 0), (fun _ => 0), (fun _ => 0), a5, a6, a7, a8, a9, a10, a11) (nI pr) (nI k) x2 nu := by
  unfold wpX_set
  dsimp only
  refine pn_badg hpr (br_t rfl (br_f (nI_pos (by omega)) (br_t (nI_le (b := 7) hk (by omega)) ?_)))
  rw [nI_clamp (show pr < 2 ^ 31 by omega), ex, ey]
  refine ⟨pk_in pr 8 hpr, nm_e ⟨pk_in pr 8 hpr, nm_e ⟨pk_in pr 8 hpr, nm_e ⟨pk_in pr 8 hpr, nm_e ?_⟩⟩⟩⟩
  exact pn_restart (fun w' b5 b6 b7 b8 b10 b11 k5 k6 k7 R k => H _ (pn_V0 (pn_C1 hpr hk hx hy h1) k5 k6 k7 R k))
theorem pn_exch_b {post : Int32 → St2 → Prop} {u : St2} {x y : Int32} (hb : x < 0 ∨ ¬ x < 8) (h : post (-1) u) : wpX_exchange post u x y := by
  obtain ⟨w, h, a1, a2, a3, a4, a5, a6, a7, a8, a9, a10, a11⟩ := u
  unfold wpX_exchange
  dsimp only
  exact pn_badb hb (br_f (by decide) h)
theorem pn_exch_b2 {post : Int32 → St2 → Prop} {u : St2} {p : Nat} {y : Int32} (hp : p < 8) (hb : y < 0 ∨ ¬ y < 8) (h : post (-1) u) : wpX_exchange post u (nI p) y := by
  obtain ⟨w, h, a1, a2, a3, a4, a5, a6, a7, a8, a9, a10, a11⟩ := u
  unfold wpX_exchange
  dsimp only
  exact pn_badg hp (br_t rfl (pn_badb hb (br_f (by decide) h)))
theorem pn_exch_g {post : Int32 → St2 → Prop} {u : St2} {p q : Nat} (hp : p < 8) (hq : q < 8) (H : ∀ u', post 0 u') : wpX_exchange post u (nI p) (nI q) := by
  obtain ⟨w, h, a1, a2, a3, a4, a5, a6, a7, a8, a9, a10, a11⟩ := u
  have ip : vp_in (nI p) 8 := pk_in p 8 hp
  have iq : vp_in (nI q) 8 := pk_in q 8 hq
  unfold wpX_exchange
  dsimp only
  refine pn_badg hp (br_t rfl (pn_badg hq (br_t rfl ⟨ip, nm_e ⟨iq, ip, nm_e ⟨iq, nm_e ⟨ip, nm_e ⟨iq, ip, nm_e ⟨iq, nm_e ⟨ip, nm_e ⟨iq, ip, nm_e ⟨iq, nm_e ⟨ip, nm_e ⟨iq, ip, nm_e ⟨iq, nm_e ?_⟩⟩⟩⟩⟩⟩⟩⟩⟩⟩⟩⟩)))
  exact pn_restart (fun w' b5 b6 b7 b8 b10 b11 _ _ _ _ _ => H _)
end START
end
section
theorem pn_78 {x : Int32} (h : x ≤ 7) : x < 8 := by
  have e7 : (7 : Int32).toInt = 7 := by decide
  have e8 : (8 : Int32).toInt = 8 := by decide
  rw [Int32.le_iff_toInt_le, e7] at h
  rw [Int32.lt_iff_toInt_lt, e8]
  omega
theorem pn_40 {x : Int32} (h : ¬ 40 ≤ x) : x < 40 := Int32.not_le.mp h
section BAD
variable {post : Int32 → St0 → Prop} {mc ms kc ks : Nat} {w h : Int32} {a1 a2 a3 a4 a5 a6 a7 a8 a9 a10 a11 : Nat → Int32} {x0 x1 x2 x3 x4 x5 x7 x8 x9 x10 x11 z0 : Int32}
theorem pn_342b (h1 : post 1 ()) (hb : x0 < 0 ∨ ¬ x0 < 8) (h7 : ¬ x7 = 0) : wL_lawOf_342 post mc ms x0 x4 x7 kc ks w h a1 a2 a3 a4 a5 a6 a7 a8 a9 a10 a11 := by
  unfold wL_lawOf_342
  exact pn_exch_b hb (br_f h7 (br_t rfl h1))
theorem pn_295b (h1 : post 1 ()) (hb : x0 < 0 ∨ ¬ x0 < 8) (h7 : ¬ x7 = 0) : wL_lawOf_295 post mc ms x0 x1 x3 x4 x7 kc ks w h a1 a2 a3 a4 a5 a6 a7 a8 a9 a10 a11 := by
  unfold wL_lawOf_295
  exact br_c (fun _ => pn_item_b hb (br_f h7 (br_t rfl (pn_342b h1 hb h7)))) (fun _ => pn_342b h1 hb h7)
theorem pn_254b (h1 : post 1 ()) (hb : x0 < 0 ∨ ¬ x0 < 8) (h7 : ¬ x7 = 0) : wL_lawOf_254 post mc ms x0 x1 x3 x4 x7 x10 x11 kc ks w h a1 a2 a3 a4 a5 a6 a7 a8 a9 a10 a11 := by
  unfold wL_lawOf_254
  exact pn_length_b hb (br_f h7 (br_t rfl (pn_295b h1 hb h7)))
theorem pn_229b (h1 : post 1 ()) (hb : x0 < 0 ∨ ¬ x0 < 8) (h7 : ¬ x7 = 0) : wL_lawOf_229 post mc ms x0 x1 x3 x4 x7 x10 z0 kc ks w h a1 a2 a3 a4 a5 a6 a7 a8 a9 a10 a11 := by
  have t : ∀ v, wL_lawOf_254 post mc ms x0 x1 x3 x4 x7 x10 v kc ks w h a1 a2 a3 a4 a5 a6 a7 a8 a9 a10 a11 := fun v => pn_254b h1 hb h7
  unfold wL_lawOf_229
  exact br_c (fun _ => br_c (fun _ => t 5) (fun _ => t 0)) (fun _ => br_c (fun _ => br_c (fun _ => t 5) (fun _ => t 0)) (fun _ => t z0))
theorem pn_145b (h1 : post 1 ()) (hb : x0 < 0 ∨ ¬ x0 < 8) (h7 : ¬ x7 = 0) : wL_lawOf_145 post mc ms x0 x1 x3 x4 x7 x8 x9 z0 kc ks w h a1 a2 a3 a4 a5 a6 a7 a8 a9 a10 a11 := by
  have f : ∀ v, wL_lawOf_229 post mc ms x0 x1 x3 x4 x7 z0 v kc ks w h a1 a2 a3 a4 a5 a6 a7 a8 a9 a10 a11 := fun v => pn_229b h1 hb h7
  unfold wL_lawOf_145
  exact br_c (fun _ => br_c (fun _ => f 5) (fun _ => br_c (fun _ => f 40) (fun _ => br_c (fun _ => br_c (fun _ => f 6) (fun _ => f 40)) (fun _ => br_c (fun _ => f 0) (fun _ => br_c (fun _ => br_c (fun _ => f 5) (fun _ => f 0)) (fun _ => br_c (fun _ => f 10) (fun _ => f 5))))))) (fun _ => f 5)
theorem pn_95b (h1 : post 1 ()) (hb : x0 < 0 ∨ ¬ x0 < 8) (h7 : ¬ x7 = 0) : wL_lawOf_95 post mc ms x0 x1 x2 x3 x4 x7 x8 (-1) (-1) kc ks w h a1 a2 a3 a4 a5 a6 a7 a8 a9 a10 a11 := by
  unfold wL_lawOf_95
  refine br_t rfl (br_f h7 ?_)
  unfold wL_lawOf_117 wL_lawOf_118
  refine br_t rfl (br_f h7 ?_)
  unfold wL_lawOf_144
  exact pn_145b h1 hb h7
theorem pn_72b (h1 : post 1 ()) (hb : x0 < 0 ∨ ¬ x0 < 8) (h7 : ¬ x7 = 0) : wL_lawOf_72 post mc ms x0 x1 x2 x3 x4 x5 x7 x8 (-1) (-1) kc ks w h a1 a2 a3 a4 a5 a6 a7 a8 a9 a10 a11 := by
  unfold wL_lawOf_72
  exact br_t rfl (pn_fire_b hb (br_f h7 (pn_95b h1 hb h7)))
theorem pn_41b (h1 : post 1 ()) (hb : x0 < 0 ∨ ¬ x0 < 8) (h7 : ¬ x7 = 0) : wL_lawOf_41 post mc ms x0 x1 x2 x3 x4 x5 x7 z0 kc ks w h a1 a2 a3 a4 a5 a6 a7 a8 a9 a10 a11 := by
  unfold wL_lawOf_41
  exact pn_set_b hb (br_f h7 (pn_72b h1 hb h7))
theorem pn_24b (h1 : post 1 ()) (hb : x0 < 0 ∨ ¬ x0 < 8) (h7 : ¬ x7 = 0) : wL_lawOf_24 post mc ms x0 x1 x2 x3 x4 x5 x7 kc ks w h a1 a2 a3 a4 a5 a6 a7 a8 a9 a10 a11 := by
  unfold wL_lawOf_24 wL_lawOf_36
  exact br_c (fun _ => pn_41b h1 hb h7) (fun _ => br_c (fun _ => pn_41b h1 hb h7) (fun _ => pn_41b h1 hb h7))
end BAD
section GOOD
variable {post : Int32 → St0 → Prop} {mc ms kc ks : Nat} {w h nu : Int32} {a1 a2 a3 a4 a5 a6 a7 a8 a9 a10 a11 : Nat → Int32} {x1 x2 x3 x4 x5 x8 x10 : Int32} {pr d k ix iy : Nat} {K IX IY : Nat → Nat}
theorem pn_342g (h1 : post 1 ()) (hpr : pr < 8) : wL_lawOf_342 post mc ms (nI pr) x4 0 kc ks w h a1 a2 a3 a4 a5 a6 a7 a8 a9 a10 a11 := by
  unfold wL_lawOf_342
  rcases pn_ix8 x4 with hb | ⟨j, hj, rfl⟩
  · exact pn_exch_b2 hpr hb (br_t rfl (br_c (fun _ => br_t rfl h1) (fun z => br_c (fun t => (hb.elim z (fun n => n (pn_78 t))).elim) (fun _ => br_t rfl h1))))
  · refine pn_exch_g hpr hj (fun u' => ?_)
    obtain ⟨w', h', b1, b2, b3, b4, b5, b6, b7, b8, b9, b10, b11⟩ := u'
    exact br_t rfl (br_f (nI_pos (by omega)) (br_t (nI_le (b := 7) (by omega) (by omega)) (br_t rfl h1)))
theorem pn_295g (h1 : post 1 ()) (V : pn_V pr K IX IY nu (w, h, a1, a2, a3, a4, a5, a6, a7, a8, a9, a10, a11)) (h0 : x1 = 0 → K pr = 0 ∧ nu = x3) : wL_lawOf_295 post mc ms (nI pr) x1 x3 x4 0 kc ks w h a1 a2 a3 a4 a5 a6 a7 a8 a9 a10 a11 := by
  have hpr := pn_Vpr V
  unfold wL_lawOf_295
  refine br_c (fun z => ?_) (fun _ => pn_342g h1 hpr)
  obtain ⟨k0, en⟩ := h0 z
  subst en
  refine pn_item_g V k0 (fun u' hi V' => ?_) (fun u' j hj e V' => ?_)
  · obtain ⟨w', h', b1, b2, b3, b4, b5, b6, b7, b8, b9, b10, b11⟩ := u'
    refine br_t rfl (br_c (fun _ => br_t rfl (pn_342g h1 hpr)) (fun z => br_c (fun _ => br_t rfl (pn_342g h1 hpr)) (fun t => ?_)))
    exact (hi.elim z (fun n => n (pn_40 t))).elim
  · obtain ⟨w', h', b1, b2, b3, b4, b5, b6, b7, b8, b9, b10, b11⟩ := u'
    subst e
    exact br_t rfl (br_f (nI_pos (by omega)) (br_f (nI_ge (b := 40) hj (by omega)) (br_t rfl (pn_342g h1 hpr))))
theorem pn_254g (h1 : post 1 ()) (V : pn_V pr K IX IY nu (w, h, a1, a2, a3, a4, a5, a6, a7, a8, a9, a10, a11)) (h0 : x1 = 0 → K pr = 0 ∧ nu = x3) (hd : d ≤ 40)
    (hE : ∀ m, pn_E (K pr) (IX pr = pr) (IX pr = pr ∨ IY pr = pr) m → m = d ∨ (x1 = 3 ∧ ¬ x10 = 0)) : wL_lawOf_254 post mc ms (nI pr) x1 x3 x4 0 x10 (nI d) kc ks w h a1 a2 a3 a4 a5 a6 a7 a8 a9 a10 a11 := by
  unfold wL_lawOf_254
  refine pn_length_g V (fun u' m V' hm E => ?_)
  obtain ⟨w', h', b1, b2, b3, b4, b5, b6, b7, b8, b9, b10, b11⟩ := u'
  refine br_t rfl (pk_eq m d (fun _ => pn_295g h1 V' h0) (fun n => ?_))
  rcases hE m E with e | ⟨e3, e10⟩
  · exact absurd e n
  · exact br_t e3 (br_f e10 (pn_295g h1 V' h0))
theorem pn_145o (h1 : post 1 ()) (V : pn_V pr K IX IY nu (w, h, a1, a2, a3, a4, a5, a6, a7, a8, a9, a10, a11)) (hk : K pr = 1) (hb : x1 < 0 ∨ ¬ x1 < 8) {x9 z0 : Int32} :
    wL_lawOf_145 post mc ms (nI pr) x1 x3 x4 0 1 x9 z0 kc ks w h a1 a2 a3 a4 a5 a6 a7 a8 a9 a10 a11 := by
  have n0 : ¬ x1 = 0 := fun e => by
    subst e
    exact absurd hb (by decide)
  have n2 : ¬ x1 = 2 := fun e => by
    subst e
    exact absurd hb (by decide)
  have n6 : ¬ x1 = 6 := fun e => by
    subst e
    exact absurd hb (by decide)
  unfold wL_lawOf_145
  refine br_f (by decide) ?_
  unfold wL_lawOf_157 wL_lawOf_229
  exact br_f n2 (br_f n6 (pn_254g (d := 5) h1 V (fun z => absurd z n0) (by omega) (fun m E => Or.inl (E.2.1 hk))))
theorem pn_145g (h1 : post 1 ()) (V : pn_V pr K IX IY nu (w, h, a1, a2, a3, a4, a5, a6, a7, a8, a9, a10, a11)) (hk7 : k < 8) (hk : K pr = k) (en : nu = x3) {x9 z0 : Int32} (h9 : ¬ x9 = 0 ↔ IX pr = pr) (hz : ¬ z0 = 0 ↔ (IX pr = pr ∨ IY pr = pr)) :
    wL_lawOf_145 post mc ms (nI pr) (nI k) x3 x4 0 0 x9 z0 kc ks w h a1 a2 a3 a4 a5 a6 a7 a8 a9 a10 a11 := by
  have h0 : nI k = 0 → K pr = 0 ∧ nu = x3 := fun z => ⟨hk.trans ((nI_eq (b := 0) (by omega) (by omega)).mp z), en⟩
  have g : ∀ d, d ≤ 40 → (∀ m, pn_E (K pr) (IX pr = pr) (IX pr = pr ∨ IY pr = pr) m → m = d ∨ (nI k = 3 ∧ ¬ z0 = 0)) → wL_lawOf_254 post mc ms (nI pr) (nI k) x3 x4 0 z0 (nI d) kc ks w h a1 a2 a3 a4 a5 a6 a7 a8 a9 a10 a11 := fun d hd hE => pn_254g h1 V h0 hd hE
  have n9 : x9 = 0 → ¬ IX pr = pr := fun z t => h9.mpr t z
  have nz : z0 = 0 → ¬ (IX pr = pr ∨ IY pr = pr) := fun z t => hz.mpr t z
  have g2 : K pr = 2 ∨ K pr = 6 → wL_lawOf_242 post mc ms (nI pr) (nI k) x3 x4 0 z0 kc ks w h a1 a2 a3 a4 a5 a6 a7 a8 a9 a10 a11 := fun hk2 => by
    unfold wL_lawOf_242 wL_lawOf_252
    exact br_c (fun z => g 5 (by omega) (fun m E => Or.inl ((E.2.2.1 hk2).2 (nz z)))) (fun z => g 0 (by omega) (fun m E => Or.inl ((E.2.2.1 hk2).1 (hz.mp z))))
  have f : ¬ nI k = 2 → ¬ nI k = 6 → ∀ d, d ≤ 40 → (∀ m, pn_E (K pr) (IX pr = pr) (IX pr = pr ∨ IY pr = pr) m → m = d ∨ (nI k = 3 ∧ ¬ z0 = 0)) → wL_lawOf_229 post mc ms (nI pr) (nI k) x3 x4 0 z0 (nI d) kc ks w h a1 a2 a3 a4 a5 a6 a7 a8 a9 a10 a11 := fun n2 n6 d hd hE => by
    unfold wL_lawOf_229
    exact br_f n2 (br_f n6 (g d hd hE))
  unfold wL_lawOf_145 wL_lawOf_157
  refine br_t rfl ?_
  rcases pn_8 hk7 with e | e | e | e | e | e | e | e <;> subst e
  · exact br_f (by decide) (br_t rfl (f (by decide) (by decide) 40 (by omega) (fun m E => Or.inl (E.1 hk))))
  · exact br_t rfl (f (by decide) (by decide) 5 (by omega) (fun m E => Or.inl (E.2.1 hk)))
  · refine br_f (by decide) (br_f (by decide) (br_f (by decide) (br_f (by decide) (br_f (by decide) (br_f (by decide) ?_)))))
    unfold wL_lawOf_229
    exact br_t rfl (g2 (Or.inl hk))
  · refine br_f (by decide) (br_f (by decide) (br_f (by decide) (br_f (by decide) (br_f (by decide) (br_t rfl (f (by decide) (by decide) 10 (by omega) (fun m E => ?_)))))))
    by_cases b : IX pr = pr ∨ IY pr = pr
    · exact Or.inr ⟨rfl, hz.mpr b⟩
    · exact Or.inl (E.2.2.2.1 hk b)
  · exact br_f (by decide) (br_f (by decide) (br_f (by decide) (br_t rfl (f (by decide) (by decide) 0 (by omega) (fun m E => Or.inl (E.2.2.2.2.1 hk))))))
  · exact br_f (by decide) (br_f (by decide) (br_t rfl (br_c (fun z => f (by decide) (by decide) 6 (by omega) (fun m E => Or.inl ((E.2.2.2.2.2.1 hk).2 (n9 z)))) (fun z => f (by decide) (by decide) 40 (by omega) (fun m E => Or.inl ((E.2.2.2.2.2.1 hk).1 (h9.mp z)))))))
  · refine br_f (by decide) (br_f (by decide) (br_f (by decide) (br_f (by decide) (br_f (by decide) (br_f (by decide) ?_)))))
    unfold wL_lawOf_229
    exact br_f (by decide) (br_t rfl (g2 (Or.inr hk)))
  · exact br_f (by decide) (br_f (by decide) (br_f (by decide) (br_f (by decide) (br_t rfl (br_c (fun z => f (by decide) (by decide) 5 (by omega) (fun m E => Or.inl ((E.2.2.2.2.2.2 hk).2 (n9 z)))) (fun z => f (by decide) (by decide) 0 (by omega) (fun m E => Or.inl ((E.2.2.2.2.2.2 hk).1 (h9.mp z)))))))))
theorem pn_95g (hpr : pr < 8) (ex : x2 &&& 7 = nI ix) (hx : ix < 8) (ey : (x2 >>> ((3 : Int32) &&& 31)) &&& 7 = nI iy) (hy : iy < 8)
    (H : ∀ x9 z0 : Int32, (¬ x9 = 0 ↔ ix = pr) → (¬ z0 = 0 ↔ (ix = pr ∨ iy = pr)) → wL_lawOf_145 post mc ms (nI pr) x1 x3 x4 0 x8 x9 z0 kc ks w h a1 a2 a3 a4 a5 a6 a7 a8 a9 a10 a11) :
    wL_lawOf_95 post mc ms (nI pr) x1 x2 x3 x4 0 x8 0 0 kc ks w h a1 a2 a3 a4 a5 a6 a7 a8 a9 a10 a11 := by
  have d1 : ¬ (1 : Int32) = 0 := by decide
  unfold wL_lawOf_95
  rw [ex]
  refine br_t rfl (br_t rfl (pk_eq ix pr (fun e => ?_) (fun n => ?_)))
  · unfold wL_lawOf_118 wL_lawOf_140
    exact br_f d1 (H 1 1 ⟨fun _ => e, fun _ => d1⟩ ⟨fun _ => Or.inl e, fun _ => d1⟩)
  · unfold wL_lawOf_117 wL_lawOf_118 wL_lawOf_140 wL_lawOf_144
    rw [ey]
    refine br_t rfl (br_t rfl (pk_eq iy pr (fun e => ?_) (fun n' => ?_)))
    · exact H 0 1 ⟨fun z => absurd rfl z, fun z => absurd z n⟩ ⟨fun _ => Or.inr e, fun _ => d1⟩
    · exact H 0 0 ⟨fun z => absurd rfl z, fun z => absurd z n⟩ ⟨fun z => absurd rfl z, fun z => (z.elim n n').elim⟩
theorem pn_72g (V : pn_V pr K IX IY nu (w, h, a1, a2, a3, a4, a5, a6, a7, a8, a9, a10, a11)) (z : Int32)
    (H : ∀ (w h : Int32) (a1 a2 a3 a4 a5 a6 a7 a8 a9 a10 a11 : Nat → Int32), pn_V pr K IX IY nu (w, h, a1, a2, a3, a4, a5, a6, a7, a8, a9, a10, a11) → wL_lawOf_95 post mc ms (nI pr) x1 x2 x3 x4 0 x8 0 0 kc ks w h a1 a2 a3 a4 a5 a6 a7 a8 a9 a10 a11) :
    wL_lawOf_72 post mc ms (nI pr) x1 x2 x3 x4 x5 0 x8 z z kc ks w h a1 a2 a3 a4 a5 a6 a7 a8 a9 a10 a11 := by
  unfold wL_lawOf_72
  refine br_t rfl (pn_fire_g V (fun u' V' => ?_))
  obtain ⟨w', h', b1, b2, b3, b4, b5, b6, b7, b8, b9, b10, b11⟩ := u'
  exact br_t rfl (H _ _ _ _ _ _ _ _ _ _ _ _ _ V')
theorem pn_24g {w' : Nat} (h1 : post 1 ()) (hpr : pr < 8) (k1 : ∀ q, q < 8 → a1 q = 1) (k5 : ∀ q, q < 8 → a5 q = 0) (k6 : ∀ q, q < 8 → a6 q = 0) (k7 : ∀ q, q < 8 → a7 q = 0) (R : pn_R w' 0 a10 a11) (kl : ∀ q, q < 8 → ¬ a11 q = 0) :
    wL_lawOf_24 post mc ms (nI pr) x1 x2 x3 x4 x5 0 kc ks (nI w') (nI 0) a1 (fun _ => 0) (fun _ => 0) (fun _ => 0) a5 a6 a7 a8 a9 a10 a11 := by
  obtain ⟨ix, hx, ex⟩ := pk_andE x2 (m := 7) 3 rfl
  obtain ⟨iy, hy, ey⟩ := pk_andE (x2 >>> ((3 : Int32) &&& 31)) (m := 7) 3 rfl
  unfold wL_lawOf_24 wL_lawOf_36
  rcases pn_ix8 x1 with hb | ⟨k, hk, rfl⟩
  · have hb7 : x1 < 0 ∨ ¬ x1 ≤ 7 := hb.elim Or.inl (fun n => Or.inr (fun t => n (pn_78 t)))
    have V := pn_V0 (a8 := a8) (a9 := a9) (pn_C0 hpr k1) k5 k6 k7 R kl
    have g : wL_lawOf_41 post mc ms (nI pr) x1 x2 x3 x4 x5 0 1 kc ks (nI w') (nI 0) a1 (fun _ => 0) (fun _ => 0) (fun _ => 0) a5 a6 a7 a8 a9 a10 a11 := by
      unfold wL_lawOf_41
      refine pn_set_odd hpr hb7 (br_t rfl (br_f (by decide) ?_))
      exact pn_72g V (-2) (fun w h a1 a2 a3 a4 a5 a6 a7 a8 a9 a10 a11 V' => pn_95g hpr ex hx ey hy (fun x9 z0 _ _ => pn_145o h1 V' rfl hb))
    exact br_c (fun _ => g) (fun z => br_c (fun t => (hb7.elim z (fun n => n t)).elim) (fun _ => g))
  · refine br_f (nI_pos (by omega)) (br_t (nI_le (b := 7) (by omega) (by omega)) ?_)
    unfold wL_lawOf_41
    refine pn_set_g hpr (by omega) k1 ex hx ey hy (fun u' V => ?_)
    obtain ⟨w', h', b1, b2, b3, b4, b5, b6, b7, b8, b9, b10, b11⟩ := u'
    refine br_t rfl (br_t rfl ?_)
    exact pn_72g V 0 (fun w h a1 a2 a3 a4 a5 a6 a7 a8 a9 a10 a11 V' => pn_95g hpr ex hx ey hy (fun x9 z0 f1 f2 => pn_145g h1 V' hk pn_us rfl (by rw [pn_us]; exact f1) (by rw [pn_us, pn_us]; exact f2)))
theorem pn_lawOf {p0 p1 p2 p3 p4 p5 : Int32} (h1 : post 1 ()) : wpL_lawOf post 228 3632 () p0 p1 p2 p3 p4 p5 := by
  refine ⟨by omega, by omega, 11, 400, by omega, by omega, pn_init (by omega) (by omega) (fun w' b1 b5 b6 b7 b8 b10 b11 k1 k5 k6 k7 R kl => ?_)⟩
  rcases pn_ix8 p0 with hb | ⟨pr, hpr, rfl⟩
  · have g : ∀ x7 : Int32, ¬ x7 = 0 → wL_lawOf_24 post 228 3632 p0 p1 p2 p3 p4 p5 x7 (1 + 11) (13 + 400) (nI w') (nI 0) b1 (fun _ => 0) (fun _ => 0) (fun _ => 0) b5 b6 b7 b8 (fun _ => 0) b10 b11 := fun x7 h7 => pn_24b h1 hb h7
    exact br_c (fun _ => g 1 (by decide)) (fun z => br_c (fun t => (hb.elim z (fun n => n (pn_78 t))).elim) (fun _ => g 1 (by decide)))
  · exact br_f (nI_pos (by omega)) (br_t (nI_le (b := 7) (by omega) (by omega)) (pn_24g h1 hpr k1 k5 k6 k7 R kl))
end GOOD
theorem pn_cell {post : Int32 → Prop} {L : Nat} {xs : Nat → Int32} {i : Int32} (hL : L ≤ 6) (j : Nat) (hj : j < 6) (hi : i = nI j) (H : ∀ v, post v) : wpL_cellAt post L xs () i := by
  subst hi
  exact pk_le L j (fun _ => H _) (fun z => ⟨pk_in j L z, H _⟩)
theorem i_vc (xs : Nat → Int32) (L : Nat) (hL : L ≤ 6) : wpL_law (fun r => r = 1) L xs := by
  unfold wpL_law
  refine pn_cell hL 0 (by omega) rfl (fun r1 => pn_cell hL 1 (by omega) rfl (fun r2 => pn_cell hL 2 (by omega) rfl (fun r3 => pn_cell hL 3 (by omega) rfl (fun r4 => pn_cell hL 4 (by omega) rfl (fun r5 => pn_cell hL 5 (by omega) rfl (fun r6 => ?_))))))
  exact ⟨228, 3632, by omega, by omega, pn_lawOf rfl⟩
end
