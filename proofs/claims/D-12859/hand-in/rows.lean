section
/-! the order: greatest (g not 0) or least (g = 0) -/
def bf_R (g a b : Int32) : Prop := (g = 0 → b ≤ a) ∧ (¬ g = 0 → a ≤ b)
theorem bf_R_tot (g a b : Int32) : bf_R g a b ∨ bf_R g b a := by
  by_cases hg : g = 0
  · rcases Int32.le_total a b with h | h
    · exact Or.inr ⟨fun _ => h, fun z => absurd hg z⟩
    · exact Or.inl ⟨fun _ => h, fun z => absurd hg z⟩
  · rcases Int32.le_total a b with h | h
    · exact Or.inl ⟨fun z => absurd z hg, fun _ => h⟩
    · exact Or.inr ⟨fun z => absurd z hg, fun _ => h⟩
theorem bf_R_rf (g a : Int32) : bf_R g a a := ⟨fun _ => Int32.le_refl a, fun _ => Int32.le_refl a⟩
theorem bf_R_tr {g a b c : Int32} (h : bf_R g a b) (h' : bf_R g b c) : bf_R g a c :=
  ⟨fun z => Int32.le_trans (h'.1 z) (h.1 z), fun z => Int32.le_trans (h.2 z) (h'.2 z)⟩
theorem bf_R_as {g a b : Int32} (h : bf_R g a b) (h' : bf_R g b a) : a = b := by
  by_cases hg : g = 0
  · exact Int32.le_antisymm (h'.1 hg) (h.1 hg)
  · exact Int32.le_antisymm (h.2 hg) (h'.2 hg)
/-- v is the best of f over the window of half width h around c, cut to 0..15 -/
def bf_B1 (g : Int32) (f : Nat → Int32) (h c : Nat) (v : Int32) : Prop :=
  (∃ j, j < 16 ∧ j ≤ c + h ∧ c ≤ j + h ∧ v = f j) ∧ ∀ j, j < 16 → j ≤ c + h → c ≤ j + h → bf_R g (f j) v
/-- the same over a box -/
def bf_B2 (g : Int32) (f : Nat → Nat → Int32) (w h r c : Nat) (v : Int32) : Prop :=
  (∃ i j, i < 16 ∧ j < 16 ∧ i ≤ r + h ∧ r ≤ i + h ∧ j ≤ c + w ∧ c ≤ j + w ∧ v = f i j) ∧
  ∀ i j, i < 16 → j < 16 → i ≤ r + h → r ≤ i + h → j ≤ c + w → c ≤ j + w → bf_R g (f i j) v
theorem bf_B2_un {g : Int32} {f : Nat → Nat → Int32} {w h r c : Nat} {v v' : Int32} (H : bf_B2 g f w h r c v) (H' : bf_B2 g f w h r c v') : v = v' := by
  obtain ⟨⟨i, j, hi, hj, h1, h2, h3, h4, e⟩, u⟩ := H
  obtain ⟨⟨i', j', hi', hj', h1', h2', h3', h4', e'⟩, u'⟩ := H'
  have x := u i' j' hi' hj' h1' h2' h3' h4'
  have x' := u' i j hi hj h1 h2 h3 h4
  rw [← e'] at x
  rw [← e] at x'
  exact bf_R_as x' x
/-- b is the raster a filtered with the box w, h -/
def bf_F (g : Int32) (w h : Nat) (a b : Nat → Int32) : Prop :=
  (∀ k, 256 ≤ k → b k = a k) ∧ ∀ r c, r < 16 → c < 16 → bf_B2 g (fun i j => a (i * 16 + j)) w h r c (b (r * 16 + c))
theorem bf_F_un {g : Int32} {w h : Nat} {a b b' : Nat → Int32} (H : bf_F g w h a b) (H' : bf_F g w h a b') : b = b' := by
  funext k
  by_cases hk : 256 ≤ k
  · rw [H.1 k hk, H'.1 k hk]
  · have e := bf_B2_un (H.2 (k / 16) (k % 16) (by omega) (by omega)) (H'.2 (k / 16) (k % 16) (by omega) (by omega))
    rw [show k / 16 * 16 + k % 16 = k by omega] at e
    exact e
theorem bf_mid (x y h h' : Nat) (hx : x < 16) (hy : y < 16) (h1 : y ≤ x + (h + h')) (h2 : x ≤ y + (h + h')) :
    ∃ z, z < 16 ∧ z ≤ x + h' ∧ x ≤ z + h' ∧ y ≤ z + h ∧ z ≤ y + h :=
  ⟨max (min y (x + h')) (x - h'), by omega, by omega, by omega, by omega, by omega⟩
theorem bf_F_comp {g : Int32} {w h w' h' : Nat} {a b c : Nat → Int32} (H : bf_F g w h a b) (H' : bf_F g w' h' b c) : bf_F g (w + w') (h + h') a c := by
  refine ⟨fun k hk => by rw [H'.1 k hk, H.1 k hk], fun r s hr hs => ⟨?_, ?_⟩⟩
  · obtain ⟨⟨i, j, hi, hj, h1, h2, h3, h4, e⟩, -⟩ := H'.2 r s hr hs
    obtain ⟨⟨i', j', hi', hj', h1', h2', h3', h4', e'⟩, -⟩ := H.2 i j hi hj
    refine ⟨i', j', hi', hj', by omega, by omega, by omega, by omega, ?_⟩
    rw [e]
    exact e'
  · intro i j hi hj h1 h2 h3 h4
    obtain ⟨y, y1, y2, y3, y4, y5⟩ := bf_mid r i h h' hr hi h1 h2
    obtain ⟨x, x1, x2, x3, x4, x5⟩ := bf_mid s j w w' hs hj h3 h4
    exact bf_R_tr ((H.2 y x y1 x1).2 i j hi hj y4 y5 x4 x5) ((H'.2 r s hr hs).2 y x y1 x1 y2 y3 x2 x3)
theorem bf_F_of {g : Int32} {w h : Nat} {a m b : Nat → Int32}
    (h1 : ∀ r c, r < 16 → c < 16 → bf_B1 g (fun i => a (r * 16 + i)) w c (m (r * 16 + c))) (h1' : ∀ k, 256 ≤ k → m k = a k)
    (h2 : ∀ c r, c < 16 → r < 16 → bf_B1 g (fun i => m (i * 16 + c)) h r (b (r * 16 + c))) (h2' : ∀ k, 256 ≤ k → b k = m k) : bf_F g w h a b := by
  refine ⟨fun k hk => by rw [h2' k hk, h1' k hk], fun r c hr hc => ⟨?_, ?_⟩⟩
  · obtain ⟨⟨i, hi, y1, y2, e⟩, -⟩ := h2 c r hc hr
    obtain ⟨⟨j, hj, z1, z2, e'⟩, -⟩ := h1 i c hi hc
    refine ⟨i, j, hi, hj, y1, y2, z1, z2, ?_⟩
    rw [e]
    exact e'
  · intro i j hi hj y1 y2 z1 z2
    exact bf_R_tr ((h1 i c hi hc).2 j hj z1 z2) ((h2 c r hc hr).2 i hi y1 y2)
theorem bf_ex1 (g : Int32) (f : Nat → Int32) (P : Nat → Prop) : ∀ n, (∃ j, j < n ∧ P j) → ∃ j, j < n ∧ P j ∧ ∀ i, i < n → P i → bf_R g (f i) (f j) := by
  intro n
  induction n with
  | zero => intro ⟨j, hj, _⟩; exact absurd hj (by omega)
  | succ n ih =>
    intro ⟨j, hj, pj⟩
    by_cases hx : ∃ j, j < n ∧ P j
    · obtain ⟨k, hk, pk, u⟩ := ih hx
      by_cases pn : P n
      · rcases bf_R_tot g (f n) (f k) with q | q
        · refine ⟨k, by omega, pk, fun i hi pi => ?_⟩
          by_cases e : i = n
          · rw [e]; exact q
          · exact u i (by omega) pi
        · refine ⟨n, by omega, pn, fun i hi pi => ?_⟩
          by_cases e : i = n
          · rw [e]; exact bf_R_rf g _
          · exact bf_R_tr (u i (by omega) pi) q
      · refine ⟨k, by omega, pk, fun i hi pi => ?_⟩
        by_cases e : i = n
        · exact absurd (e ▸ pi) pn
        · exact u i (by omega) pi
    · have e : j = n := by
        by_cases q : j = n
        · exact q
        · exact absurd ⟨j, by omega, pj⟩ hx
      subst e
      refine ⟨j, by omega, pj, fun i hi pi => ?_⟩
      by_cases e : i = j
      · rw [e]; exact bf_R_rf g _
      · exact absurd ⟨i, by omega, pi⟩ hx
theorem bf_F_ex (g : Int32) (w h : Nat) (a : Nat → Int32) : ∃ b, bf_F g w h a b := by
  have key : ∀ k : Nat, ∃ v : Int32, (256 ≤ k → v = a k) ∧ (k < 256 → bf_B2 g (fun i j => a (i * 16 + j)) w h (k / 16) (k % 16) v) := by
    intro k
    by_cases hk : 256 ≤ k
    · exact ⟨a k, fun _ => rfl, fun z => absurd z (by omega)⟩
    · obtain ⟨t, ht, ⟨p1, p2, p3, p4⟩, u⟩ := bf_ex1 g a (fun t => t / 16 ≤ k / 16 + h ∧ k / 16 ≤ t / 16 + h ∧ t % 16 ≤ k % 16 + w ∧ k % 16 ≤ t % 16 + w) 256 ⟨k, by omega, by omega, by omega, by omega, by omega⟩
      refine ⟨a t, fun z => absurd z hk, fun _ => ⟨⟨t / 16, t % 16, by omega, by omega, p1, p2, p3, p4, ?_⟩, fun i j hi hj q1 q2 q3 q4 => ?_⟩⟩
      · show a t = a (t / 16 * 16 + t % 16)
        rw [show t / 16 * 16 + t % 16 = t by omega]
      · have e1 : (i * 16 + j) / 16 = i := by omega
        have e2 : (i * 16 + j) % 16 = j := by omega
        refine u (i * 16 + j) (by omega) ?_
        rw [e1, e2]
        exact ⟨q1, q2, q3, q4⟩
  obtain ⟨b, hb⟩ := Classical.axiomOfChoice key
  refine ⟨b, fun k hk => (hb k).1 hk, fun r c hr hc => ?_⟩
  have e := (hb (r * 16 + c)).2 (by omega)
  rw [show (r * 16 + c) / 16 = r by omega, show (r * 16 + c) % 16 = c by omega] at e
  exact e
/-! the queue of candidates: m pushed, all live ones at lo or above -/
def bf_Q (g : Int32) (f : Nat → Int32) (m lo hd tl : Nat) (q : Nat → Nat) : Prop :=
  hd ≤ tl ∧ tl ≤ m ∧ (∀ p, hd ≤ p → p < tl → q p < m ∧ lo ≤ q p) ∧
  (∀ p p', hd ≤ p → p < p' → p' < tl → q p < q p' ∧ bf_R g (f (q p')) (f (q p))) ∧
  (∀ j, j < m → lo ≤ j → ∃ p, hd ≤ p ∧ p < tl ∧ j ≤ q p ∧ bf_R g (f j) (f (q p)))
theorem bf_Q_0 (g : Int32) (f : Nat → Int32) (q : Nat → Nat) : bf_Q g f 0 0 0 0 q :=
  ⟨by omega, by omega, fun p _ h => absurd h (by omega), fun p p' _ _ h => absurd h (by omega), fun j h => absurd h (by omega)⟩
theorem bf_Q_push {g : Int32} {f : Nat → Int32} {m lo hd tl : Nat} {q : Nat → Nat} (Q : bf_Q g f m lo hd tl q) (t : Nat) (ht : hd ≤ t) (ht' : t ≤ tl)
    (hp : ∀ p, t ≤ p → p < tl → bf_R g (f (q p)) (f m)) (hl : hd < t → bf_R g (f m) (f (q (t - 1)))) (hlo : lo ≤ m) :
    bf_Q g f (m + 1) lo hd (t + 1) (fun p => if p = t then m else q p) := by
  obtain ⟨q1, q2, q3, q4, q5⟩ := Q
  refine ⟨by omega, by omega, ?_, ?_, ?_⟩
  · intro p h1 h2
    by_cases e : p = t
    · simp only [e, if_true]; omega
    · simp only [e, if_false]
      have := q3 p h1 (by omega)
      omega
  · intro p p' h1 h2 h3
    have e : ¬ p = t := by omega
    by_cases e' : p' = t
    · simp only [e, e', if_true, if_false]
      refine ⟨(q3 p h1 (by omega)).1, ?_⟩
      by_cases e2 : p = t - 1
      · rw [e2]; exact hl (by omega)
      · exact bf_R_tr (hl (by omega)) (q4 p (t - 1) h1 (by omega) (by omega)).2
    · simp only [e, e', if_false]
      exact q4 p p' h1 h2 (by omega)
  · intro j h1 h2
    by_cases e : j = m
    · refine ⟨t, ht, by omega, ?_⟩
      simp only [if_true]
      exact ⟨by omega, by rw [e]; exact bf_R_rf g _⟩
    · obtain ⟨p, p1, p2, p3, p4⟩ := q5 j (by omega) h2
      by_cases e2 : p < t
      · refine ⟨p, p1, by omega, ?_⟩
        have e3 : ¬ p = t := by omega
        simp only [e3, if_false]
        exact ⟨p3, p4⟩
      · refine ⟨t, ht, by omega, ?_⟩
        simp only [if_true]
        exact ⟨by omega, bf_R_tr p4 (hp p (by omega) p2)⟩
theorem bf_Q_ne {g : Int32} {f : Nat → Int32} {m lo hd tl : Nat} {q : Nat → Nat} (Q : bf_Q g f m lo hd tl q) (hm : 0 < m) (hlo : lo ≤ m - 1) : hd < tl := by
  obtain ⟨p, p1, p2, -⟩ := Q.2.2.2.2 (m - 1) (by omega) hlo
  omega
theorem bf_Q_stay {g : Int32} {f : Nat → Int32} {m lo lo' hd tl : Nat} {q : Nat → Nat} (Q : bf_Q g f m lo hd tl q) (h : lo ≤ lo') (h' : lo' ≤ q hd) : bf_Q g f m lo' hd tl q := by
  obtain ⟨q1, q2, q3, q4, q5⟩ := Q
  refine ⟨q1, q2, ?_, q4, fun j j1 j2 => q5 j j1 (by omega)⟩
  intro p h1 h2
  refine ⟨(q3 p h1 h2).1, ?_⟩
  by_cases e : p = hd
  · rw [e]; exact h'
  · have := (q4 hd p (by omega) (by omega) h2).1
    omega
theorem bf_Q_pop {g : Int32} {f : Nat → Int32} {m lo lo' hd tl : Nat} {q : Nat → Nat} (Q : bf_Q g f m lo hd tl q) (hn : hd < tl) (h : lo' ≤ lo + 1) (h' : q hd < lo') : bf_Q g f m lo' (hd + 1) tl q := by
  obtain ⟨q1, q2, q3, q4, q5⟩ := Q
  have z := (q3 hd (by omega) hn).2
  refine ⟨by omega, q2, ?_, fun p p' h1 h2 h3 => q4 p p' (by omega) h2 h3, ?_⟩
  · intro p h1 h2
    refine ⟨(q3 p (by omega) h2).1, ?_⟩
    have := (q4 hd p (by omega) (by omega) h2).1
    omega
  · intro j j1 j2
    obtain ⟨p, p1, p2, p3, p4⟩ := q5 j j1 (by omega)
    refine ⟨p, ?_, p2, p3, p4⟩
    by_cases e : p = hd
    · rw [e] at p3; omega
    · omega
theorem bf_Q_best {g : Int32} {f : Nat → Int32} {m lo hd tl : Nat} {q : Nat → Nat} (Q : bf_Q g f m lo hd tl q) (j : Nat) (hj : j < m) (hj' : lo ≤ j) : bf_R g (f j) (f (q hd)) := by
  obtain ⟨q1, q2, q3, q4, q5⟩ := Q
  obtain ⟨p, p1, p2, p3, p4⟩ := q5 j hj hj'
  by_cases e : p = hd
  · rw [e] at p4; exact p4
  · exact bf_R_tr p4 (q4 hd p (by omega) (by omega) p2).2
/-! what has been written: centers c with c + half < i -/
def bf_O (g : Int32) (start step half : Nat) (a : Nat → Int32) (i : Nat) (b : Nat → Int32) : Prop :=
  (∀ c, c < 16 → c + half < i → bf_B1 g (fun j => a (start + j * step)) half c (b (start + c * step))) ∧
  (∀ k, (∀ c, c < 16 → c + half < i → k ≠ start + c * step) → b k = a k)
theorem bf_O_0 (g : Int32) (start step half : Nat) (a : Nat → Int32) : bf_O g start step half a 0 a :=
  ⟨fun c _ h => absurd h (by omega), fun k _ => rfl⟩
theorem bf_O_skip {g : Int32} {start step half i : Nat} {a b : Nat → Int32} (O : bf_O g start step half a i b) (h : i < half) : bf_O g start step half a (i + 1) b :=
  ⟨fun c _ h' => absurd h' (by omega), fun k hk => O.2 k (fun c h1 h2 => absurd h2 (by omega))⟩
theorem bf_O_add {g : Int32} {start step half c : Nat} {a b : Nat → Int32} {v : Int32} (O : bf_O g start step half a (c + half) b) (hs : 0 < step)
    (hv : bf_B1 g (fun j => a (start + j * step)) half c v) (hc : c < 16) : bf_O g start step half a (c + half + 1) (upd b (start + c * step) v) := by
  refine ⟨?_, ?_⟩
  · intro d h1 h2
    by_cases e : d = c
    · rw [e, pk_us]; exact hv
    · have l : d < c := by omega
      have l2 : d * step < c * step := Nat.mul_lt_mul_of_pos_right l hs
      rw [pk_un (by omega)]
      exact O.1 d h1 (by omega)
  · intro k hk
    rw [pk_un (hk c hc (by omega))]
    exact O.2 k (fun d h1 h2 => hk d h1 (by omega))
end
section
theorem bf_cmp {c h q : Nat} (hc : c < 1000) (hh : h < 1000) (hq : q < 1000) : nI c - nI h ≤ nI q ↔ c ≤ q + h := by
  rw [Int32.le_iff_toInt_le, pk_sub_toInt (by omega) (by omega), nI_toInt (by omega)]
  omega
theorem bf_out {post : Int32 → Prop} {g : Int32} {a1 a2 a3 a4 a5 a6 a7 : Nat → Int32} {i q : Nat} (hi : i < 16) (hq : q < 16)
    (H1 : bf_R g (a4 q) (a4 i) → post 1) (H0 : ¬ bf_R g (a4 q) (a4 i) → post 0) : wpX_outdoes post (a1, a2, a3, a4, a5, a6, a7) (nI i) (nI q) g := by
  unfold wpX_outdoes
  dsimp only
  rw [nI_clamp (show i < 2 ^ 31 by omega), nI_clamp (show q < 2 ^ 31 by omega)]
  refine br_c (fun hg => ⟨vp_in_nI hi (by decide), vp_in_nI hq (by decide), br_c (fun z => H0 (fun r => ?_)) (fun z => H1 ?_)⟩) (fun hg => ⟨vp_in_nI hi (by decide), vp_in_nI hq (by decide), br_c (fun z => H0 (fun r => ?_)) (fun z => H1 ?_)⟩)
  · exact absurd z (Int32.not_lt.mpr (r.1 hg))
  · exact ⟨fun _ => Int32.not_lt.mp z, fun t => absurd hg t⟩
  · exact absurd z (Int32.not_lt.mpr (r.2 hg))
  · exact ⟨fun t => absurd t hg, fun _ => Int32.not_lt.mp z⟩
theorem bf_132 {post : St1 → Prop} {J : Int32 → Int32 → Int32 → (Nat → Int32) → (Nat → Int32) → (Nat → Int32) → (Nat → Int32) → (Nat → Int32) → (Nat → Int32) → (Nat → Int32) → Prop}
    {x3 g x6 : Int32} {a1 a2 a3 a4 a5 a6 a7 : Nat → Int32} {start step hd i c q : Nat} (h1 : hd < 16) (h2 : a5 hd = nI q) (h3 : q < 16) (h4 : start + c * step < 256)
    (H : J (nI hd) x6 (nI (i + 1)) (upd a1 (start + c * step) (a4 q)) a2 a3 a4 a5 a6 a7) :
    wX_filterLine_132 post J (nI start) (nI step) x3 g (nI hd) x6 (nI i) (nI c) a1 a2 a3 a4 a5 a6 a7 := by
  unfold wX_filterLine_132
  have e2 : nI start + nI c * nI step = nI (start + c * step) := by rw [pk_mul, nI_add]
  rw [nI_clamp (show hd < 2 ^ 31 by omega), h2, e2, nI_clamp (show q < 2 ^ 31 by omega), nI_clamp (show start + c * step < 2 ^ 31 by omega)]
  exact ⟨vp_in_nI h1 (by decide), vp_in_nI h3 (by decide), vp_in_nI h4 (by decide), nm_e (nm_r (nI_1 i) H)⟩
/-- the state at the head of the main loop -/
def bf_I (g : Int32) (start step half : Nat) (a : Nat → Int32) (i hd tl : Nat) (q : Nat → Nat) (a1 a4 a5 : Nat → Int32) : Prop :=
  bf_Q g a4 (min i 16) (i - 1 - 2 * half) hd tl q ∧ (∀ p, hd ≤ p → p < tl → a5 p = nI (q p)) ∧ bf_O g start step half a i a1
theorem bf_104 {post : St1 → Prop} {J : Int32 → Int32 → Int32 → (Nat → Int32) → (Nat → Int32) → (Nat → Int32) → (Nat → Int32) → (Nat → Int32) → (Nat → Int32) → (Nat → Int32) → Prop}
    {g : Int32} {a a1 a2 a3 a4 a5 a6 a7 : Nat → Int32} {start step half hd tl i : Nat} {q : Nat → Nat} (hst : ∀ c, c < 16 → start + c * step < 256) (hs : 0 < step) (hh : half ≤ 7)
    (hi : i < 16 + half) (hl : ∀ j, j < 16 → a4 j = a (start + j * step)) (Q : bf_Q g a4 (min (i + 1) 16) (i - 1 - 2 * half) hd tl q) (hq : ∀ p, hd ≤ p → p < tl → a5 p = nI (q p))
    (O : bf_O g start step half a i a1)
    (H : ∀ hd' a1', bf_I g start step half a (i + 1) hd' tl q a1' a4 a5 → J (nI hd') (nI tl) (nI (i + 1)) a1' a2 a3 a4 a5 a6 a7) :
    wX_filterLine_104 post J (nI start) (nI step) (nI half) g (nI hd) (nI tl) (nI i) a1 a2 a3 a4 a5 a6 a7 := by
  unfold wX_filterLine_104
  refine nm_e ?_
  by_cases hc : i < half
  · refine br_t (pk_sneg (by omega) hc) (nm_r (nI_1 i) (H hd a1 ⟨?_, hq, bf_O_skip O hc⟩))
    rw [show i + 1 - 1 - 2 * half = i - 1 - 2 * half by omega]
    exact Q
  · obtain ⟨c, rfl⟩ : ∃ c, i = c + half := ⟨i - half, by omega⟩
    have e : nI (c + half) - nI half = nI c := by rw [pk_sub (by omega), Nat.add_sub_cancel]
    have hn : hd < tl := bf_Q_ne Q (by omega) (by omega)
    have ht : tl ≤ 16 := by have := Q.2.1; omega
    have hqh := Q.2.2.1 hd (by omega) hn
    rw [e]
    refine br_f (nI_pos (by omega)) ⟨vp_in_nI (by omega) (by decide), ?_⟩
    rw [nI_clamp (show hd < 2 ^ 31 by omega), hq hd (by omega) hn]
    have best : ∀ hd', bf_Q g a4 (min (c + half + 1) 16) (c + half - 2 * half) hd' tl q → hd' < tl → bf_B1 g (fun j => a (start + j * step)) half c (a4 (q hd')) := by
      intro hd' Q' h'
      have z := Q'.2.2.1 hd' (by omega) h'
      refine ⟨⟨q hd', by omega, by omega, by omega, hl _ (by omega)⟩, fun j j1 j2 j3 => ?_⟩
      have t := bf_Q_best Q' j (by omega) (by omega)
      rw [hl j j1] at t
      exact t
    refine ek_if (bf_cmp (by omega) (by omega) (by omega)) (fun z => ?_) (fun z => nm_r (nI_1 hd) ?_)
    · have Q' : bf_Q g a4 (min (c + half + 1) 16) (c + half - 2 * half) hd tl q := bf_Q_stay Q (by omega) (by omega)
      refine bf_132 (by omega) (hq hd (by omega) hn) (by omega) (hst c (by omega)) (H hd _ ⟨?_, hq, bf_O_add O hs (best hd Q' hn) (by omega)⟩)
      rw [show c + half + 1 - 1 = c + half by omega]
      exact Q'
    · have Q' : bf_Q g a4 (min (c + half + 1) 16) (c + half - 2 * half) (hd + 1) tl q := bf_Q_pop Q hn (by omega) (by omega)
      have hn' : hd + 1 < tl := bf_Q_ne Q' (by omega) (by omega)
      have z' := Q'.2.2.1 (hd + 1) (by omega) hn'
      refine bf_132 (by omega) (hq (hd + 1) (by omega) hn') (by omega) (hst c (by omega)) (H (hd + 1) _ ⟨?_, fun p p1 p2 => hq p (by omega) p2, bf_O_add O hs (best (hd + 1) Q' hn') (by omega)⟩)
      rw [show c + half + 1 - 1 = c + half by omega]
      exact Q'
theorem bf_59 {post : St1 → Prop} {J : Int32 → Int32 → Int32 → (Nat → Int32) → (Nat → Int32) → (Nat → Int32) → (Nat → Int32) → (Nat → Int32) → (Nat → Int32) → (Nat → Int32) → Prop}
    {x1 x2 x3 g : Int32} {a1 a2 a3 a4 a5 a6 a7 : Nat → Int32} {hd tl i : Nat} {q : Nat → Nat} (hi : i < 16) (h0 : hd ≤ tl) (h1 : tl ≤ i) (hq : ∀ p, hd ≤ p → p < tl → a5 p = nI (q p)) (hb : ∀ p, hd ≤ p → p < tl → q p < 16)
    (H : ∀ t, hd ≤ t → t ≤ tl → (∀ p, t ≤ p → p < tl → bf_R g (a4 (q p)) (a4 i)) → (hd < t → bf_R g (a4 i) (a4 (q (t - 1)))) → wX_filterLine_92 post J x1 x2 x3 g (nI hd) (nI t) (nI i) a1 a2 a3 a4 a5 a6 a7) :
    ∃ n, wX_filterLine_59 post J x1 x2 x3 g (nI hd) (nI i) a1 a2 a3 a4 a5 a6 a7 n (nI tl) := by
  have key : ∀ k t, t = hd + k → t ≤ tl → (∀ p, t ≤ p → p < tl → bf_R g (a4 (q p)) (a4 i)) → wX_filterLine_59 post J x1 x2 x3 g (nI hd) (nI i) a1 a2 a3 a4 a5 a6 a7 (k + 1) (nI t) := by
    intro k
    induction k with
    | zero =>
      intro t ht ht' hp
      exact br_t (nI_le (by omega) (by omega)) (H t (by omega) ht' hp (fun z => absurd z (by omega)))
    | succ k ih =>
      intro t ht ht' hp
      subst ht
      have e : nI (hd + (k + 1)) - 1 = nI (hd + k) := nI_pred (hd + k)
      refine br_f (nI_ge (by omega) (by omega)) ?_
      rw [e, nI_clamp (show hd + k < 2 ^ 31 by omega), hq (hd + k) (by omega) (by omega)]
      refine ⟨vp_in_nI (by omega) (by decide), bf_out hi (hb (hd + k) (by omega) (by omega)) (fun r => br_f (by decide) (nm_r (pk_m1 (hd + k)) (ih (hd + k) rfl (by omega) (fun p p1 p2 => ?_)))) (fun r => br_t rfl (H _ (by omega) ht' hp (fun _ => ?_)))⟩
      · by_cases ep : p = hd + k
        · rw [ep]; exact r
        · exact hp p (by omega) p2
      · rcases bf_R_tot g (a4 i) (a4 (q (hd + k))) with z | z
        · exact z
        · exact absurd z r
  exact ⟨tl - hd + 1, key (tl - hd) tl (by omega) (by omega) (fun p p1 p2 => absurd p2 (by omega))⟩
theorem bf_43 {post : St1 → Prop} {g : Int32} {a a2 a3 a4 a6 a7 : Nat → Int32} {start step half : Nat} (hst : ∀ c, c < 16 → start + c * step < 256) (hs : 0 < step) (hh : half ≤ 7)
    (hl : ∀ j, j < 16 → a4 j = a (start + j * step)) (H : ∀ a1' a5', bf_O g start step half a (16 + half) a1' → post (a1', a2, a3, a4, a5', a6, a7)) :
    ∀ k i hd tl q a1 a5, i + k = 16 + half → bf_I g start step half a i hd tl q a1 a4 a5 → wX_filterLine_43 post (nI start) (nI step) (nI half) g (k + 1) (nI hd) (nI tl) (nI i) a1 a2 a3 a4 a5 a6 a7 := by
  intro k
  induction k with
  | zero =>
    intro i hd tl q a1 a5 hi I
    have hi' : i = 16 + half := by omega
    subst hi'
    exact pk_le (16 + half) (16 + half) (fun _ => H a1 a5 I.2.2) (fun z => absurd z (by omega)) (nI_add 16 half)
  | succ k ih =>
    intro i hd tl q a1 a5 hi I
    obtain ⟨Q, hq, O⟩ := I
    refine pk_le (16 + half) i (fun z => absurd z (by omega)) (fun _ => ?_) (nI_add 16 half)
    refine pk_le 16 i (fun z => ?_) (fun z => ?_)
    · refine bf_104 hst hs hh (by omega) hl ?_ hq O (fun hd' a1' I' => ih (i + 1) hd' tl q a1' a5 (by omega) I')
      rw [show min (i + 1) 16 = min i 16 by omega]
      exact Q
    · rw [show min i 16 = i by omega] at Q
      have b1 := Q.1
      have b2 := Q.2.1
      refine bf_59 z b1 b2 hq (fun p p1 p2 => by have := (Q.2.2.1 p p1 p2).1; omega) (fun t t1 t2 t3 t4 => ?_)
      unfold wX_filterLine_92
      rw [nI_clamp (show t < 2 ^ 31 by omega)]
      refine ⟨vp_in_nI (by omega) (by decide), nm_e (nm_r (nI_1 t) ?_)⟩
      refine bf_104 (q := fun p => if p = t then i else q p) hst hs hh (by omega) hl ?_ ?_ O (fun hd' a1' I' => ih (i + 1) hd' (t + 1) _ a1' _ (by omega) I')
      · rw [show min (i + 1) 16 = i + 1 by omega]
        exact bf_Q_push Q t t1 t2 t3 t4 (by omega)
      · intro p p1 p2
        by_cases e : p = t
        · rw [e, pk_us]; simp only [if_true]
        · rw [pk_un e]; simp only [e, if_false]
          exact hq p p1 (by omega)
theorem bf_fl {post : St1 → Prop} {g : Int32} {a1 a2 a3 a4 a5 a6 a7 : Nat → Int32} {start step half : Nat} (hst : ∀ c, c < 16 → start + c * step < 256) (hs : 0 < step) (hh : half ≤ 7)
    (H : ∀ a1' a4' a5', (∀ c, c < 16 → bf_B1 g (fun j => a1 (start + j * step)) half c (a1' (start + c * step))) → (∀ k, (∀ c, c < 16 → k ≠ start + c * step) → a1' k = a1 k) → post (a1', a2, a3, a4', a5', a6, a7)) :
    wpX_filterLine post (a1, a2, a3, a4, a5, a6, a7) (nI start) (nI step) (nI half) g := by
  refine pk_loop (fun n i s => wX_filterLine_3 post (nI start) (nI step) (nI half) g n (nI i) a1 a2 a3 s a5 a6 a7) (fun i s => ∀ j, j < i → s j = a1 (start + j * step)) 16 0 a4 (by omega) (fun j h => absurd h (by omega)) ?_ ?_
  · intro n s h
    refine pk_le 16 16 (fun _ => ⟨16 + half + 1, bf_43 hst hs hh h (fun a1' a5' O => H a1' s a5' (fun c hc => O.1 c hc (by omega)) (fun k hk => O.2 k (fun c c1 c2 => hk c c1))) (16 + half) 0 0 0 (fun _ => 0) a1 a5 (by omega) ⟨?_, fun p _ h => absurd h (by omega), bf_O_0 g start step half a1⟩⟩) (fun z => absurd z (by omega))
    rw [show (0 - 1 - 2 * half) = 0 by omega]
    exact bf_Q_0 g s _
  · intro n i s hi h hw
    have e2 : nI start + nI i * nI step = nI (start + i * step) := by rw [pk_mul, nI_add]
    have b := hst i hi
    refine pk_le 16 i (fun z => absurd z (by omega)) (fun _ => ?_)
    rw [e2, nI_clamp (show i < 2 ^ 31 by omega), nI_clamp (show start + i * step < 2 ^ 31 by omega)]
    refine ⟨vp_in_nI b (by decide), vp_in_nI hi (by decide), nm_e (nm_r (nI_1 i) (hw _ (fun j hj => ?_)))⟩
    by_cases e : j = i
    · rw [e, pk_us]
    · rw [pk_un e]; exact h j (by omega)
theorem bf_f31 {post : St1 → Prop} {g : Int32} {a m a2 a3 a6 a7 : Nat → Int32} {w h : Nat} (hh : h ≤ 7)
    (h1 : ∀ r c, r < 16 → c < 16 → bf_B1 g (fun i => a (r * 16 + i)) w c (m (r * 16 + c))) (h1' : ∀ k, 256 ≤ k → m k = a k)
    (H : ∀ b b4 b5, bf_F g w h a b → post (b, a2, a3, b4, b5, a6, a7)) :
    ∀ k c b b4 b5, c + k = 16 → (∀ c' r, c' < c → r < 16 → bf_B1 g (fun i => m (i * 16 + c')) h r (b (r * 16 + c'))) → (∀ k, (256 ≤ k ∨ c ≤ k % 16) → b k = m k) →
      wX_filter_31 post (nI h) g (k + 1) (nI c) b a2 a3 b4 b5 a6 a7 := by
  intro k
  induction k with
  | zero =>
    intro c b b4 b5 hc i1 i2
    have hc' : c = 16 := by omega
    subst hc'
    exact pk_le 16 16 (fun _ => H b b4 b5 (bf_F_of h1 h1' i1 (fun k hk => i2 k (Or.inl hk)))) (fun z => absurd z (by omega))
  | succ k ih =>
    intro c b b4 b5 hc i1 i2
    refine pk_le 16 c (fun z => absurd z (by omega)) (fun _ => ?_)
    refine bf_fl (step := 16) (fun d hd => by omega) (by omega) hh (fun b' b4' b5' u1 u2 => nm_r (nI_1 c) (ih (c + 1) b' b4' b5' (by omega) ?_ ?_))
    · intro c' r hc' hr
      by_cases e : c' = c
      · subst e
        have t := u1 r hr
        rw [show (fun j => b (c' + j * 16)) = (fun i => m (i * 16 + c')) from funext (fun j => by rw [i2 (c' + j * 16) (Or.inr (by omega)), Nat.add_comm]), Nat.add_comm c' (r * 16)] at t
        exact t
      · rw [u2 (r * 16 + c') (fun d hd => by omega)]
        exact i1 c' r (by omega) hr
    · intro k hk
      rw [u2 k (fun d hd => by omega)]
      exact i2 k (by omega)
theorem bf_f3 {post : St1 → Prop} {g : Int32} {a a2 a3 a6 a7 : Nat → Int32} {w h : Nat} (hw : w ≤ 7) (hh : h ≤ 7)
    (H : ∀ b b4 b5, bf_F g w h a b → post (b, a2, a3, b4, b5, a6, a7)) :
    ∀ k r b b4 b5, r + k = 16 → (∀ r' c, r' < r → c < 16 → bf_B1 g (fun i => a (r' * 16 + i)) w c (b (r' * 16 + c))) → (∀ k, r * 16 ≤ k → b k = a k) →
      wX_filter_3 post (nI w) (nI h) g (k + 1) (nI r) b a2 a3 b4 b5 a6 a7 := by
  intro k
  induction k with
  | zero =>
    intro r b b4 b5 hr i1 i2
    have hr' : r = 16 := by omega
    subst hr'
    exact pk_le 16 16 (fun _ => ⟨17, bf_f31 hh i1 (fun k hk => i2 k (by omega)) H 16 0 b b4 b5 (by omega) (fun c' r h => absurd h (by omega)) (fun k _ => rfl)⟩) (fun z => absurd z (by omega))
  | succ k ih =>
    intro r b b4 b5 hr i1 i2
    refine pk_le 16 r (fun z => absurd z (by omega)) (fun _ => ?_)
    have e : nI r * 16 = nI (r * 16) := pk_mul r 16
    rw [e]
    refine bf_fl (step := 1) (fun d hd => by omega) (by omega) hw (fun b' b4' b5' u1 u2 => nm_r (nI_1 r) (ih (r + 1) b' b4' b5' (by omega) ?_ ?_))
    · intro r' c hr' hc
      by_cases e : r' = r
      · subst e
        have t := u1 c hc
        rw [show (fun j => b (r' * 16 + j * 1)) = (fun i => a (r' * 16 + i)) from funext (fun j => by rw [i2 (r' * 16 + j * 1) (by omega), Nat.mul_one]), Nat.mul_one] at t
        exact t
      · rw [u2 (r' * 16 + c) (fun d hd => by omega)]
        exact i1 r' c (by omega) hc
    · intro k hk
      rw [u2 k (fun d hd => by omega)]
      exact i2 k (by omega)
theorem bf_filter {post : St1 → Prop} {g : Int32} {a1 a2 a3 a4 a5 a6 a7 : Nat → Int32} {w h : Nat} (hw : w ≤ 7) (hh : h ≤ 7)
    (H : ∀ b b4 b5, bf_F g w h a1 b → post (b, a2, a3, b4, b5, a6, a7)) : wpX_filter post (a1, a2, a3, a4, a5, a6, a7) (nI w) (nI h) g :=
  ⟨17, bf_f3 hw hh H 16 0 a1 a4 a5 (by omega) (fun r' c h => absurd h (by omega)) (fun k _ => rfl)⟩
end
section
theorem bf_badSize {post : Int32 → Prop} {w h : Nat} (hw : w ≤ 7) (hh : h ≤ 7) (H : post 0) : wpX_badSize post () (nI w) (nI h) :=
  br_f (nI_pos (by omega)) (br_f (nI_nlt (b := w) (a := 7) hw (by decide)) (br_f (nI_pos (by omega)) (br_t (nI_le (b := 7) hh (by decide)) H)))
theorem bf_badPixel {post : Int32 → Prop} {r c : Nat} (hr : r < 16) (hc : c < 16) (H : post 0) : wpX_badPixel post () (nI r) (nI c) :=
  br_f (nI_pos (by omega)) (br_f (nI_ge (b := 16) hr (by decide)) (br_f (nI_pos (by omega)) (br_t (nI_lt (b := 16) hc (by decide)) H)))
/-- the first i places of a laid over b -/
def bf_lay (i : Nat) (a b : Nat → Int32) : Nat → Int32 := fun j => if j < i then a j else b j
theorem bf_lay_0 (a b : Nat → Int32) : bf_lay 0 a b = b := funext (fun j => if_neg (by omega))
theorem bf_lay_s (i : Nat) (a b : Nat → Int32) : upd (bf_lay i a b) i (a i) = bf_lay (i + 1) a b := by
  funext j
  by_cases e : j = i
  · rw [e, pk_us]; exact (if_pos (by omega)).symm
  · rw [pk_un e]
    unfold bf_lay
    by_cases l : j < i
    · rw [if_pos l, if_pos (by omega)]
    · rw [if_neg l, if_neg (by omega)]
theorem bf_lay_in {i j : Nat} (a b : Nat → Int32) (h : j < i) : bf_lay i a b j = a j := if_pos h
theorem bf_keep {post : St1 → Prop} {a1 a2 a3 a4 a5 a6 a7 : Nat → Int32} (H : post (a1, bf_lay 256 a1 a2, a3, a4, a5, a6, a7)) : wpX_keep post (a1, a2, a3, a4, a5, a6, a7) := by
  refine pk_loop (fun n i s => wX_keep_2 post n (nI i) a1 s a3 a4 a5 a6 a7) (fun i s => s = bf_lay i a1 a2) 256 0 a2 (by omega) (bf_lay_0 a1 a2).symm ?_ ?_
  · intro n s h
    subst h
    exact pk_le 256 256 (fun _ => H) (fun z => absurd z (by omega))
  · intro n i s hi h hw
    subst h
    refine pk_le 256 i (fun z => absurd z (by omega)) (fun _ => ?_)
    rw [nI_clamp (show i < 2 ^ 31 by omega)]
    exact ⟨vp_in_nI hi (by decide), vp_in_nI hi (by decide), nm_e (nm_r (nI_1 i) (hw _ (bf_lay_s i a1 a2)))⟩
theorem bf_remember {post : St1 → Prop} {a1 a2 a3 a4 a5 a6 a7 : Nat → Int32} (H : ∀ b3, post (a1, a2, b3, a4, a5, a6, a7)) : wpX_remember post (a1, a2, a3, a4, a5, a6, a7) := by
  refine pk_loop (fun n i s => wX_remember_2 post n (nI i) a1 a2 s a4 a5 a6 a7) (fun i s => True) 256 0 a3 (by omega) trivial ?_ ?_
  · intro n s _
    exact pk_le 256 256 (fun _ => H s) (fun z => absurd z (by omega))
  · intro n i s hi _ hw
    refine pk_le 256 i (fun z => absurd z (by omega)) (fun _ => ?_)
    exact ⟨vp_in_nI hi (by decide), vp_in_nI hi (by decide), nm_e (nm_r (nI_1 i) (hw _ trivial))⟩
theorem bf_changed {post : Int32 → Prop} {a1 a2 a3 a4 a5 a6 a7 : Nat → Int32} (H : ∀ r, post r) : wpX_changed post (a1, a2, a3, a4, a5, a6, a7) := by
  refine pk_loop (fun n i s => wX_changed_4 post a1 a2 a3 a4 a5 a6 a7 n s (nI i)) (fun i s => True) 256 0 0 (by omega) trivial ?_ ?_
  · intro n s _
    exact pk_le 256 256 (fun _ => H s) (fun z => absurd z (by omega))
  · intro n i s hi _ hw
    refine pk_le 256 i (fun z => absurd z (by omega)) (fun _ => ?_)
    exact ⟨vp_in_nI hi (by decide), vp_in_nI hi (by decide), br_c (fun _ => nm_r (nI_1 i) (hw _ trivial)) (fun _ => nm_e (nm_r (nI_1 i) (hw _ trivial)))⟩
theorem bf_equal {post : Int32 → Prop} {a1 a2 a3 a4 a5 a6 a7 : Nat → Int32} (h : ∀ j, j < 256 → a1 j = a2 j) (H : post 256) : wpX_equal post (a1, a2, a3, a4, a5, a6, a7) := by
  refine pk_loop (fun n i s => wX_equal_4 post a1 a2 a3 a4 a5 a6 a7 n s (nI i)) (fun i s => s = nI i) 256 0 0 (by omega) rfl ?_ ?_
  · intro n s e
    subst e
    exact pk_le 256 256 (fun _ => H) (fun z => absurd z (by omega))
  · intro n i s hi e hw
    subst e
    refine pk_le 256 i (fun z => absurd z (by omega)) (fun _ => ?_)
    rw [nI_clamp (show i < 2 ^ 31 by omega)]
    exact ⟨vp_in_nI hi (by decide), vp_in_nI hi (by decide), br_t (h i hi) (nm_r (nI_1 i) (nm_r (nI_1 i) (hw _ rfl)))⟩
theorem bf_above {post : Int32 → Prop} {a1 a2 a3 a4 a5 a6 a7 : Nat → Int32} (h : ∀ j, j < 256 → a1 j = a2 j) (H : post 0) : wpX_above post (a1, a2, a3, a4, a5, a6, a7) := by
  refine pk_loop (fun n i s => wX_above_4 post a1 a2 a3 a4 a5 a6 a7 n s (nI i)) (fun i s => s = 0) 256 0 0 (by omega) rfl ?_ ?_
  · intro n s e
    subst e
    exact pk_le 256 256 (fun _ => H) (fun z => absurd z (by omega))
  · intro n i s hi e hw
    subst e
    refine pk_le 256 i (fun z => absurd z (by omega)) (fun _ => ?_)
    rw [nI_clamp (show i < 2 ^ 31 by omega)]
    exact ⟨vp_in_nI hi (by decide), vp_in_nI hi (by decide), br_t (by rw [h i hi]; exact Int32.le_refl _) (nm_r (nI_1 i) (hw _ rfl))⟩
theorem bf_exchange (a1 a2 : Nat → Int32) : ∃ c1 c2 : Nat → Int32, ∀ (post : St1 → Prop) (a3 a4 a5 a6 a7 : Nat → Int32), post (c1, c2, a3, a4, a5, a6, a7) → wpX_exchange post (a1, a2, a3, a4, a5, a6, a7) := by
  have key : ∀ k i (a1 a2 : Nat → Int32), i + k = 256 → ∃ c1 c2 : Nat → Int32, ∀ (post : St1 → Prop) (a3 a4 a5 a6 a7 : Nat → Int32), post (c1, c2, a3, a4, a5, a6, a7) → wX_exchange_2 post (k + 1) (nI i) a1 a2 a3 a4 a5 a6 a7 := by
    intro k
    induction k with
    | zero =>
      intro i a1 a2 hi
      exact ⟨a1, a2, fun post a3 a4 a5 a6 a7 H => pk_le 256 i (fun _ => H) (fun z => absurd z (by omega))⟩
    | succ k ih =>
      intro i a1 a2 hi
      obtain ⟨c1, c2, h⟩ := ih (i + 1) (upd a1 i (a2 i)) (upd a2 i (a1 i)) (by omega)
      refine ⟨c1, c2, fun post a3 a4 a5 a6 a7 H => pk_le 256 i (fun z => absurd z (by omega)) (fun _ => ?_)⟩
      have v : vp_in (nI i) 256 := vp_in_nI (by omega) (by decide)
      rw [nI_clamp (show i < 2 ^ 31 by omega)]
      exact ⟨v, nm_e ⟨v, v, nm_e ⟨v, nm_e (nm_r (nI_1 i) (h post a3 a4 a5 a6 a7 H))⟩⟩⟩
  obtain ⟨c1, c2, h⟩ := key 256 0 a1 a2 (by omega)
  exact ⟨c1, c2, fun post a3 a4 a5 a6 a7 H => ⟨257, h post a3 a4 a5 a6 a7 H⟩⟩
theorem bf_pattern (x y : Int32) (a1 : Nat → Int32) : ∃ c1 : Nat → Int32, ∀ (post : St1 → Prop) (a2 a3 a4 a5 a6 a7 : Nat → Int32), post (c1, a2, a3, a4, a5, a6, a7) → wpX_pattern post (a1, a2, a3, a4, a5, a6, a7) x y := by
  have key : ∀ k i (a1 : Nat → Int32), i + k = 256 → ∃ c1 : Nat → Int32, ∀ (post : St1 → Prop) (a2 a3 a4 a5 a6 a7 : Nat → Int32), post (c1, a2, a3, a4, a5, a6, a7) → wX_pattern_2 post x y (k + 1) (nI i) a1 a2 a3 a4 a5 a6 a7 := by
    intro k
    induction k with
    | zero =>
      intro i a1 hi
      exact ⟨a1, fun post a2 a3 a4 a5 a6 a7 H => pk_le 256 i (fun _ => H) (fun z => absurd z (by omega))⟩
    | succ k ih =>
      intro i a1 hi
      obtain ⟨c1, h⟩ := ih (i + 1) (upd a1 (nI i).toNatClampNeg ((((nI i / 16) * x + (nI i - nI i / 16 * 16) * y) + (nI i / 16) * (nI i - nI i / 16 * 16)) &&& 255)) (by omega)
      refine ⟨c1, fun post a2 a3 a4 a5 a6 a7 H => pk_le 256 i (fun z => absurd z (by omega)) (fun _ => ?_)⟩
      have v : vp_in (nI i) 256 := vp_in_nI (by omega) (by decide)
      exact ⟨by decide, nm_e ⟨by decide, nm_e ⟨v, nm_e (nm_r (nI_1 i) (h post a2 a3 a4 a5 a6 a7 H))⟩⟩⟩
  obtain ⟨c1, h⟩ := key 256 0 a1 (by omega)
  exact ⟨c1, fun post a2 a3 a4 a5 a6 a7 H => ⟨257, h post a2 a3 a4 a5 a6 a7 H⟩⟩
theorem bf_threshold (x : Int32) (a1 : Nat → Int32) : ∃ (r : Int32) (c1 : Nat → Int32), ∀ (post : Int32 → St1 → Prop) (a2 a3 a4 a5 a6 a7 : Nat → Int32), post r (c1, a2, a3, a4, a5, a6, a7) → wpX_threshold post (a1, a2, a3, a4, a5, a6, a7) x := by
  have key : ∀ k i (s : Int32) (a1 : Nat → Int32), i + k = 256 → ∃ (r : Int32) (c1 : Nat → Int32), ∀ (post : Int32 → St1 → Prop) (a2 a3 a4 a5 a6 a7 : Nat → Int32), post r (c1, a2, a3, a4, a5, a6, a7) → wX_threshold_4 post x (k + 1) s (nI i) a1 a2 a3 a4 a5 a6 a7 := by
    intro k
    induction k with
    | zero =>
      intro i s a1 hi
      exact ⟨s, a1, fun post a2 a3 a4 a5 a6 a7 H => pk_le 256 i (fun _ => H) (fun z => absurd z (by omega))⟩
    | succ k ih =>
      intro i s a1 hi
      have v : vp_in (nI i) 256 := vp_in_nI (by omega) (by decide)
      by_cases hb : a1 (nI i).toNatClampNeg < x
      · obtain ⟨r, c1, h⟩ := ih (i + 1) s (upd a1 (nI i).toNatClampNeg 0) (by omega)
        refine ⟨r, c1, fun post a2 a3 a4 a5 a6 a7 H => pk_le 256 i (fun z => absurd z (by omega)) (fun _ => ⟨v, br_t hb ?_⟩)⟩
        unfold wX_threshold_26 wX_threshold_45
        exact br_t rfl ⟨v, nm_e (br_t rfl (nm_r (nI_1 i) (h post a2 a3 a4 a5 a6 a7 H)))⟩
      · obtain ⟨r, c1, h⟩ := ih (i + 1) (s + 1) (upd a1 (nI i).toNatClampNeg 255) (by omega)
        refine ⟨r, c1, fun post a2 a3 a4 a5 a6 a7 H => pk_le 256 i (fun z => absurd z (by omega)) (fun _ => ⟨v, br_f hb ?_⟩)⟩
        unfold wX_threshold_26 wX_threshold_45
        exact br_f (by decide) ⟨v, nm_e (br_f (by decide) (nm_e (nm_r (nI_1 i) (h post a2 a3 a4 a5 a6 a7 H))))⟩
  obtain ⟨r, c1, h⟩ := key 256 0 0 a1 (by omega)
  exact ⟨r, c1, fun post a2 a3 a4 a5 a6 a7 H => ⟨257, h post a2 a3 a4 a5 a6 a7 H⟩⟩
theorem bf_sum (a1 : Nat → Int32) : ∃ r : Int32, ∀ (post : Int32 → Prop) (a2 a3 a4 a5 a6 a7 : Nat → Int32), post r → wpX_sum post (a1, a2, a3, a4, a5, a6, a7) := by
  have key : ∀ k i (s : Int32), i + k = 256 → ∃ r : Int32, ∀ (post : Int32 → Prop) (a2 a3 a4 a5 a6 a7 : Nat → Int32), post r → wX_sum_4 post a1 a2 a3 a4 a5 a6 a7 (k + 1) s (nI i) := by
    intro k
    induction k with
    | zero =>
      intro i s hi
      exact ⟨s, fun post a2 a3 a4 a5 a6 a7 H => pk_le 256 i (fun _ => H) (fun z => absurd z (by omega))⟩
    | succ k ih =>
      intro i s hi
      obtain ⟨r, h⟩ := ih (i + 1) (s + a1 (nI i).toNatClampNeg) (by omega)
      refine ⟨r, fun post a2 a3 a4 a5 a6 a7 H => pk_le 256 i (fun z => absurd z (by omega)) (fun _ => ?_)⟩
      exact ⟨vp_in_nI (by omega) (by decide), nm_e (nm_r (nI_1 i) (h post a2 a3 a4 a5 a6 a7 H))⟩
  obtain ⟨r, h⟩ := key 256 0 0 (by omega)
  exact ⟨r, fun post a2 a3 a4 a5 a6 a7 H => ⟨257, h post a2 a3 a4 a5 a6 a7 H⟩⟩
theorem bf_ix (r c : Nat) : nI r * 16 + nI c = nI (r * 16 + c) := by
  rw [show nI r * 16 = nI (r * 16) from pk_mul r 16, nI_add]
theorem bf_pixel {post : Int32 → Prop} {a1 a2 a3 a4 a5 a6 a7 : Nat → Int32} {r c : Nat} (hr : r < 16) (hc : c < 16) (H : post (a1 (r * 16 + c))) : wpX_pixel post (a1, a2, a3, a4, a5, a6, a7) (nI r) (nI c) := by
  unfold wpX_pixel
  dsimp only
  refine bf_badPixel hr hc (br_t rfl ?_)
  rw [bf_ix, nI_clamp (show r * 16 + c < 2 ^ 31 by omega)]
  exact ⟨vp_in_nI (by omega) (by decide), H⟩
theorem bf_set {post : Int32 → St1 → Prop} {a1 a2 a3 a4 a5 a6 a7 : Nat → Int32} {r c v : Nat} (hr : r < 16) (hc : c < 16) (hv : v < 256) (H : post (a1 (r * 16 + c)) (upd a1 (r * 16 + c) (nI v), a2, a3, a4, a5, a6, a7)) :
    wpX_set post (a1, a2, a3, a4, a5, a6, a7) (nI r) (nI c) (nI v) := by
  unfold wpX_set
  dsimp only
  refine bf_badPixel hr hc (br_t rfl ?_)
  rw [bf_ix, nI_clamp (show r * 16 + c < 2 ^ 31 by omega)]
  have i : vp_in (nI (r * 16 + c)) 256 := vp_in_nI (by omega) (by decide)
  exact br_f (nI_pos (by omega)) (br_t (nI_le (b := 255) (by omega) (by decide)) ⟨i, nm_e ⟨i, nm_e H⟩⟩)
theorem bf_dilate {post : Int32 → St1 → Prop} {a1 a2 a3 a4 a5 a6 a7 : Nat → Int32} {w h : Nat} (hw : w ≤ 7) (hh : h ≤ 7) (H : ∀ r b b3 b4 b5, bf_F 1 w h a1 b → post r (b, a2, b3, b4, b5, a6, a7)) :
    wpX_dilate post (a1, a2, a3, a4, a5, a6, a7) (nI w) (nI h) := by
  unfold wpX_dilate
  dsimp only
  refine bf_badSize hw hh (br_t rfl ?_)
  refine bf_remember (fun b3 => ?_)
  refine bf_filter hw hh (fun b b4 b5 F => ?_)
  exact bf_changed (fun r => H r b b3 b4 b5 F)
theorem bf_erode {post : Int32 → St1 → Prop} {a1 a2 a3 a4 a5 a6 a7 : Nat → Int32} {w h : Nat} (hw : w ≤ 7) (hh : h ≤ 7) (H : ∀ r b b3 b4 b5, bf_F 0 w h a1 b → post r (b, a2, b3, b4, b5, a6, a7)) :
    wpX_erode post (a1, a2, a3, a4, a5, a6, a7) (nI w) (nI h) := by
  unfold wpX_erode
  dsimp only
  refine bf_badSize hw hh (br_t rfl ?_)
  refine bf_remember (fun b3 => ?_)
  refine bf_filter hw hh (fun b b4 b5 F => ?_)
  exact bf_changed (fun r => H r b b3 b4 b5 F)
theorem bf_close {post : Int32 → St1 → Prop} {a1 a2 a3 a4 a5 a6 a7 : Nat → Int32} {w h : Nat} (hw : w ≤ 7) (hh : h ≤ 7) (H : ∀ r m b b3 b4 b5, bf_F 1 w h a1 m → bf_F 0 w h m b → post r (b, a2, b3, b4, b5, a6, a7)) :
    wpX_close post (a1, a2, a3, a4, a5, a6, a7) (nI w) (nI h) := by
  unfold wpX_close
  dsimp only
  refine bf_badSize hw hh (br_t rfl ?_)
  refine bf_remember (fun b3 => ?_)
  refine bf_filter hw hh (fun m m4 m5 F => ?_)
  refine bf_filter hw hh (fun b b4 b5 F' => ?_)
  exact bf_changed (fun r => H r m b b3 b4 b5 F F')
theorem bf_opn {post : Int32 → St1 → Prop} {a1 a2 a3 a4 a5 a6 a7 : Nat → Int32} {w h : Nat} (hw : w ≤ 7) (hh : h ≤ 7) (H : ∀ r m b b3 b4 b5, bf_F 0 w h a1 m → bf_F 1 w h m b → post r (b, a2, b3, b4, b5, a6, a7)) :
    wpX_open post (a1, a2, a3, a4, a5, a6, a7) (nI w) (nI h) := by
  unfold wpX_open
  dsimp only
  refine bf_badSize hw hh (br_t rfl ?_)
  refine bf_remember (fun b3 => ?_)
  refine bf_filter hw hh (fun m m4 m5 F => ?_)
  refine bf_filter hw hh (fun b b4 b5 F' => ?_)
  exact bf_changed (fun r => H r m b b3 b4 b5 F F')
end
section
theorem bf_within (x : Int32) : ∃ n : Nat, n ≤ 16 ∧ ∀ post : Int32 → Prop, post (nI n) → wpX_within post () x := by
  by_cases h0 : 0 ≤ x
  · by_cases h1 : x ≤ 16
    · obtain ⟨j, hj, e⟩ := nI_of2 (n := 16) (M := 16) (by decide) (Int32.not_lt.mpr h0) h1
      refine ⟨j, hj, fun post H => br_t h0 (br_t h1 ?_)⟩
      rw [e]
      exact H
    · exact ⟨16, by omega, fun post H => br_t h0 (br_f h1 H)⟩
  · exact ⟨0, by omega, fun post H => br_f h0 H⟩
theorem bf_ix17 {r c : Nat} (hr : r ≤ 16) (hc : c ≤ 16) : vp_in (nI r * 17 + nI c) 289 := by
  rw [show nI r * 17 = nI (r * 17) from pk_mul r 17, nI_add]
  exact vp_in_nI (by omega) (by decide)
theorem bf_meanAt (a6 : Nat → Int32) (r c w h : Int32) : ∃ v : Int32, ∀ (post : Int32 → Prop) (a1 a2 a3 a4 a5 a7 : Nat → Int32), post v → wpX_meanAt post (a1, a2, a3, a4, a5, a6, a7) r c w h := by
  obtain ⟨n1, b1, h1⟩ := bf_within (r - h)
  obtain ⟨n2, b2, h2⟩ := bf_within (r + h + 1)
  obtain ⟨n3, b3, h3⟩ := bf_within (c - w)
  obtain ⟨n4, b4, h4⟩ := bf_within (c + w + 1)
  by_cases z : (nI n2 - nI n1) * (nI n4 - nI n3) ≤ 0
  · refine ⟨0, fun post a1 a2 a3 a4 a5 a7 H => ?_⟩
    unfold wpX_meanAt
    dsimp only
    refine h1 _ ?_
    refine h2 _ ?_
    refine h3 _ ?_
    refine h4 _ ?_
    exact nm_e ⟨bf_ix17 b2 b4, bf_ix17 b1 b4, bf_ix17 b2 b3, bf_ix17 b1 b3, nm_e (br_t z H)⟩
  · refine ⟨(((a6 (nI n2 * 17 + nI n4).toNatClampNeg - a6 (nI n1 * 17 + nI n4).toNatClampNeg) - a6 (nI n2 * 17 + nI n3).toNatClampNeg) + a6 (nI n1 * 17 + nI n3).toNatClampNeg) / ((nI n2 - nI n1) * (nI n4 - nI n3)), fun post a1 a2 a3 a4 a5 a7 H => ?_⟩
    have z' : ¬ (nI n2 - nI n1) * (nI n4 - nI n3) = 0 := fun e => z (by rw [e]; exact Int32.le_refl 0)
    unfold wpX_meanAt
    dsimp only
    refine h1 _ ?_
    refine h2 _ ?_
    refine h3 _ ?_
    refine h4 _ ?_
    exact nm_e ⟨bf_ix17 b2 b4, bf_ix17 b1 b4, bf_ix17 b2 b3, bf_ix17 b1 b3, nm_e (br_f z ⟨z', H⟩)⟩
theorem bf_fs12 (a1 : Nat → Int32) {r : Nat} (hr : r < 16) : ∀ k c (s : Int32) (a6 : Nat → Int32), c + k = 16 → ∃ c6 : Nat → Int32, ∀ (post : St1 → Prop) (J : Int32 → (Nat → Int32) → (Nat → Int32) → (Nat → Int32) → (Nat → Int32) → (Nat → Int32) → (Nat → Int32) → (Nat → Int32) → Prop) (a2 a3 a4 a5 a7 : Nat → Int32),
    J (nI (r + 1)) a1 a2 a3 a4 a5 c6 a7 → wX_fillSums_12 post J (nI r) (k + 1) s (nI c) a1 a2 a3 a4 a5 a6 a7 := by
  intro k
  induction k with
  | zero =>
    intro c s a6 hc
    exact ⟨a6, fun post J a2 a3 a4 a5 a7 H => pk_le 16 c (fun _ => nm_r (nI_1 r) H) (fun z => absurd z (by omega))⟩
  | succ k ih =>
    intro c s a6 hc
    have e1 : nI r * 17 + nI c + 1 = nI (r * 17 + c + 1) := by rw [show nI r * 17 = nI (r * 17) from pk_mul r 17, nI_add, nI_1]
    have e2 : (nI r + 1) * 17 + nI c + 1 = nI ((r + 1) * 17 + c + 1) := by rw [nI_1, show nI (r + 1) * 17 = nI ((r + 1) * 17) from pk_mul (r + 1) 17, nI_add, nI_1]
    obtain ⟨c6, h⟩ := ih (c + 1) (s + a1 (nI (r * 16 + c)).toNatClampNeg) (upd a6 (nI ((r + 1) * 17 + c + 1)).toNatClampNeg (a6 (nI (r * 17 + c + 1)).toNatClampNeg + (s + a1 (nI (r * 16 + c)).toNatClampNeg))) (by omega)
    refine ⟨c6, fun post J a2 a3 a4 a5 a7 H => pk_le 16 c (fun z => absurd z (by omega)) (fun _ => ?_)⟩
    rw [bf_ix, e1, e2]
    exact ⟨vp_in_nI (by omega) (by decide), nm_e ⟨vp_in_nI (by omega) (by decide), vp_in_nI (by omega) (by decide), nm_e (nm_r (nI_1 c) (h post J a2 a3 a4 a5 a7 H))⟩⟩
theorem bf_fillSums (a1 a6 : Nat → Int32) : ∃ c6 : Nat → Int32, ∀ (post : St1 → Prop) (a2 a3 a4 a5 a7 : Nat → Int32), post (a1, a2, a3, a4, a5, c6, a7) → wpX_fillSums post (a1, a2, a3, a4, a5, a6, a7) := by
  have key : ∀ k r (a6 : Nat → Int32), r + k = 16 → ∃ c6 : Nat → Int32, ∀ (post : St1 → Prop) (a2 a3 a4 a5 a7 : Nat → Int32), post (a1, a2, a3, a4, a5, c6, a7) → wX_fillSums_2 post (k + 1) (nI r) a1 a2 a3 a4 a5 a6 a7 := by
    intro k
    induction k with
    | zero =>
      intro r a6 hr
      exact ⟨a6, fun post a2 a3 a4 a5 a7 H => pk_le 16 r (fun _ => H) (fun z => absurd z (by omega))⟩
    | succ k ih =>
      intro r a6 hr
      obtain ⟨d6, h1⟩ := bf_fs12 a1 (r := r) (by omega) 16 0 0 a6 (by omega)
      obtain ⟨c6, h2⟩ := ih (r + 1) d6 (by omega)
      exact ⟨c6, fun post a2 a3 a4 a5 a7 H => pk_le 16 r (fun z => absurd z (by omega)) (fun _ => ⟨17, h1 post _ a2 a3 a4 a5 a7 (h2 post a2 a3 a4 a5 a7 H)⟩)⟩
  obtain ⟨c6, h⟩ := key 16 0 a6 (by omega)
  exact ⟨c6, fun post a2 a3 a4 a5 a7 H => ⟨17, h post a2 a3 a4 a5 a7 H⟩⟩
theorem bf_m21 (a6 : Nat → Int32) (w h : Int32) : ∀ k i (a1 : Nat → Int32), i + k = 256 → ∃ c1 : Nat → Int32, ∀ (post : Int32 → St1 → Prop) (a2 a3 a4 a5 a7 : Nat → Int32), (∀ r, post r (c1, a2, a3, a4, a5, a6, a7)) → wX_mean_21 post w h (k + 1) (nI i) a1 a2 a3 a4 a5 a6 a7 := by
  intro k
  induction k with
  | zero =>
    intro i a1 hi
    exact ⟨a1, fun post a2 a3 a4 a5 a7 H => pk_le 256 i (fun _ => bf_changed (fun r => H r)) (fun z => absurd z (by omega))⟩
  | succ k ih =>
    intro i a1 hi
    obtain ⟨v, hv⟩ := bf_meanAt a6 (nI i / 16) (nI i - nI i / 16 * 16) w h
    obtain ⟨c1, hc⟩ := ih (i + 1) (upd a1 (nI i).toNatClampNeg v) (by omega)
    exact ⟨c1, fun post a2 a3 a4 a5 a7 H => pk_le 256 i (fun z => absurd z (by omega)) (fun _ => ⟨by decide, by decide, hv _ a1 a2 a3 a4 a5 a7 ⟨vp_in_nI (by omega) (by decide), nm_e (nm_r (nI_1 i) (hc post a2 a3 a4 a5 a7 H))⟩⟩)⟩
theorem bf_mean (a1 a6 : Nat → Int32) {w h : Nat} (hw : w ≤ 7) (hh : h ≤ 7) : ∃ c1 c6 : Nat → Int32, ∀ (post : Int32 → St1 → Prop) (a2 a3 a4 a5 a7 : Nat → Int32), (∀ r b3, post r (c1, a2, b3, a4, a5, c6, a7)) → wpX_mean post (a1, a2, a3, a4, a5, a6, a7) (nI w) (nI h) := by
  obtain ⟨c6, h6⟩ := bf_fillSums a1 a6
  obtain ⟨c1, h1⟩ := bf_m21 c6 (nI w) (nI h) 256 0 a1 (by omega)
  refine ⟨c1, c6, fun post a2 a3 a4 a5 a7 H => ?_⟩
  unfold wpX_mean
  dsimp only
  refine bf_badSize hw hh (br_t rfl ?_)
  refine bf_remember (fun b3 => ?_)
  exact h6 _ a2 b3 a4 a5 a7 ⟨257, h1 post a2 b3 a4 a5 a7 (fun r => H r b3)⟩
end
section
/-- below m every label is at most its place -/
def bf_V (m : Nat) (a7 : Nat → Int32) : Prop := ∀ k, k < m → ∃ t : Nat, t ≤ k ∧ a7 k = nI t
theorem bf_V_add {m i : Nat} {a7 : Nat → Int32} (h : bf_V m a7) (hi : i ≤ m) (v : Nat) (hv : v ≤ i) (hm : m ≤ i + 1) : bf_V (i + 1) (upd a7 i (nI v)) := by
  intro k hk
  by_cases e : k = i
  · rw [e, pk_us]; exact ⟨v, by omega, rfl⟩
  · rw [pk_un e]; exact h k (by omega)
theorem bf_V_upd {m : Nat} {a7 : Nat → Int32} (h : bf_V m a7) (i v : Nat) (hv : v ≤ i) : bf_V m (upd a7 i (nI v)) := by
  intro k hk
  by_cases e : k = i
  · rw [e, pk_us]; exact ⟨v, hv, rfl⟩
  · rw [pk_un e]; exact h k hk
theorem bf_find {m : Nat} {a7 : Nat → Int32} (hm : m ≤ 256) (hl : bf_V m a7) {k : Nat} (hk : k < m) :
    ∃ r : Nat, r ≤ k ∧ ∀ (post : Int32 → Prop) (a1 a2 a3 a4 a5 a6 : Nat → Int32), post (nI r) → wpX_find post (a1, a2, a3, a4, a5, a6, a7) (nI k) := by
  have key : ∀ f k, k < f → k < m → ∃ r : Nat, r ≤ k ∧ ∀ (post : Int32 → Prop) (a1 a2 a3 a4 a5 a6 : Nat → Int32), post (nI r) → wX_find_2 post a1 a2 a3 a4 a5 a6 a7 f (nI k) := by
    intro f
    induction f with
    | zero => intro k h; exact absurd h (by omega)
    | succ f ih =>
      intro k hf hk
      have v : vp_in (nI k) 256 := vp_in_nI (by omega) (by decide)
      have ek : (nI k).toNatClampNeg = k := nI_clamp (by omega)
      obtain ⟨t, ht, e⟩ := hl k hk
      by_cases c : k ≤ t
      · refine ⟨k, by omega, fun post a1 a2 a3 a4 a5 a6 H => ⟨v, ?_⟩⟩
        rw [ek, e]
        exact br_t (nI_le c (by omega)) H
      · obtain ⟨r, hr, h⟩ := ih t (by omega) (by omega)
        refine ⟨r, by omega, fun post a1 a2 a3 a4 a5 a6 H => ⟨v, ?_⟩⟩
        rw [ek, e]
        exact br_f (nI_ge (by omega) (by omega)) ⟨v, nm_e (h post a1 a2 a3 a4 a5 a6 H)⟩
  obtain ⟨r, hr, h⟩ := key (k + 1) k (by omega) hk
  exact ⟨r, hr, fun post a1 a2 a3 a4 a5 a6 H => ⟨k + 1, h post a1 a2 a3 a4 a5 a6 H⟩⟩
theorem bf_join {m : Nat} {a7 : Nat → Int32} (hm : m ≤ 256) (hl : bf_V m a7) {i k : Nat} (hi : i < m) (hk : k < m) :
    ∃ (r : Int32) (c7 : Nat → Int32), bf_V m c7 ∧ ∀ (post : Int32 → St1 → Prop) (a1 a2 a3 a4 a5 a6 : Nat → Int32), post r (a1, a2, a3, a4, a5, a6, c7) → wpX_join post (a1, a2, a3, a4, a5, a6, a7) (nI i) (nI k) := by
  obtain ⟨x, hx, h1⟩ := bf_find hm hl hi
  obtain ⟨y, hy, h2⟩ := bf_find hm hl hk
  have ex : (nI x).toNatClampNeg = x := nI_clamp (by omega)
  have ey : (nI y).toNatClampNeg = y := nI_clamp (by omega)
  by_cases e : x = y
  · refine ⟨0, a7, hl, fun post a1 a2 a3 a4 a5 a6 H => ?_⟩
    unfold wpX_join
    dsimp only
    refine h1 _ a1 a2 a3 a4 a5 a6 ?_
    refine h2 _ a1 a2 a3 a4 a5 a6 ?_
    exact br_t (by rw [e]) H
  · have e' : ¬ nI x = nI y := by
      rw [nI_eq (by omega) (by omega)]
      exact e
    by_cases c : y ≤ x
    · refine ⟨1, upd a7 x (nI y), bf_V_upd hl x y c, fun post a1 a2 a3 a4 a5 a6 H => ?_⟩
      unfold wpX_join
      dsimp only
      refine h1 _ a1 a2 a3 a4 a5 a6 ?_
      refine h2 _ a1 a2 a3 a4 a5 a6 ?_
      exact br_f e' (br_t (nI_le c (by omega)) ⟨vp_in_nI (by omega) (by decide), nm_r (by rw [ex]) H⟩)
    · refine ⟨1, upd a7 y (nI x), bf_V_upd hl y x (by omega), fun post a1 a2 a3 a4 a5 a6 H => ?_⟩
      unfold wpX_join
      dsimp only
      refine h1 _ a1 a2 a3 a4 a5 a6 ?_
      refine h2 _ a1 a2 a3 a4 a5 a6 ?_
      exact br_f e' (br_f (nI_ge (by omega) (by omega)) ⟨vp_in_nI (by omega) (by decide), nm_r (by rw [ey]) H⟩)
theorem bf_p62 (a1 : Nat → Int32) {a7 : Nat → Int32} {i : Nat} (hi : i < 256) (hl : bf_V (i + 1) a7) (s : Int32) :
    ∃ (s' : Int32) (c7 : Nat → Int32), bf_V (i + 1) c7 ∧ ∀ (post : Int32 → St1 → Prop) (J : Int32 → Int32 → (Nat → Int32) → (Nat → Int32) → (Nat → Int32) → (Nat → Int32) → (Nat → Int32) → (Nat → Int32) → (Nat → Int32) → Prop) (a2 a3 a4 a5 a6 : Nat → Int32),
      J s' (nI (i + 1)) a1 a2 a3 a4 a5 a6 c7 → wX_patches_62 post J s (nI i) a1 a2 a3 a4 a5 a6 a7 := by
  by_cases h16 : i < 16
  · refine ⟨s, a7, hl, fun post J a2 a3 a4 a5 a6 H => ?_⟩
    unfold wX_patches_62
    exact br_t (nI_lt (b := 16) h16 (by decide)) (nm_r (nI_1 i) H)
  · have e : nI i - 16 = nI (i - 16) := pk_sub (a := i) (b := 16) (by omega)
    have v : vp_in (nI (i - 16)) 256 := vp_in_nI (by omega) (by decide)
    have l : ¬ nI i < 16 := nI_nlt (b := 16) (by omega) (by omega)
    by_cases p : a1 (nI (i - 16)).toNatClampNeg ≤ 0
    · refine ⟨s, a7, hl, fun post J a2 a3 a4 a5 a6 H => ?_⟩
      unfold wX_patches_62
      rw [e]
      exact br_f l ⟨v, br_t p (nm_r (nI_1 i) H)⟩
    · obtain ⟨r, c7, hc, h⟩ := bf_join (by omega) hl (show i < i + 1 by omega) (show i - 16 < i + 1 by omega)
      by_cases z : r = 0
      · refine ⟨s, c7, hc, fun post J a2 a3 a4 a5 a6 H => ?_⟩
        unfold wX_patches_62
        rw [e]
        exact br_f l ⟨v, br_f p (h _ a1 a2 a3 a4 a5 a6 (br_t z (nm_r (nI_1 i) H)))⟩
      · refine ⟨s + (-1), c7, hc, fun post J a2 a3 a4 a5 a6 H => ?_⟩
        unfold wX_patches_62
        rw [e]
        exact br_f l ⟨v, br_f p (h _ a1 a2 a3 a4 a5 a6 (br_f z (nm_e (nm_r (nI_1 i) H))))⟩
theorem bf_p4 (a1 : Nat → Int32) : ∀ k i (s : Int32) (a7 : Nat → Int32), i + k = 256 → bf_V i a7 →
    ∃ (r : Int32) (c7 : Nat → Int32), ∀ (post : Int32 → St1 → Prop) (a2 a3 a4 a5 a6 : Nat → Int32), post r (a1, a2, a3, a4, a5, a6, c7) → wX_patches_4 post (k + 1) s (nI i) a1 a2 a3 a4 a5 a6 a7 := by
  intro k
  induction k with
  | zero =>
    intro i s a7 hi hl
    exact ⟨s, a7, fun post a2 a3 a4 a5 a6 H => pk_le 256 i (fun _ => H) (fun z => absurd z (by omega))⟩
  | succ k ih =>
    intro i s a7 hi hl
    have hi' : i < 256 := by omega
    have v : vp_in (nI i) 256 := vp_in_nI hi' (by decide)
    have ei : (nI i).toNatClampNeg = i := nI_clamp (by omega)
    have hd : bf_V (i + 1) (upd a7 (nI i).toNatClampNeg (nI i)) := by
      rw [ei]
      exact bf_V_add hl (by omega) i (by omega) (by omega)
    by_cases p : a1 (nI i).toNatClampNeg ≤ 0
    · obtain ⟨r, c7, h⟩ := ih (i + 1) s _ (by omega) hd
      exact ⟨r, c7, fun post a2 a3 a4 a5 a6 H => pk_le 256 i (fun z => absurd z (by omega)) (fun _ => ⟨v, nm_e ⟨v, br_t p (nm_r (nI_1 i) (h post a2 a3 a4 a5 a6 H))⟩⟩)⟩
    · by_cases p2 : nI i - nI i / 16 * 16 ≤ 0
      · obtain ⟨s', d7, hd', h'⟩ := bf_p62 a1 hi' hd (s + 1)
        obtain ⟨r, c7, h⟩ := ih (i + 1) s' _ (by omega) hd'
        exact ⟨r, c7, fun post a2 a3 a4 a5 a6 H => pk_le 256 i (fun z => absurd z (by omega)) (fun _ => ⟨v, nm_e ⟨v, br_f p (nm_e ⟨by decide, br_t p2 (h' post _ a2 a3 a4 a5 a6 (h post a2 a3 a4 a5 a6 H))⟩)⟩⟩)⟩
      · have i0 : 0 < i := by
          rcases Nat.eq_zero_or_pos i with z | z
          · subst z
            exact absurd (by decide) p2
          · exact z
        have e1 : nI i - 1 = nI (i - 1) := pk_sub (a := i) (b := 1) (by omega)
        have v1 : vp_in (nI (i - 1)) 256 := vp_in_nI (by omega) (by decide)
        by_cases p3 : a1 (nI (i - 1)).toNatClampNeg ≤ 0
        · obtain ⟨s', d7, hd', h'⟩ := bf_p62 a1 hi' hd (s + 1)
          obtain ⟨r, c7, h⟩ := ih (i + 1) s' _ (by omega) hd'
          refine ⟨r, c7, fun post a2 a3 a4 a5 a6 H => pk_le 256 i (fun z => absurd z (by omega)) (fun _ => ?_)⟩
          rw [e1]
          exact ⟨v, nm_e ⟨v, br_f p (nm_e ⟨by decide, br_f p2 ⟨v1, br_t p3 (h' post _ a2 a3 a4 a5 a6 (h post a2 a3 a4 a5 a6 H))⟩⟩)⟩⟩
        · obtain ⟨j, j7, hj, hjj⟩ := bf_join (by omega) hd (show i < i + 1 by omega) (show i - 1 < i + 1 by omega)
          by_cases z : j = 0
          · obtain ⟨s', d7, hd', h'⟩ := bf_p62 a1 hi' hj (s + 1)
            obtain ⟨r, c7, h⟩ := ih (i + 1) s' _ (by omega) hd'
            refine ⟨r, c7, fun post a2 a3 a4 a5 a6 H => pk_le 256 i (fun z => absurd z (by omega)) (fun _ => ?_)⟩
            rw [e1]
            exact ⟨v, nm_e ⟨v, br_f p (nm_e ⟨by decide, br_f p2 ⟨v1, br_f p3 (hjj _ a1 a2 a3 a4 a5 a6 (br_t z (h' post _ a2 a3 a4 a5 a6 (h post a2 a3 a4 a5 a6 H))))⟩⟩)⟩⟩
          · obtain ⟨s', d7, hd', h'⟩ := bf_p62 a1 hi' hj (s + 1 + (-1))
            obtain ⟨r, c7, h⟩ := ih (i + 1) s' _ (by omega) hd'
            refine ⟨r, c7, fun post a2 a3 a4 a5 a6 H => pk_le 256 i (fun z => absurd z (by omega)) (fun _ => ?_)⟩
            rw [e1]
            exact ⟨v, nm_e ⟨v, br_f p (nm_e ⟨by decide, br_f p2 ⟨v1, br_f p3 (hjj _ a1 a2 a3 a4 a5 a6 (br_f z (nm_e (h' post _ a2 a3 a4 a5 a6 (h post a2 a3 a4 a5 a6 H)))))⟩⟩)⟩⟩
theorem bf_patches (a1 a7 : Nat → Int32) : ∃ (r : Int32) (c7 : Nat → Int32), ∀ (post : Int32 → St1 → Prop) (a2 a3 a4 a5 a6 : Nat → Int32), post r (a1, a2, a3, a4, a5, a6, c7) → wpX_patches post (a1, a2, a3, a4, a5, a6, a7) := by
  obtain ⟨r, c7, h⟩ := bf_p4 a1 256 0 0 a7 (by omega) (fun k hk => absurd hk (by omega))
  exact ⟨r, c7, fun post a2 a3 a4 a5 a6 H => ⟨257, h post a2 a3 a4 a5 a6 H⟩⟩
end
section
theorem bf_t110 (op : Int32) (a1 a2 a6 a7 : Nat → Int32) : ∃ c1 c2 c6 c7 : Nat → Int32, ∀ (post : St1 → Prop) (a3 a4 a5 : Nat → Int32), (∀ c3 c4 c5, post (c1, c2, c3, c4, c5, c6, c7)) → wL_turn_110 post op a1 a2 a3 a4 a5 a6 a7 := by
  by_cases o : op = 12
  · exact ⟨a1, bf_lay 256 a1 a2, a6, a7, fun post a3 a4 a5 H => br_t o (bf_keep (H a3 a4 a5))⟩
  · exact ⟨a1, a2, a6, a7, fun post a3 a4 a5 H => br_f o (H a3 a4 a5)⟩
theorem bf_t100 (op : Int32) (a1 a2 a6 a7 : Nat → Int32) : ∃ c1 c2 c6 c7 : Nat → Int32, ∀ (post : St1 → Prop) (a3 a4 a5 : Nat → Int32), (∀ c3 c4 c5, post (c1, c2, c3, c4, c5, c6, c7)) → wL_turn_100 post op a1 a2 a3 a4 a5 a6 a7 := by
  by_cases o : op = 11
  · obtain ⟨d1, d2, h⟩ := bf_exchange a1 a2
    obtain ⟨c1, c2, c6, c7, h'⟩ := bf_t110 op d1 d2 a6 a7
    exact ⟨c1, c2, c6, c7, fun post a3 a4 a5 H => br_t o (h _ a3 a4 a5 a6 a7 (h' post a3 a4 a5 H))⟩
  · obtain ⟨c1, c2, c6, c7, h'⟩ := bf_t110 op a1 a2 a6 a7
    exact ⟨c1, c2, c6, c7, fun post a3 a4 a5 H => br_f o (h' post a3 a4 a5 H)⟩
theorem bf_t87 (op v : Int32) (a1 a2 a6 a7 : Nat → Int32) : ∃ c1 c2 c6 c7 : Nat → Int32, ∀ (post : St1 → Prop) (a3 a4 a5 : Nat → Int32), (∀ c3 c4 c5, post (c1, c2, c3, c4, c5, c6, c7)) → wL_turn_87 post op v a1 a2 a3 a4 a5 a6 a7 := by
  by_cases o : op = 10
  · obtain ⟨r, d1, h⟩ := bf_threshold v a1
    obtain ⟨c1, c2, c6, c7, h'⟩ := bf_t100 op d1 a2 a6 a7
    exact ⟨c1, c2, c6, c7, fun post a3 a4 a5 H => br_t o (h _ a2 a3 a4 a5 a6 a7 (h' post a3 a4 a5 H))⟩
  · obtain ⟨c1, c2, c6, c7, h'⟩ := bf_t100 op a1 a2 a6 a7
    exact ⟨c1, c2, c6, c7, fun post a3 a4 a5 H => br_f o (h' post a3 a4 a5 H)⟩
theorem bf_t70 (op a b v : Int32) (a1 a2 a6 a7 : Nat → Int32) : ∃ c1 c2 c6 c7 : Nat → Int32, ∀ (post : St1 → Prop) (a3 a4 a5 : Nat → Int32), (∀ c3 c4 c5, post (c1, c2, c3, c4, c5, c6, c7)) → wL_turn_70 post op a b v a1 a2 a3 a4 a5 a6 a7 := by
  by_cases o : op = 9
  · obtain ⟨w, hw, ew⟩ := pk_andE a (m := 3) 2 (by decide)
    obtain ⟨h, hh, eh⟩ := pk_andE b (m := 3) 2 (by decide)
    obtain ⟨d1, d6, h1⟩ := bf_mean a1 a6 (show w ≤ 7 by omega) (show h ≤ 7 by omega)
    obtain ⟨c1, c2, c6, c7, h'⟩ := bf_t87 op v d1 a2 d6 a7
    refine ⟨c1, c2, c6, c7, fun post a3 a4 a5 H => br_t o ?_⟩
    rw [ew, eh]
    exact h1 _ a2 a3 a4 a5 a7 (fun r b3 => h' post b3 a4 a5 H)
  · obtain ⟨c1, c2, c6, c7, h'⟩ := bf_t87 op v a1 a2 a6 a7
    exact ⟨c1, c2, c6, c7, fun post a3 a4 a5 H => br_f o (h' post a3 a4 a5 H)⟩
theorem bf_t53 (op a b v : Int32) (a1 a2 a6 a7 : Nat → Int32) : ∃ c1 c2 c6 c7 : Nat → Int32, ∀ (post : St1 → Prop) (a3 a4 a5 : Nat → Int32), (∀ c3 c4 c5, post (c1, c2, c3, c4, c5, c6, c7)) → wL_turn_53 post op a b v a1 a2 a3 a4 a5 a6 a7 := by
  by_cases o : op = 8
  · obtain ⟨w, hw, ew⟩ := pk_andE a (m := 1) 1 (by decide)
    obtain ⟨h, hh, eh⟩ := pk_andE b (m := 1) 1 (by decide)
    obtain ⟨d1, F⟩ := bf_F_ex 0 w h a1
    obtain ⟨c1, c2, c6, c7, h'⟩ := bf_t70 op a b v d1 a2 a6 a7
    refine ⟨c1, c2, c6, c7, fun post a3 a4 a5 H => br_t o ?_⟩
    rw [ew, eh]
    refine bf_erode (by omega) (by omega) (fun r e1 b3 b4 b5 G => ?_)
    rw [bf_F_un G F]
    exact h' post b3 b4 b5 H
  · obtain ⟨c1, c2, c6, c7, h'⟩ := bf_t70 op a b v a1 a2 a6 a7
    exact ⟨c1, c2, c6, c7, fun post a3 a4 a5 H => br_f o (h' post a3 a4 a5 H)⟩
theorem bf_t36 (op a b v : Int32) (a1 a2 a6 a7 : Nat → Int32) : ∃ c1 c2 c6 c7 : Nat → Int32, ∀ (post : St1 → Prop) (a3 a4 a5 : Nat → Int32), (∀ c3 c4 c5, post (c1, c2, c3, c4, c5, c6, c7)) → wL_turn_36 post op a b v a1 a2 a3 a4 a5 a6 a7 := by
  by_cases o : op = 7
  · obtain ⟨w, hw, ew⟩ := pk_andE a (m := 1) 1 (by decide)
    obtain ⟨h, hh, eh⟩ := pk_andE b (m := 1) 1 (by decide)
    obtain ⟨d1, F⟩ := bf_F_ex 1 w h a1
    obtain ⟨c1, c2, c6, c7, h'⟩ := bf_t53 op a b v d1 a2 a6 a7
    refine ⟨c1, c2, c6, c7, fun post a3 a4 a5 H => br_t o ?_⟩
    rw [ew, eh]
    refine bf_dilate (by omega) (by omega) (fun r e1 b3 b4 b5 G => ?_)
    rw [bf_F_un G F]
    exact h' post b3 b4 b5 H
  · obtain ⟨c1, c2, c6, c7, h'⟩ := bf_t53 op a b v a1 a2 a6 a7
    exact ⟨c1, c2, c6, c7, fun post a3 a4 a5 H => br_f o (h' post a3 a4 a5 H)⟩
theorem bf_t24 (op a b v : Int32) (a1 a2 a6 a7 : Nat → Int32) : ∃ c1 c2 c6 c7 : Nat → Int32, ∀ (post : St1 → Prop) (a3 a4 a5 : Nat → Int32), (∀ c3 c4 c5, post (c1, c2, c3, c4, c5, c6, c7)) → wL_turn_24 post op a b v a1 a2 a3 a4 a5 a6 a7 := by
  by_cases o : op = 6
  · obtain ⟨d1, h⟩ := bf_pattern a b a1
    obtain ⟨c1, c2, c6, c7, h'⟩ := bf_t36 op a b v d1 a2 a6 a7
    exact ⟨c1, c2, c6, c7, fun post a3 a4 a5 H => br_t o (h _ a2 a3 a4 a5 a6 a7 (h' post a3 a4 a5 H))⟩
  · obtain ⟨c1, c2, c6, c7, h'⟩ := bf_t36 op a b v a1 a2 a6 a7
    exact ⟨c1, c2, c6, c7, fun post a3 a4 a5 H => br_f o (h' post a3 a4 a5 H)⟩
theorem bf_turn (op a b v : Int32) (a1 a2 a6 a7 : Nat → Int32) : ∃ c1 c2 c6 c7 : Nat → Int32, ∀ (post : St1 → Prop) (a3 a4 a5 : Nat → Int32), (∀ c3 c4 c5, post (c1, c2, c3, c4, c5, c6, c7)) → wpL_turn post (a1, a2, a3, a4, a5, a6, a7) op a b v := by
  by_cases o : 5 < op
  · obtain ⟨c1, c2, c6, c7, h'⟩ := bf_t24 op a b v a1 a2 a6 a7
    exact ⟨c1, c2, c6, c7, fun post a3 a4 a5 H => br_t o (h' post a3 a4 a5 H)⟩
  · obtain ⟨r, hr, er⟩ := pk_andE a (m := 15) 4 (by decide)
    obtain ⟨c, hc, ec⟩ := pk_andE b (m := 15) 4 (by decide)
    obtain ⟨x, hx, ex⟩ := pk_andE v (m := 255) 8 (by decide)
    obtain ⟨c1, c2, c6, c7, h'⟩ := bf_t24 op a b v (upd a1 (r * 16 + c) (nI x)) a2 a6 a7
    refine ⟨c1, c2, c6, c7, fun post a3 a4 a5 H => br_f o ?_⟩
    rw [er, ec, ex]
    exact bf_set (by omega) (by omega) (by omega) (h' post a3 a4 a5 H)
theorem bf_same (a1 a7 : Nat → Int32) : ∃ c7 : Nat → Int32, ∀ (post : Int32 → St3 → Prop) (a2 a3 a4 a5 a6 b2 b3 b4 b5 b6 : Nat → Int32), post 1 (a1, a2, a3, a4, a5, a6, c7, a1, b2, b3, b4, b5, b6, c7) →
    wpL_same post (a1, a2, a3, a4, a5, a6, a7, a1, b2, b3, b4, b5, b6, a7) := by
  obtain ⟨s, hs⟩ := bf_sum a1
  obtain ⟨r, c7, hp⟩ := bf_patches a1 a7
  refine ⟨c7, fun post a2 a3 a4 a5 a6 b2 b3 b4 b5 b6 H => ?_⟩
  have key : ∀ k i, i + k = 256 → wL_same_2 post a1 a2 a3 a4 a5 a6 a7 a1 b2 b3 b4 b5 b6 a7 (k + 1) (nI i) := by
    intro k
    induction k with
    | zero =>
      intro i hi
      refine pk_le 256 i (fun _ => ?_) (fun z => absurd z (by omega))
      exact hs _ a2 a3 a4 a5 a6 a7 (hs _ b2 b3 b4 b5 b6 a7 (br_t rfl (hp _ a2 a3 a4 a5 a6 (hp _ b2 b3 b4 b5 b6 (br_t rfl H)))))
    | succ k ih =>
      intro i hi
      have e1 : nI i / 16 = nI (i / 16) := pk_div (a := i) (d := 16) (by omega) (by omega) (by omega)
      have e2 : nI i - nI i / 16 * 16 = nI (i % 16) := pk_rem (a := i) (d := 16) (by omega) (by omega) (by omega)
      refine pk_le 256 i (fun z => absurd z (by omega)) (fun _ => ?_)
      rw [e2, e1]
      exact ⟨by decide, by decide, bf_pixel (by omega) (by omega) ⟨by decide, by decide, bf_pixel (by omega) (by omega) (br_t rfl (nm_r (nI_1 i) (ih (i + 1) (by omega))))⟩⟩
  exact ⟨257, key 256 0 (by omega)⟩
end
section
theorem bf_F_eq {g : Int32} {w h w' h' : Nat} {a b : Nat → Int32} (H : bf_F g w h a b) (e1 : w = w') (e2 : h = h') : bf_F g w' h' a b := by
  subst e1 e2
  exact H
theorem bf_298 {post : Int32 → Prop} {L : Nat} {xs : Nat → Int32} {J : Int32 → (Nat → Int32) → (Nat → Int32) → (Nat → Int32) → (Nat → Int32) → (Nat → Int32) → (Nat → Int32) → (Nat → Int32) → (Nat → Int32) → (Nat → Int32) → (Nat → Int32) → (Nat → Int32) → (Nat → Int32) → (Nat → Int32) → (Nat → Int32) → Prop}
    {kc ks i : Nat} {a1 a2 a3 a4 a5 a6 a7 b3 b4 b5 : Nat → Int32} (H : ∀ c7, J (nI (i + 4)) a1 a2 a3 a4 a5 a6 c7 a1 a2 b3 b4 b5 a6 c7) : wL_law_298 post L xs J (nI i) kc ks a1 a2 a3 a4 a5 a6 a7 a1 a2 b3 b4 b5 a6 a7 := by
  obtain ⟨c7, h⟩ := bf_same a1 a7
  exact h _ a2 a3 a4 a5 a6 a2 b3 b4 b5 a6 (br_f (by decide) (nm_r (nI_add i 4) (H c7)))
theorem bf_264 {post : Int32 → Prop} {L : Nat} {xs : Nat → Int32} {J : Int32 → (Nat → Int32) → (Nat → Int32) → (Nat → Int32) → (Nat → Int32) → (Nat → Int32) → (Nat → Int32) → (Nat → Int32) → (Nat → Int32) → (Nat → Int32) → (Nat → Int32) → (Nat → Int32) → (Nat → Int32) → (Nat → Int32) → (Nat → Int32) → Prop}
    {op : Int32} {kc ks i w h : Nat} {a1 a2 a3 a4 a5 a6 a7 b3 b4 b5 : Nat → Int32} (hw : w ≤ 7) (hh : h ≤ 7)
    (H : ∀ d1 a3 a4 a5 b3 b4 b5 c7, J (nI (i + 4)) d1 a2 a3 a4 a5 a6 c7 d1 a2 b3 b4 b5 a6 c7) : wL_law_264 post L xs J (nI i) op (nI w) (nI h) kc ks a1 a2 a3 a4 a5 a6 a7 a1 a2 b3 b4 b5 a6 a7 := by
  refine br_c (fun _ => bf_close hw hh (fun _ m d p3 p4 p5 F F' => bf_dilate hw hh (fun _ m' q3 q4 q5 G => bf_erode hw hh (fun _ d' t3 t4 t5 G' => ?_)))) (fun _ => bf_298 (fun c7 => H a1 a3 a4 a5 b3 b4 b5 c7))
  have e := bf_F_un G F
  subst e
  have e' := bf_F_un G' F'
  subst e'
  exact bf_298 (fun c7 => H _ p3 p4 p5 t3 t4 t5 c7)
theorem bf_end {L : Nat} {xs : Nat → Int32} {kc ks : Nat} {a1 a2 a3 a4 a5 a6 a7 b1 b2 b3 b4 b5 b6 b7 : Nat → Int32} : wL_law_318 (fun r => r = 1) L xs kc ks a1 a2 a3 a4 a5 a6 a7 b1 b2 b3 b4 b5 b6 b7 := by
  have h1 : ∀ j, j < 256 → a1 j = bf_lay 256 a1 a2 j := fun j hj => (bf_lay_in a1 a2 hj).symm
  have h2 : ∀ j, j < 256 → b1 j = bf_lay 256 b1 b2 j := fun j hj => (bf_lay_in b1 b2 hj).symm
  exact bf_keep (bf_keep (bf_equal h1 (br_t rfl (bf_equal h2 (br_t rfl (bf_above h1 (bf_above h2 (br_t (by decide) rfl))))))))
theorem bf_lt {L i : Nat} (hL : L ≤ 260) (hi : i ≤ 1000) : nI L - nI 4 < nI i ↔ L < i + 4 := by
  rw [Int32.lt_iff_toInt_lt, pk_sub_toInt (by omega) (by omega), nI_toInt (by omega)]
  omega
theorem bf_law {L : Nat} {xs : Nat → Int32} {kc ks : Nat} (hL : L ≤ 260) : ∀ k i (a1 a2 a3 a4 a5 a6 a7 b3 b4 b5 : Nat → Int32), i + 4 * k = 80 → wL_law_18 (fun r => r = 1) L xs kc ks (k + 1) (nI i) a1 a2 a3 a4 a5 a6 a7 a1 a2 b3 b4 b5 a6 a7 := by
  intro k
  induction k with
  | zero =>
    intro i a1 a2 a3 a4 a5 a6 a7 b3 b4 b5 hi
    exact br_c (fun _ => bf_end) (fun _ => pk_le 80 i (fun _ => bf_end) (fun z => absurd z (by omega)))
  | succ k ih =>
    intro i a1 a2 a3 a4 a5 a6 a7 b3 b4 b5 hi
    refine ek_if (show Int32.ofNat L - 4 < nI i ↔ L < i + 4 from bf_lt hL (by omega)) (fun _ => bf_end) (fun hb => pk_le 80 i (fun z => absurd z (by omega)) (fun _ => ?_))
    have v0 : vp_in (nI i) L := vp_in_nI (by omega) (by omega)
    have v1 : vp_in (nI i + 1) L := by rw [nI_1]; exact vp_in_nI (by omega) (by omega)
    have v2 : vp_in (nI i + 2) L := by rw [show nI i + 2 = nI (i + 2) from nI_add i 2]; exact vp_in_nI (by omega) (by omega)
    have v3 : vp_in (nI i + 3) L := by rw [show nI i + 3 = nI (i + 3) from nI_add i 3]; exact vp_in_nI (by omega) (by omega)
    refine ⟨v0, fun op _ => ⟨v1, fun a _ => ⟨v2, fun b _ => ⟨v3, fun v _ => ?_⟩⟩⟩⟩
    obtain ⟨c1, c2, c6, c7, ht⟩ := bf_turn op a b v a1 a2 a6 a7
    obtain ⟨d7, hsame⟩ := bf_same c1 c7
    obtain ⟨w, hw, ew⟩ := pk_andE v (m := 3) 2 (by decide)
    obtain ⟨h, hh, eh⟩ := pk_andE (v >>> ((2 : Int32) &&& 31)) (m := 3) 2 (by decide)
    have fin : ∀ d1 a3 a4 a5 b3 b4 b5 e7, wL_law_18 (fun r => r = 1) L xs kc ks (k + 1) (nI (i + 4)) d1 c2 a3 a4 a5 c6 e7 d1 c2 b3 b4 b5 c6 e7 := fun d1 a3 a4 a5 b3 b4 b5 e7 => ih (i + 4) d1 c2 a3 a4 a5 c6 e7 b3 b4 b5 (by omega)
    refine ht _ a3 a4 a5 (fun p3 p4 p5 => ht _ b3 b4 b5 (fun q3 q4 q5 => hsame _ c2 p3 p4 p5 c6 c2 q3 q4 q5 c6 (br_f (by decide) (nm_r ew (nm_r eh ?_)))))
    refine br_c (fun _ => ?_) (fun _ => br_c (fun _ => ?_) (fun _ => br_c (fun _ => br_c (fun _ => ?_) (fun _ => bf_264 (by omega) (by omega) fin)) (fun _ => bf_264 (by omega) (by omega) fin)))
    · rw [show nI w + 1 = nI (w + 1) from nI_1 w, show nI h + 3 = nI (h + 3) from nI_add h 3]
      refine bf_dilate (by omega) (by omega) (fun _ x1 x3 x4 x5 F => bf_dilate (w := w) (h := 1) (by omega) (by omega) (fun _ y1 _ _ _ G1 => bf_dilate (w := 1) (h := h) (by omega) (by omega) (fun _ y2 _ _ _ G2 => bf_dilate (w := 0) (h := 2) (by omega) (by omega) (fun _ y3 z3 z4 z5 G3 => ?_))))
      have e := bf_F_un (bf_F_eq (bf_F_comp (bf_F_comp G1 G2) G3) (by omega) (by omega)) F
      subst e
      exact bf_298 (fun e7 => fin _ x3 x4 x5 z3 z4 z5 e7)
    · rw [show nI w + 2 = nI (w + 2) from nI_add w 2, show nI h + 1 = nI (h + 1) from nI_1 h]
      refine bf_erode (by omega) (by omega) (fun _ x1 x3 x4 x5 F => bf_erode (w := 0) (h := h) (by omega) (by omega) (fun _ y1 _ _ _ G1 => bf_erode (w := w) (h := 1) (by omega) (by omega) (fun _ y2 _ _ _ G2 => bf_erode (w := 2) (h := 0) (by omega) (by omega) (fun _ y3 z3 z4 z5 G3 => ?_))))
      have e := bf_F_un (bf_F_eq (bf_F_comp (bf_F_comp G1 G2) G3) (by omega) (by omega)) F
      subst e
      exact bf_298 (fun e7 => fin _ x3 x4 x5 z3 z4 z5 e7)
    · refine bf_opn (by omega) (by omega) (fun _ m x1 x3 x4 x5 F F' => bf_erode (w := w) (h := 0) (by omega) (by omega) (fun _ y1 _ _ _ G1 => bf_erode (w := 0) (h := h) (by omega) (by omega) (fun _ y2 _ _ _ G2 => bf_dilate (w := 0) (h := h) (by omega) (by omega) (fun _ y3 _ _ _ G3 => bf_dilate (w := w) (h := 0) (by omega) (by omega) (fun _ y4 z3 z4 z5 G4 => ?_)))))
      have e := bf_F_un (bf_F_eq (bf_F_comp G1 G2) (by omega) (by omega)) F
      subst e
      have e' := bf_F_un (bf_F_eq (bf_F_comp G3 G4) (by omega) (by omega)) F'
      subst e'
      exact bf_298 (fun e7 => fin _ x3 x4 x5 z3 z4 z5 e7)
theorem bf_init {post : St1 → Prop} (H : post (upd (fun _ => 0) 0 0, fun _ => 0, fun _ => 0, fun _ => 0, fun _ => 0, fun _ => 0, fun _ => 0)) : wpX_init post 7 1345 () :=
  ⟨by decide, by decide, by decide, by decide, by decide, by decide, by decide, by decide, by decide, by decide, by decide, by decide, by decide, by decide, nm_e H⟩
theorem i_vc (xs : Nat → Int32) (L : Nat) (hL : L ≤ 260) : wpL_law (fun r => r = 1) L xs :=
  ⟨7, 1345, by decide, by decide, bf_init ⟨by decide, by decide, 7, 1345, by decide, by decide, bf_init ⟨21, bf_law hL 20 0 _ _ _ _ _ _ _ _ _ _ (by omega)⟩⟩⟩
end
