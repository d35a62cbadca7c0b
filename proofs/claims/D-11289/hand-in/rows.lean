section
/-! ===== the picture ===== -/
/-- the sum of the first k items of stream 1 -/
def nw_T (b : Int32) : Nat → Int32
  | 0 => 0
  | k + 1 => nw_T b k + (b + nI k)
/-- item k of stream p -/
def nw_G (a b v : Int32) (p k : Nat) : Int32 :=
  if p = 0 then a * ((2 * nI k) + 1)
  else if p = 1 then b + nI k
  else if p = 2 then (a * ((2 * nI k) + 1)) + (b + nI k)
  else if p = 3 then nw_T b (k + 1)
  else if p = 4 then (if k = 0 then v else a * ((2 * nI (k - 1)) + 1))
  else 0 * ((2 * nI k) + 1)
/-- the length of stream p at the end -/
def nw_mF (p : Nat) : Nat := if p = 1 ∨ p = 3 then 40 else if p = 4 then 6 else 5
/-- the lengths when the processes below i have run -/
def nw_m (i j : Nat) : Nat := if j < i then nw_mF j else 0
def nw_st (m : Nat → Nat) (p i : Nat) : Nat → Nat := fun j => if j = p then i else m j
theorem nw_st_s {m : Nat → Nat} {p i : Nat} : nw_st m p i p = i := if_pos rfl
theorem nw_st_n {m : Nat → Nat} {p i j : Nat} (h : j ≠ p) : nw_st m p i j = m j := if_neg h
theorem nw_st_st {m : Nat → Nat} {p i i' : Nat} : nw_st (nw_st m p i) p i' = nw_st m p i' := by
  funext j
  unfold nw_st
  by_cases h : j = p
  · rw [if_pos h, if_pos h]
  · rw [if_neg h, if_neg h, if_neg h]
theorem nw_st_id {m : Nat → Nat} {p i : Nat} (h : m p = i) : nw_st m p i = m := by
  funext j
  unfold nw_st
  by_cases e : j = p
  · rw [if_pos e, e, h]
  · rw [if_neg e]
theorem nw_m_lt {i j : Nat} (h : j < i) : nw_m i j = nw_mF j := if_pos h
theorem nw_m_ge {i j : Nat} (h : i ≤ j) : nw_m i j = 0 := if_neg (by omega)
theorem nw_m_s (i : Nat) : nw_st (nw_m i) i (nw_mF i) = nw_m (i + 1) := by
  funext j
  unfold nw_st nw_m
  by_cases e : j = i
  · rw [if_pos e, if_pos (by omega), e]
  · rw [if_neg e]
    by_cases h : j < i
    · rw [if_pos h, if_pos (by omega)]
    · rw [if_neg h, if_neg (by omega)]
/-- made and items against the picture -/
def nw_S (G : Nat → Nat → Int32) (m : Nat → Nat) (a5 a9 : Nat → Int32) : Prop :=
  (∀ j, j < 8 → a5 j = nI (m j)) ∧ (∀ j, j < 8 → m j ≤ 40) ∧ (∀ p k, p < 8 → k < m p → a9 (p * 40 + k) = G p k)
theorem nw_S_add {G : Nat → Nat → Int32} {m : Nat → Nat} {a5 a9 : Nat → Int32} {p : Nat} {x : Int32} (h : nw_S G m a5 a9) (hp : p < 8) (hm : m p < 40) (hx : x = G p (m p)) :
    nw_S G (nw_st m p (m p + 1)) (upd a5 p (nI (m p + 1))) (upd a9 (p * 40 + m p) x) := by
  obtain ⟨h1, h2, h3⟩ := h
  refine ⟨fun j hj => ?_, fun j hj => ?_, fun q k hq hk => ?_⟩
  · by_cases e : j = p
    · rw [e, pk_us, nw_st_s]
    · rw [pk_un e, nw_st_n e, h1 j hj]
  · by_cases e : j = p
    · rw [e, nw_st_s]; omega
    · rw [nw_st_n e]; exact h2 j hj
  · by_cases e : q = p
    · subst e
      rw [nw_st_s] at hk
      by_cases e2 : k = m q
      · rw [e2, pk_us, hx]
      · rw [pk_un (by omega)]
        exact h3 q k hq (by omega)
    · rw [nw_st_n e] at hk
      have h40 := h2 q hq
      rw [pk_un (by omega)]
      exact h3 q k hq hk
theorem nw_nb : narrow .boolean (.int (1 : Int32)) = .int (1 : Int32) := by rfl
theorem nw_nb0 : narrow .boolean (.int (0 : Int32)) = .int (0 : Int32) := by rfl
theorem nw_and7 : ∀ j, j < 8 → (0 + nI j) &&& 7 = nI j := by decide +kernel
theorem nw_hd : ∀ j, j < 8 → (nI j + 1) &&& 7 = nI ((j + 1) % 8) := by decide +kernel
/-- an array set to a constant below i -/
theorem nw_fill {f s : Nat → Int32} {i k : Nat} {x : Int32} (hk : k = i) (h : ∀ j, j < i → s j = f j) (hx : x = f i) : ∀ j, j < i + 1 → upd s k x j = f j := by
  intro j hj
  rw [hk]
  by_cases e : j = i
  · rw [e, pk_us, hx]
  · rw [pk_un e]
    exact h j (by omega)
end
section
section
variable {w h : Int32} {a1 a2 a3 a4 a5 a6 a7 a8 a9 a10 a11 : Nat → Int32}
theorem nw_bad {post : Int32 → Prop} {p : Nat} (hp : p < 8) (H : post 0) : wpX_bad post () (nI p) :=
  br_f (nI_pos (by omega)) (pk_lt p 8 (fun _ => H) (fun z => absurd z (by omega)))
theorem nw_wakeL {post : St2 → Prop} {q : Nat} (hq : q < 8) (hl : ¬ a11 q = 0) (H : post (w, h, a1, a2, a3, a4, a5, a6, a7, a8, a9, a10, a11)) :
    wpX_wake post (w, h, a1, a2, a3, a4, a5, a6, a7, a8, a9, a10, a11) (nI q) := by
  unfold wpX_wake
  dsimp only
  rw [nI_clamp (show q < 2 ^ 31 by omega)]
  exact ⟨pk_in q 8 hq, br_f hl H⟩
theorem nw_wakeN {post : St2 → Prop} {q t : Nat} (hq : q < 8) (hl : a11 q = 0) (ht : t < 8) (et : (h + w) &&& 7 = nI t)
    (H : post (w + 1, h, a1, a2, a3, a4, a5, a6, a7, a8, a9, upd a10 t (nI q), upd a11 q 1)) :
    wpX_wake post (w, h, a1, a2, a3, a4, a5, a6, a7, a8, a9, a10, a11) (nI q) := by
  unfold wpX_wake
  dsimp only
  rw [nI_clamp (show q < 2 ^ 31 by omega), et, nI_clamp (show t < 2 ^ 31 by omega)]
  exact ⟨pk_in q 8 hq, br_t hl ⟨pk_in q 8 hq, nm_e ⟨pk_in t 8 ht, nm_e (nm_e H)⟩⟩⟩
theorem nw_61 {post : St2 → Prop} (hz : ∀ j, j < 8 → a11 j = 0)
    (H : ∀ b10 b11 : Nat → Int32, (∀ j, j < 8 → b10 j = nI j) → (∀ j, j < 8 → b11 j = 1) → post (nI 8, 0, a1, a2, a3, a4, a5, a6, a7, a8, a9, b10, b11)) :
    ∃ n, wX_restart_61 post n 0 0 0 a1 a2 a3 a4 a5 a6 a7 a8 a9 a10 a11 :=
  pk_loop (σ := (Nat → Int32) × (Nat → Int32)) (fun n i s => wX_restart_61 post n (nI i) (nI i) 0 a1 a2 a3 a4 a5 a6 a7 a8 a9 s.1 s.2)
    (fun i s => (∀ j, j < i → s.1 j = nI j) ∧ (∀ j, j < i → s.2 j = 1) ∧ (∀ j, i ≤ j → j < 8 → s.2 j = 0)) 8 0 (a10, a11) (by omega)
    ⟨fun j hj => absurd hj (by omega), fun j hj => absurd hj (by omega), fun j _ hj => hz j hj⟩
    (fun n s hI => pk_le 8 8 (fun _ => H s.1 s.2 hI.1 hI.2.1) (fun z => absurd z (by omega)))
    (fun n i s hi hI hw => pk_le 8 i (fun z => absurd z (by omega)) (fun _ => by
      refine nw_wakeN hi (hI.2.2 i (by omega) hi) hi (nw_and7 i hi) ?_
      intro x ex
      rw [nI_1] at ex
      subst ex
      have t := hw (upd s.1 i (nI i), upd s.2 i 1) ⟨nw_fill rfl hI.1 rfl, nw_fill (f := fun _ => 1) rfl hI.2.1 rfl, fun j h1 h2 => by
        show upd s.2 i 1 j = 0
        rw [pk_un (by omega)]
        exact hI.2.2 j (by omega) h2⟩
      rw [nI_1]
      exact t))
theorem nw_restart {post : St2 → Prop}
    (H : ∀ b5 b6 b7 b8 b10 b11 : Nat → Int32, (∀ j, j < 8 → b5 j = 0) → (∀ j, j < 8 → b6 j = 0) → (∀ j, j < 8 → b7 j = 0) → (∀ j, j < 8 → b8 j = 0) → (∀ j, j < 8 → b10 j = nI j) → (∀ j, j < 8 → b11 j = 1) →
      post (nI 8, 0, a1, a2, a3, a4, b5, b6, b7, b8, a9, b10, b11)) :
    wpX_restart post (w, h, a1, a2, a3, a4, a5, a6, a7, a8, a9, a10, a11) :=
  pk_loop (σ := (Nat → Int32) × (Nat → Int32) × (Nat → Int32) × (Nat → Int32) × (Nat → Int32)) (fun n i s => wX_restart_12 post 0 0 n (nI i) a1 a2 a3 a4 s.1 s.2.1 s.2.2.1 s.2.2.2.1 a9 a10 s.2.2.2.2)
    (fun i s => (∀ j, j < i → s.1 j = 0) ∧ (∀ j, j < i → s.2.1 j = 0) ∧ (∀ j, j < i → s.2.2.1 j = 0) ∧ (∀ j, j < i → s.2.2.2.1 j = 0) ∧ (∀ j, j < i → s.2.2.2.2 j = 0)) 8 0 (a5, a6, a7, a8, a11) (by omega)
    ⟨fun j hj => absurd hj (by omega), fun j hj => absurd hj (by omega), fun j hj => absurd hj (by omega), fun j hj => absurd hj (by omega), fun j hj => absurd hj (by omega)⟩
    (fun n s hI => pk_le 8 8 (fun _ => nw_61 hI.2.2.2.2 (fun b10 b11 h10 h11 => H _ _ _ _ b10 b11 hI.1 hI.2.1 hI.2.2.1 hI.2.2.2.1 h10 h11)) (fun z => absurd z (by omega)))
    (fun n i s hi hI hw => pk_le 8 i (fun z => absurd z (by omega)) (fun _ =>
      ⟨pk_in i 8 hi, nm_e ⟨pk_in i 8 hi, nm_e ⟨pk_in i 8 hi, nm_e ⟨pk_in i 8 hi, nm_e ⟨pk_in i 8 hi, nm_e (nm_r (nI_1 i)
        (hw (upd s.1 (nI i).toNatClampNeg 0, upd s.2.1 (nI i).toNatClampNeg 0, upd s.2.2.1 (nI i).toNatClampNeg 0, upd s.2.2.2.1 (nI i).toNatClampNeg 0, upd s.2.2.2.2 (nI i).toNatClampNeg 0)
          ⟨nw_fill (f := fun _ => 0) (nI_clamp (by omega)) hI.1 rfl, nw_fill (f := fun _ => 0) (nI_clamp (by omega)) hI.2.1 rfl, nw_fill (f := fun _ => 0) (nI_clamp (by omega)) hI.2.2.1 rfl,
            nw_fill (f := fun _ => 0) (nI_clamp (by omega)) hI.2.2.2.1 rfl, nw_fill (f := fun _ => 0) (nI_clamp (by omega)) hI.2.2.2.2 rfl⟩))⟩⟩⟩⟩⟩))
theorem nw_set {post : Int32 → St2 → Prop} {p k : Nat} {c x : Int32} (hp : p < 8) (hk : k ≤ 7)
    (H : ∀ b5 b6 b7 b8 b10 b11 : Nat → Int32, (∀ j, j < 8 → b5 j = 0) → (∀ j, j < 8 → b6 j = 0) → (∀ j, j < 8 → b7 j = 0) → (∀ j, j < 8 → b8 j = 0) → (∀ j, j < 8 → b10 j = nI j) → (∀ j, j < 8 → b11 j = 1) →
      post 0 (nI 8, 0, upd a1 p (nI k), upd a2 p (c &&& 7), upd a3 p ((c >>> ((3 : Int32) &&& 31)) &&& 7), upd a4 p x, b5, b6, b7, b8, a9, b10, b11)) :
    wpX_set post (w, h, a1, a2, a3, a4, a5, a6, a7, a8, a9, a10, a11) (nI p) (nI k) c x := by
  unfold wpX_set
  dsimp only
  rw [nI_clamp (show p < 2 ^ 31 by omega)]
  exact nw_bad hp (br_t rfl (br_f (nI_pos (by omega)) (pk_le k 7 (fun _ => ⟨pk_in p 8 hp, nm_e ⟨pk_in p 8 hp, nm_e ⟨pk_in p 8 hp, nm_e ⟨pk_in p 8 hp, nm_e (nw_restart H)⟩⟩⟩⟩) (fun z => absurd z (by omega)))))
theorem nw_init {post : St2 → Prop} {mc ms : Nat} (hc : 11 ≤ mc) (hs : 400 ≤ ms)
    (H : ∀ b1 b5 b6 b7 b8 b10 b11 : Nat → Int32, (∀ j, j < 8 → b1 j = 1) → (∀ j, j < 8 → b5 j = 0) → (∀ j, j < 8 → b6 j = 0) → (∀ j, j < 8 → b7 j = 0) → (∀ j, j < 8 → b8 j = 0) → (∀ j, j < 8 → b10 j = nI j) → (∀ j, j < 8 → b11 j = 1) →
      post (nI 8, 0, b1, fun _ => 0, fun _ => 0, fun _ => 0, b5, b6, b7, b8, fun _ => 0, b10, b11)) :
    wpX_init post mc ms (w, h) := by
  refine ⟨by omega, by omega, by omega, by omega, by omega, by omega, by omega, by omega, by omega, by omega, by omega, by omega, by omega, by omega, by omega, by omega, by omega, by omega, by omega, by omega, by omega, by omega, ?_⟩
  exact pk_loop (fun n i s => wX_init_95 post mc ms 11 400 w h n (nI i) s (fun _ => 0) (fun _ => 0) (fun _ => 0) (fun _ => 0) (fun _ => 0) (fun _ => 0) (fun _ => 0) (fun _ => 0) (fun _ => 0) (fun _ => 0))
    (fun i s => ∀ j, j < i → s j = 1) 8 0 (fun _ => 0) (by omega) (fun j hj => absurd hj (by omega))
    (fun n s hI => pk_le 8 8 (fun _ => nw_restart (fun b5 b6 b7 b8 b10 b11 h5 h6 h7 h8 h10 h11 => H s b5 b6 b7 b8 b10 b11 hI h5 h6 h7 h8 h10 h11)) (fun z => absurd z (by omega)))
    (fun n i s hi hI hw => pk_le 8 i (fun z => absurd z (by omega)) (fun _ => ⟨pk_in i 8 hi, nm_e (nm_r (nI_1 i) (hw _ (nw_fill (f := fun _ => 1) (nI_clamp (by omega)) hI rfl)))⟩))
/-! reading and making -/
theorem nw_hasX {post : Int32 → Prop} {p x r M : Nat} (hp : p < 8) (hx : x < 8) (h2 : a2 p = nI x) (h5 : a5 x = nI M) (h6 : a6 p = nI r) (hM : M ≤ 40) (hr : r ≤ 40)
    (H0 : M ≤ r → post 0) (H1 : r < M → post 1) : wpX_hasX post (w, h, a1, a2, a3, a4, a5, a6, a7, a8, a9, a10, a11) (nI p) := by
  unfold wpX_hasX
  dsimp only
  rw [nI_clamp (show p < 2 ^ 31 by omega), h2, nI_clamp (show x < 2 ^ 31 by omega), h5, h6]
  exact ⟨pk_in p 8 hp, pk_in p 8 hp, pk_in x 8 hx, pk_le M r H0 H1⟩
theorem nw_hasY {post : Int32 → Prop} {p x r M : Nat} (hp : p < 8) (hx : x < 8) (h3 : a3 p = nI x) (h5 : a5 x = nI M) (h7 : a7 p = nI r) (hM : M ≤ 40) (hr : r ≤ 40)
    (H0 : M ≤ r → post 0) (H1 : r < M → post 1) : wpX_hasY post (w, h, a1, a2, a3, a4, a5, a6, a7, a8, a9, a10, a11) (nI p) := by
  unfold wpX_hasY
  dsimp only
  rw [nI_clamp (show p < 2 ^ 31 by omega), h3, nI_clamp (show x < 2 ^ 31 by omega), h5, h7]
  exact ⟨pk_in p 8 hp, pk_in p 8 hp, pk_in x 8 hx, pk_le M r H0 H1⟩
theorem nw_ix (x r : Nat) : nI x * 40 + nI r = nI (x * 40 + r) := by
  rw [show (40 : Int32) = nI 40 from rfl, pk_mul, nI_add]
theorem nw_takeX {post : Int32 → St2 → Prop} {p x r : Nat} {y : Int32} (hp : p < 8) (hx : x < 8) (h2 : a2 p = nI x) (h6 : a6 p = nI r) (hr : r < 40) (hy : a9 (x * 40 + r) = y)
    (H : post y (w, h, a1, a2, a3, a4, a5, upd a6 p (nI (r + 1)), a7, a8, a9, a10, a11)) : wpX_takeX post (w, h, a1, a2, a3, a4, a5, a6, a7, a8, a9, a10, a11) (nI p) := by
  unfold wpX_takeX
  dsimp only
  rw [nI_clamp (show p < 2 ^ 31 by omega), h2, h6, nw_ix, nI_clamp (show x * 40 + r < 2 ^ 31 by omega), nI_1]
  exact ⟨pk_in p 8 hp, pk_in p 8 hp, pk_in (x * 40 + r) 320 (by omega), nm_r hy ⟨pk_in p 8 hp, pk_in p 8 hp, nm_e H⟩⟩
theorem nw_takeX2 {post : Int32 → St2 → Prop} {p x r : Nat} {y : Int32} (hp : p < 8) (hx : x < 8) (h2 : a2 p = nI x) (h6 : a6 p = nI r) (hr : r < 40) (hy : a9 (x * 40 + r) = y)
    (H : post y (w, h, a1, a2, a3, a4, a5, upd a6 p (nI (r + 1)), a7, a8, a9, a10, a11)) : wpX_takeX_2 post (w, h, a1, a2, a3, a4, a5, a6, a7, a8, a9, a10, a11) (nI p) := by
  unfold wpX_takeX_2
  dsimp only
  rw [nI_clamp (show p < 2 ^ 31 by omega), h2, h6, nw_ix, nI_clamp (show x * 40 + r < 2 ^ 31 by omega), nI_1]
  exact ⟨pk_in p 8 hp, pk_in p 8 hp, pk_in (x * 40 + r) 320 (by omega), nm_r hy ⟨pk_in p 8 hp, pk_in p 8 hp, nm_e H⟩⟩
theorem nw_takeY {post : Int32 → St2 → Prop} {p x r : Nat} {y : Int32} (hp : p < 8) (hx : x < 8) (h3 : a3 p = nI x) (h7 : a7 p = nI r) (hr : r < 40) (hy : a9 (x * 40 + r) = y)
    (H : post y (w, h, a1, a2, a3, a4, a5, a6, upd a7 p (nI (r + 1)), a8, a9, a10, a11)) : wpX_takeY post (w, h, a1, a2, a3, a4, a5, a6, a7, a8, a9, a10, a11) (nI p) := by
  unfold wpX_takeY
  dsimp only
  rw [nI_clamp (show p < 2 ^ 31 by omega), h3, h7, nw_ix, nI_clamp (show x * 40 + r < 2 ^ 31 by omega), nI_1]
  exact ⟨pk_in p 8 hp, pk_in p 8 hp, pk_in (x * 40 + r) 320 (by omega), nm_r hy ⟨pk_in p 8 hp, pk_in p 8 hp, nm_e H⟩⟩
theorem nw_make {post : Int32 → St2 → Prop} {G : Nat → Nat → Int32} {m : Nat → Nat} {p : Nat} {x : Int32} (hS : nw_S G m a5 a9) (hp : p < 8) (hm : m p < 40) (hx : x = G p (m p))
    (H : ∀ b5 b9, nw_S G (nw_st m p (m p + 1)) b5 b9 → post 1 (w, h, a1, a2, a3, a4, b5, a6, a7, a8, b9, a10, a11)) :
    wpX_make post (w, h, a1, a2, a3, a4, a5, a6, a7, a8, a9, a10, a11) (nI p) x := by
  unfold wpX_make
  dsimp only
  rw [nI_clamp (show p < 2 ^ 31 by omega), hS.1 p hp, nw_ix, nI_clamp (show p * 40 + m p < 2 ^ 31 by omega), nI_1]
  exact ⟨pk_in p 8 hp, pk_in (p * 40 + m p) 320 (by omega), nm_e ⟨pk_in p 8 hp, pk_in p 8 hp, nm_e (H _ _ (nw_S_add hS hp hm hx))⟩⟩
end
end
section
section
variable {w h : Int32} {a1 a2 a3 a4 a5 a6 a7 a8 a9 a10 a11 : Nat → Int32} {post : Int32 → St2 → Prop} {G : Nat → Nat → Int32} {m : Nat → Nat} {p : Nat}
/-- forty items: no more -/
theorem nw_s40 (hS : nw_S G m a5 a9) (hp : p < 8) (hm : m p = 40) (H : post 0 (w, h, a1, a2, a3, a4, a5, a6, a7, a8, a9, a10, a11)) :
    wpX_step post (w, h, a1, a2, a3, a4, a5, a6, a7, a8, a9, a10, a11) (nI p) := by
  unfold wpX_step
  dsimp only
  rw [nI_clamp (show p < 2 ^ 31 by omega), hS.1 p hp, hm]
  exact ⟨pk_in p 8 hp, nm_e (br_f (by decide) H)⟩
theorem nw_sList {c : Int32} (hS : nw_S G m a5 a9) (hp : p < 8) (h1 : a1 p = 1) (h4 : a4 p = c) (hm : m p < 5) (hG : c * ((2 * nI (m p)) + 1) = G p (m p))
    (H : ∀ b5 b9, nw_S G (nw_st m p (m p + 1)) b5 b9 → post 1 (w, h, a1, a2, a3, a4, b5, a6, a7, a8, b9, a10, a11)) :
    wpX_step post (w, h, a1, a2, a3, a4, a5, a6, a7, a8, a9, a10, a11) (nI p) := by
  unfold wpX_step
  dsimp only
  rw [nI_clamp (show p < 2 ^ 31 by omega), hS.1 p hp, h1, h4]
  refine ⟨pk_in p 8 hp, nm_e (pk_lt (m p) 40 (fun _ => ⟨pk_in p 8 hp, nm_e (br_f (by decide) (br_f (by decide) (br_f (by decide) (br_t rfl (pk_le 5 (m p) (fun z => absurd z (by omega)) (fun _ => ⟨pk_in p 8 hp, ?_⟩))))))⟩) (fun z => absurd z (by omega)))⟩
  exact nw_make hS hp (by omega) hG (fun b5 b9 hb => br_f (by decide) (H b5 b9 hb))
theorem nw_sList0 (hS : nw_S G m a5 a9) (hp : p < 8) (h1 : a1 p = 1) (hm : m p = 5) (H : post 0 (w, h, a1, a2, a3, a4, a5, a6, a7, a8, a9, a10, a11)) :
    wpX_step post (w, h, a1, a2, a3, a4, a5, a6, a7, a8, a9, a10, a11) (nI p) := by
  unfold wpX_step
  dsimp only
  rw [nI_clamp (show p < 2 ^ 31 by omega), hS.1 p hp, h1, hm]
  exact ⟨pk_in p 8 hp, nm_e (br_t (by decide) ⟨pk_in p 8 hp, nm_e (br_f (by decide) (br_f (by decide) (br_f (by decide) (br_t rfl (br_t (by decide) H)))))⟩)⟩
theorem nw_sCount {c : Int32} (hS : nw_S G m a5 a9) (hp : p < 8) (h1 : a1 p = 0) (h4 : a4 p = c) (hm : m p < 40) (hG : c + nI (m p) = G p (m p))
    (H : ∀ b5 b9, nw_S G (nw_st m p (m p + 1)) b5 b9 → post 1 (w, h, a1, a2, a3, a4, b5, a6, a7, a8, b9, a10, a11)) :
    wpX_step post (w, h, a1, a2, a3, a4, a5, a6, a7, a8, a9, a10, a11) (nI p) := by
  unfold wpX_step
  dsimp only
  rw [nI_clamp (show p < 2 ^ 31 by omega), hS.1 p hp, h1, h4]
  refine ⟨pk_in p 8 hp, nm_e (pk_lt (m p) 40 (fun _ => ⟨pk_in p 8 hp, nm_e (br_f (by decide) (br_f (by decide) (br_t rfl ⟨pk_in p 8 hp, ?_⟩)))⟩) (fun z => absurd z (by omega)))⟩
  exact nw_make hS hp (by omega) hG (fun b5 b9 hb => ⟨nw_nb, H b5 b9 hb⟩)
/-- a sum: x the stream it reads, r how far -/
theorem nw_sSum {x r : Nat} {y t : Int32} (hS : nw_S G m a5 a9) (hp : p < 8) (h1 : a1 p = 7) (hx : x < 8) (h2 : a2 p = nI x) (h6 : a6 p = nI r) (hr : r < m x) (h8 : a8 p = t) (hm : m p < 40)
    (hy : G x r = y) (hG : t + y = G p (m p))
    (H : ∀ b5 b9, nw_S G (nw_st m p (m p + 1)) b5 b9 → post 1 (w, h, a1, a2, a3, a4, b5, upd a6 p (nI (r + 1)), a7, upd a8 p (t + y), b9, a10, a11)) :
    wpX_step post (w, h, a1, a2, a3, a4, a5, a6, a7, a8, a9, a10, a11) (nI p) := by
  have hx40 := hS.2.1 x hx
  unfold wpX_step
  dsimp only
  rw [nI_clamp (show p < 2 ^ 31 by omega), hS.1 p hp, h1]
  refine ⟨pk_in p 8 hp, nm_e (pk_lt (m p) 40 (fun _ => ⟨pk_in p 8 hp, nm_e (br_f (by decide) (br_t (by decide) ?_))⟩) (fun z => absurd z (by omega)))⟩
  unfold wpX_stepSum
  dsimp only
  rw [nI_clamp (show p < 2 ^ 31 by omega), h8]
  refine nw_hasX hp hx h2 (hS.1 x hx) h6 hx40 (by omega) (fun z => absurd z (by omega)) (fun _ => br_f (by decide) ⟨pk_in p 8 hp, ?_⟩)
  refine nw_takeX hp hx h2 h6 (by omega) ((hS.2.2 x r hx hr).trans hy) ⟨pk_in p 8 hp, nm_e ⟨pk_in p 8 hp, ?_⟩⟩
  rw [pk_us]
  exact nw_make hS hp hm hG (fun b5 b9 hb => ⟨nw_nb, nw_nb, H b5 b9 hb⟩)
/-- an addition -/
theorem nw_sAdd {x x' r r' : Nat} {y y' : Int32} (hS : nw_S G m a5 a9) (hp : p < 8) (h1 : a1 p = 2) (hx : x < 8) (h2 : a2 p = nI x) (h6 : a6 p = nI r) (hr : r < m x)
    (hx' : x' < 8) (h3 : a3 p = nI x') (h7 : a7 p = nI r') (hr' : r' < m x') (hm : m p < 40)
    (hy : G x r = y) (hy' : G x' r' = y') (hG : y + y' = G p (m p))
    (H : ∀ b5 b9, nw_S G (nw_st m p (m p + 1)) b5 b9 → post 1 (w, h, a1, a2, a3, a4, b5, upd a6 p (nI (r + 1)), upd a7 p (nI (r' + 1)), a8, b9, a10, a11)) :
    wpX_step post (w, h, a1, a2, a3, a4, a5, a6, a7, a8, a9, a10, a11) (nI p) := by
  have hx40 := hS.2.1 x hx
  have hx40' := hS.2.1 x' hx'
  unfold wpX_step
  dsimp only
  rw [nI_clamp (show p < 2 ^ 31 by omega), hS.1 p hp, h1]
  refine ⟨pk_in p 8 hp, nm_e (pk_lt (m p) 40 (fun _ => ⟨pk_in p 8 hp, nm_e (br_f (by decide) (br_f (by decide) (br_f (by decide) (br_f (by decide) (br_t rfl ?_)))))⟩) (fun z => absurd z (by omega)))⟩
  unfold wX_step_109 wpX_stepPair
  dsimp only
  refine nw_hasX hp hx h2 (hS.1 x hx) h6 hx40 (by omega) (fun z => absurd z (by omega)) (fun _ => br_f (by decide) ?_)
  refine nw_hasY hp hx' h3 (hS.1 x' hx') h7 hx40' (by omega) (fun z => absurd z (by omega)) (fun _ => br_f (by decide) ?_)
  unfold wX_stepPair_21
  rw [nI_clamp (show p < 2 ^ 31 by omega), h1]
  refine br_f (by decide) ⟨pk_in p 8 hp, br_t rfl ?_⟩
  refine nw_takeX2 hp hx h2 h6 (by omega) ((hS.2.2 x r hx hr).trans hy) ?_
  refine nw_takeY hp hx' h3 h7 (by omega) ((hS.2.2 x' r' hx' hr').trans hy') ?_
  exact nw_make hS hp hm hG (fun b5 b9 hb => ⟨nw_nb, nw_nb, H b5 b9 hb⟩)
/-- an addition whose first input is read to its end -/
theorem nw_sAdd0 {x r : Nat} (hS : nw_S G m a5 a9) (hp : p < 8) (h1 : a1 p = 2) (hx : x < 8) (h2 : a2 p = nI x) (h6 : a6 p = nI r) (hr : m x ≤ r) (hr40 : r ≤ 40) (hm : m p < 40)
    (H : post 0 (w, h, a1, a2, a3, a4, a5, a6, a7, a8, a9, a10, a11)) :
    wpX_step post (w, h, a1, a2, a3, a4, a5, a6, a7, a8, a9, a10, a11) (nI p) := by
  have hx40 := hS.2.1 x hx
  unfold wpX_step
  dsimp only
  rw [nI_clamp (show p < 2 ^ 31 by omega), hS.1 p hp, h1]
  refine ⟨pk_in p 8 hp, nm_e (pk_lt (m p) 40 (fun _ => ⟨pk_in p 8 hp, nm_e (br_f (by decide) (br_f (by decide) (br_f (by decide) (br_f (by decide) (br_t rfl ?_)))))⟩) (fun z => absurd z (by omega)))⟩
  unfold wX_step_109 wpX_stepPair
  dsimp only
  refine nw_hasX hp hx h2 (hS.1 x hx) h6 hx40 hr40 (fun _ => br_t rfl ?_) (fun z => absurd z (by omega))
  unfold wX_stepPair_20 wX_stepPair_21
  exact br_t rfl ⟨nw_nb0, H⟩
/-- a delay: its first item -/
theorem nw_sDelayF {c : Int32} (hS : nw_S G m a5 a9) (hp : p < 8) (h1 : a1 p = 5) (h4 : a4 p = c) (hm : m p = 0) (hG : c = G p (m p))
    (H : ∀ b5 b9, nw_S G (nw_st m p (m p + 1)) b5 b9 → post 1 (w, h, a1, a2, a3, a4, b5, a6, a7, a8, b9, a10, a11)) :
    wpX_step post (w, h, a1, a2, a3, a4, a5, a6, a7, a8, a9, a10, a11) (nI p) := by
  unfold wpX_step
  dsimp only
  rw [nI_clamp (show p < 2 ^ 31 by omega), hS.1 p hp, h1]
  refine ⟨pk_in p 8 hp, nm_e (pk_lt (m p) 40 (fun _ => ⟨pk_in p 8 hp, nm_e (br_f (by decide) (br_f (by decide) (br_f (by decide) (br_f (by decide) (br_f (by decide) (br_f (by decide) (br_f (by decide) (br_t rfl ?_))))))))⟩) (fun z => absurd z (by omega)))⟩
  unfold wpX_stepDelay
  dsimp only
  rw [nI_clamp (show p < 2 ^ 31 by omega), hS.1 p hp, h4]
  refine ⟨pk_in p 8 hp, pk_eq (m p) 0 (fun _ => ⟨pk_in p 8 hp, ?_⟩) (fun z => absurd hm z)⟩
  exact nw_make hS hp (by omega) hG (fun b5 b9 hb => ⟨nw_nb, nw_nb, H b5 b9 hb⟩)
theorem nw_sDelay {x r : Nat} {y : Int32} (hS : nw_S G m a5 a9) (hp : p < 8) (h1 : a1 p = 5) (hx : x < 8) (h2 : a2 p = nI x) (h6 : a6 p = nI r) (hr : r < m x) (hm0 : m p ≠ 0) (hm : m p < 40)
    (hy : G x r = y) (hG : y = G p (m p))
    (H : ∀ b5 b9, nw_S G (nw_st m p (m p + 1)) b5 b9 → post 1 (w, h, a1, a2, a3, a4, b5, upd a6 p (nI (r + 1)), a7, a8, b9, a10, a11)) :
    wpX_step post (w, h, a1, a2, a3, a4, a5, a6, a7, a8, a9, a10, a11) (nI p) := by
  have hx40 := hS.2.1 x hx
  unfold wpX_step
  dsimp only
  rw [nI_clamp (show p < 2 ^ 31 by omega), hS.1 p hp, h1]
  refine ⟨pk_in p 8 hp, nm_e (pk_lt (m p) 40 (fun _ => ⟨pk_in p 8 hp, nm_e (br_f (by decide) (br_f (by decide) (br_f (by decide) (br_f (by decide) (br_f (by decide) (br_f (by decide) (br_f (by decide) (br_t rfl ?_))))))))⟩) (fun z => absurd z (by omega)))⟩
  unfold wpX_stepDelay
  dsimp only
  rw [nI_clamp (show p < 2 ^ 31 by omega), hS.1 p hp]
  refine ⟨pk_in p 8 hp, pk_eq (m p) 0 (fun z => absurd z hm0) (fun _ => ?_)⟩
  refine nw_hasX hp hx h2 (hS.1 x hx) h6 hx40 (by omega) (fun z => absurd z (by omega)) (fun _ => br_f (by decide) ?_)
  refine nw_takeX2 hp hx h2 h6 (by omega) ((hS.2.2 x r hx hr).trans hy) ?_
  exact nw_make hS hp hm hG (fun b5 b9 hb => ⟨nw_nb, nw_nb, H b5 b9 hb⟩)
theorem nw_sDelay0 {x r : Nat} (hS : nw_S G m a5 a9) (hp : p < 8) (h1 : a1 p = 5) (hx : x < 8) (h2 : a2 p = nI x) (h6 : a6 p = nI r) (hr : m x ≤ r) (hr40 : r ≤ 40) (hm0 : m p ≠ 0) (hm : m p < 40)
    (H : post 0 (w, h, a1, a2, a3, a4, a5, a6, a7, a8, a9, a10, a11)) :
    wpX_step post (w, h, a1, a2, a3, a4, a5, a6, a7, a8, a9, a10, a11) (nI p) := by
  have hx40 := hS.2.1 x hx
  unfold wpX_step
  dsimp only
  rw [nI_clamp (show p < 2 ^ 31 by omega), hS.1 p hp, h1]
  refine ⟨pk_in p 8 hp, nm_e (pk_lt (m p) 40 (fun _ => ⟨pk_in p 8 hp, nm_e (br_f (by decide) (br_f (by decide) (br_f (by decide) (br_f (by decide) (br_f (by decide) (br_f (by decide) (br_f (by decide) (br_t rfl ?_))))))))⟩) (fun z => absurd z (by omega)))⟩
  unfold wpX_stepDelay
  dsimp only
  rw [nI_clamp (show p < 2 ^ 31 by omega), hS.1 p hp]
  refine ⟨pk_in p 8 hp, pk_eq (m p) 0 (fun z => absurd z hm0) (fun _ => ?_)⟩
  exact nw_hasX hp hx h2 (hS.1 x hx) h6 hx40 hr40 (fun _ => br_t rfl ⟨nw_nb0, H⟩) (fun z => absurd z (by omega))
end
end
section
section
variable {w h : Int32} {a1 a2 a3 a4 a5 a6 a7 a8 a9 a10 a11 : Nat → Int32} {post : St2 → Prop} {p : Nat}
/-- the loop of run: c steps that do something, one that does not -/
theorem nw_run {c : Nat} (hp : p < 8) (hc : c < 119) (I : Nat → (Nat → Int32) → (Nat → Int32) → (Nat → Int32) → (Nat → Int32) → (Nat → Int32) → Prop) (h0 : I 0 a5 a6 a7 a8 a9)
    (hs : ∀ i b5 b6 b7 b8 b9, i < c → I i b5 b6 b7 b8 b9 → ∀ po : Int32 → St2 → Prop,
      (∀ d5 d6 d7 d8 d9, I (i + 1) d5 d6 d7 d8 d9 → po 1 (w, h, a1, a2, a3, a4, d5, d6, d7, d8, d9, a10, a11)) → wpX_step po (w, h, a1, a2, a3, a4, b5, b6, b7, b8, b9, a10, a11) (nI p))
    (he : ∀ b5 b6 b7 b8 b9, I c b5 b6 b7 b8 b9 → ∀ po : Int32 → St2 → Prop, po 0 (w, h, a1, a2, a3, a4, b5, b6, b7, b8, b9, a10, a11) → wpX_step po (w, h, a1, a2, a3, a4, b5, b6, b7, b8, b9, a10, a11) (nI p))
    (H : ∀ b5 b6 b7 b8 b9, I c b5 b6 b7 b8 b9 → wX_run_54 post (nI p) (a5 p) w h a1 a2 a3 a4 b5 b6 b7 b8 b9 a10 a11) :
    wpX_run post (w, h, a1, a2, a3, a4, a5, a6, a7, a8, a9, a10, a11) (nI p) 120 := by
  have main : ∃ n, wX_run_13 post (nI p) 120 (a5 p) (n + 1) 1 (nI 0) w h a1 a2 a3 a4 a5 a6 a7 a8 a9 a10 a11 := by
    refine pk_loop (σ := (Nat → Int32) × (Nat → Int32) × (Nat → Int32) × (Nat → Int32) × (Nat → Int32))
      (fun n i s => wX_run_13 post (nI p) 120 (a5 p) (n + 1) 1 (nI i) w h a1 a2 a3 a4 s.1 s.2.1 s.2.2.1 s.2.2.2.1 s.2.2.2.2 a10 a11)
      (fun i s => I i s.1 s.2.1 s.2.2.1 s.2.2.2.1 s.2.2.2.2) c 0 (a5, a6, a7, a8, a9) (by omega) h0 ?_ ?_
    · intro n s hI
      refine pk_le 120 c (fun z => absurd z (by omega)) (fun _ => pk_le 120 c (fun z => absurd z (by omega)) (fun _ => br_f (by decide) (he _ _ _ _ _ hI _ ?_)))
      intro x ex
      rw [nI_1] at ex
      subst ex
      exact pk_le 120 (c + 1) (fun z => absurd z (by omega)) (fun _ => pk_le 120 (c + 1) (fun z => absurd z (by omega)) (fun _ => br_t rfl (br_t rfl (H _ _ _ _ _ hI))))
    · intro n i s hi hI hw
      refine pk_le 120 i (fun z => absurd z (by omega)) (fun _ => pk_le 120 i (fun z => absurd z (by omega)) (fun _ => br_f (by decide) (hs i _ _ _ _ _ hi hI _ ?_)))
      intro d5 d6 d7 d8 d9 hd x ex
      rw [nI_1] at ex
      subst ex
      exact hw (d5, d6, d7, d8, d9) hd
  obtain ⟨n, hn⟩ := main
  unfold wpX_run
  dsimp only
  rw [nI_clamp (show p < 2 ^ 31 by omega)]
  exact ⟨pk_in p 8 hp, nm_e ⟨n + 1, hn⟩⟩
/-- the readers of p are all listed: nothing is woken -/
theorem nw_68 (q0 : Nat) (hq0 : q0 ≤ 8) (hl : ∀ q, q < 8 → q0 ≤ q → (a2 q = nI p ∨ a3 q = nI p) → ¬ a11 q = 0) (H : post (w, h, a1, a2, a3, a4, a5, a6, a7, a8, a9, a10, a11)) :
    ∃ n, wX_run_68 post (nI p) n (nI q0) w h a1 a2 a3 a4 a5 a6 a7 a8 a9 a10 a11 := by
  refine pk_loop (σ := Unit) (fun n i _ => wX_run_68 post (nI p) n (nI i) w h a1 a2 a3 a4 a5 a6 a7 a8 a9 a10 a11) (fun i _ => q0 ≤ i) 8 q0 () hq0 (Nat.le_refl q0)
    (fun n _ _ => pk_le 8 8 (fun _ => H) (fun z => absurd z (by omega))) ?_
  intro n i _ hi hI hw
  have t := hw () (by omega)
  have ei : (nI i).toNatClampNeg = i := nI_clamp (by omega)
  have wk : (a2 i = nI p ∨ a3 i = nI p) → wX_run_97 post (wX_run_68 post (nI p) n) (nI p) (nI i) w h a1 a2 a3 a4 a5 a6 a7 a8 a9 a10 a11 := by
    intro e
    refine nw_wakeL hi (hl i hi hI e) ?_
    intro x ex
    rw [nI_1] at ex
    subst ex
    exact t
  refine pk_le 8 i (fun z => absurd z (by omega)) (fun _ => ?_)
  rw [ei]
  exact ⟨pk_in i 8 hi, br_c (fun e => wk (Or.inl e)) (fun _ => ⟨pk_in i 8 hi, br_c (fun e => wk (Or.inr e)) (fun _ => nm_r (nI_1 i) t)⟩)⟩
/-- the end of run where something was made -/
theorem nw_54 {x3 : Int32} (hp : p < 8) (hne : ¬ a5 p = x3) (H : ∃ n, wX_run_68 post (nI p) n (nI 0) w h a1 a2 a3 a4 a5 a6 a7 a8 a9 a10 a11) :
    wX_run_54 post (nI p) x3 w h a1 a2 a3 a4 a5 a6 a7 a8 a9 a10 a11 := by
  unfold wX_run_54
  rw [nI_clamp (show p < 2 ^ 31 by omega)]
  exact ⟨pk_in p 8 hp, br_f hne H⟩
/-- the end of run where nothing was made -/
theorem nw_54e {x3 : Int32} (hp : p < 8) (he : a5 p = x3) (H : post (w, h, a1, a2, a3, a4, a5, a6, a7, a8, a9, a10, a11)) :
    wX_run_54 post (nI p) x3 w h a1 a2 a3 a4 a5 a6 a7 a8 a9 a10 a11 := by
  unfold wX_run_54
  rw [nI_clamp (show p < 2 ^ 31 by omega)]
  exact ⟨pk_in p 8 hp, br_t he H⟩
/-! one run a process -/
variable {G : Nat → Nat → Int32} {m : Nat → Nat}
theorem nw_ne (hS : nw_S G m a5 a9) (hp : p < 8) {m' : Nat → Nat} {b5 b9 : Nat → Int32} (hS' : nw_S G m' b5 b9) (hne : m' p ≠ m p) : ¬ b5 p = a5 p := by
  have h1 := hS.2.1 p hp
  have h2 := hS'.2.1 p hp
  rw [hS.1 p hp, hS'.1 p hp, nI_eq (by omega) (by omega)]
  exact hne
/-- a list: five items -/
theorem nw_rList {c : Int32} (hS : nw_S G m a5 a9) (hp : p < 8) (h1 : a1 p = 1) (h4 : a4 p = c) (hm : m p = 0) (hG : ∀ k, k < 5 → c * ((2 * nI k) + 1) = G p k)
    (H : ∀ b5 b9, nw_S G (nw_st m p 5) b5 b9 → ∃ n, wX_run_68 post (nI p) n (nI 0) w h a1 a2 a3 a4 b5 a6 a7 a8 b9 a10 a11) :
    wpX_run post (w, h, a1, a2, a3, a4, a5, a6, a7, a8, a9, a10, a11) (nI p) 120 := by
  refine nw_run (c := 5) hp (by omega) (fun i b5 b6 b7 b8 b9 => nw_S G (nw_st m p i) b5 b9 ∧ b6 = a6 ∧ b7 = a7 ∧ b8 = a8) ⟨by rw [nw_st_id hm]; exact hS, rfl, rfl, rfl⟩ ?_ ?_ ?_
  · intro i b5 b6 b7 b8 b9 hi hI po hpo
    obtain ⟨hT, rfl, rfl, rfl⟩ := hI
    refine nw_sList hT hp h1 h4 (by rw [nw_st_s]; exact hi) (by rw [nw_st_s]; exact hG i hi) (fun d5 d9 hd => hpo _ _ _ _ _ ⟨?_, rfl, rfl, rfl⟩)
    rw [nw_st_st, nw_st_s] at hd
    exact hd
  · intro b5 b6 b7 b8 b9 hI po hpo
    exact nw_sList0 hI.1 hp h1 nw_st_s hpo
  · intro b5 b6 b7 b8 b9 hI
    obtain ⟨hT, rfl, rfl, rfl⟩ := hI
    exact nw_54 hp (nw_ne hS hp hT (by rw [nw_st_s, hm]; omega)) (H b5 b9 hT)
/-- a list that has its five items -/
theorem nw_rList0 (hS : nw_S G m a5 a9) (hp : p < 8) (h1 : a1 p = 1) (hm : m p = 5) (H : post (w, h, a1, a2, a3, a4, a5, a6, a7, a8, a9, a10, a11)) :
    wpX_run post (w, h, a1, a2, a3, a4, a5, a6, a7, a8, a9, a10, a11) (nI p) 120 := by
  refine nw_run (c := 0) hp (by omega) (fun i b5 b6 b7 b8 b9 => b5 = a5 ∧ b6 = a6 ∧ b7 = a7 ∧ b8 = a8 ∧ b9 = a9) ⟨rfl, rfl, rfl, rfl, rfl⟩ ?_ ?_ ?_
  · intro i b5 b6 b7 b8 b9 hi
    exact absurd hi (by omega)
  · intro b5 b6 b7 b8 b9 hI po hpo
    obtain ⟨rfl, rfl, rfl, rfl, rfl⟩ := hI
    exact nw_sList0 hS hp h1 hm hpo
  · intro b5 b6 b7 b8 b9 hI
    obtain ⟨rfl, rfl, rfl, rfl, rfl⟩ := hI
    exact nw_54e hp rfl H
/-- a count: forty items -/
theorem nw_rCount {c : Int32} (hS : nw_S G m a5 a9) (hp : p < 8) (h1 : a1 p = 0) (h4 : a4 p = c) (hm : m p = 0) (hG : ∀ k, k < 40 → c + nI k = G p k)
    (H : ∀ b5 b9, nw_S G (nw_st m p 40) b5 b9 → ∃ n, wX_run_68 post (nI p) n (nI 0) w h a1 a2 a3 a4 b5 a6 a7 a8 b9 a10 a11) :
    wpX_run post (w, h, a1, a2, a3, a4, a5, a6, a7, a8, a9, a10, a11) (nI p) 120 := by
  refine nw_run (c := 40) hp (by omega) (fun i b5 b6 b7 b8 b9 => nw_S G (nw_st m p i) b5 b9 ∧ b6 = a6 ∧ b7 = a7 ∧ b8 = a8) ⟨by rw [nw_st_id hm]; exact hS, rfl, rfl, rfl⟩ ?_ ?_ ?_
  · intro i b5 b6 b7 b8 b9 hi hI po hpo
    obtain ⟨hT, rfl, rfl, rfl⟩ := hI
    refine nw_sCount hT hp h1 h4 (by rw [nw_st_s]; exact hi) (by rw [nw_st_s]; exact hG i hi) (fun d5 d9 hd => hpo _ _ _ _ _ ⟨?_, rfl, rfl, rfl⟩)
    rw [nw_st_st, nw_st_s] at hd
    exact hd
  · intro b5 b6 b7 b8 b9 hI po hpo
    exact nw_s40 hI.1 hp nw_st_s hpo
  · intro b5 b6 b7 b8 b9 hI
    obtain ⟨hT, rfl, rfl, rfl⟩ := hI
    exact nw_54 hp (nw_ne hS hp hT (by rw [nw_st_s, hm]; omega)) (H b5 b9 hT)
/-- an addition of x (c items) and x' (at least c items) -/
theorem nw_rAdd {x x' c : Nat} (hS : nw_S G m a5 a9) (hp : p < 8) (h1 : a1 p = 2) (hx : x < 8) (hx' : x' < 8) (hxp : x ≠ p) (hxp' : x' ≠ p) (h2 : a2 p = nI x) (h3 : a3 p = nI x') (h6 : a6 p = 0) (h7 : a7 p = 0)
    (hm : m p = 0) (hc0 : 0 < c) (hc : c < 40) (hmx : m x = c) (hmx' : c ≤ m x') (hG : ∀ k, k < c → G x k + G x' k = G p k)
    (H : ∀ b5 b6 b7 b9, nw_S G (nw_st m p c) b5 b9 → (∀ j, j ≠ p → b6 j = a6 j) → (∀ j, j ≠ p → b7 j = a7 j) → ∃ n, wX_run_68 post (nI p) n (nI 0) w h a1 a2 a3 a4 b5 b6 b7 a8 b9 a10 a11) :
    wpX_run post (w, h, a1, a2, a3, a4, a5, a6, a7, a8, a9, a10, a11) (nI p) 120 := by
  refine nw_run (c := c) hp (by omega) (fun i b5 b6 b7 b8 b9 => nw_S G (nw_st m p i) b5 b9 ∧ b6 p = nI i ∧ b7 p = nI i ∧ (∀ j, j ≠ p → b6 j = a6 j) ∧ (∀ j, j ≠ p → b7 j = a7 j) ∧ b8 = a8)
    ⟨by rw [nw_st_id hm]; exact hS, h6, h7, fun _ _ => rfl, fun _ _ => rfl, rfl⟩ ?_ ?_ ?_
  · intro i b5 b6 b7 b8 b9 hi hI po hpo
    obtain ⟨hT, e6, e7, k6, k7, rfl⟩ := hI
    refine nw_sAdd hT hp h1 hx h2 e6 (by rw [nw_st_n hxp, hmx]; exact hi) hx' h3 e7 (by rw [nw_st_n hxp']; omega) (by rw [nw_st_s]; omega) rfl rfl (by rw [nw_st_s]; exact hG i hi) (fun d5 d9 hd => hpo _ _ _ _ _ ⟨?_, pk_us, pk_us, ?_, ?_, rfl⟩)
    · rw [nw_st_st, nw_st_s] at hd
      exact hd
    · intro j hj
      rw [pk_un hj, k6 j hj]
    · intro j hj
      rw [pk_un hj, k7 j hj]
  · intro b5 b6 b7 b8 b9 hI po hpo
    obtain ⟨hT, e6, e7, k6, k7, rfl⟩ := hI
    exact nw_sAdd0 hT hp h1 hx h2 e6 (by rw [nw_st_n hxp]; omega) (by omega) (by rw [nw_st_s]; exact hc) hpo
  · intro b5 b6 b7 b8 b9 hI
    obtain ⟨hT, e6, e7, k6, k7, rfl⟩ := hI
    exact nw_54 hp (nw_ne hS hp hT (by rw [nw_st_s, hm]; omega)) (H b5 b6 b7 b9 hT k6 k7)
/-- a sum of x (forty items); t: the sum so far -/
theorem nw_rSum {x : Nat} {t : Nat → Int32} (hS : nw_S G m a5 a9) (hp : p < 8) (h1 : a1 p = 7) (hx : x < 8) (hxp : x ≠ p) (h2 : a2 p = nI x) (h6 : a6 p = 0) (h8 : a8 p = t 0)
    (hm : m p = 0) (hmx : m x = 40) (ht : ∀ k, k < 40 → t k + G x k = t (k + 1)) (hG : ∀ k, k < 40 → t (k + 1) = G p k)
    (H : ∀ b5 b6 b8 b9, nw_S G (nw_st m p 40) b5 b9 → (∀ j, j ≠ p → b6 j = a6 j) → (∀ j, j ≠ p → b8 j = a8 j) → ∃ n, wX_run_68 post (nI p) n (nI 0) w h a1 a2 a3 a4 b5 b6 a7 b8 b9 a10 a11) :
    wpX_run post (w, h, a1, a2, a3, a4, a5, a6, a7, a8, a9, a10, a11) (nI p) 120 := by
  refine nw_run (c := 40) hp (by omega) (fun i b5 b6 b7 b8 b9 => nw_S G (nw_st m p i) b5 b9 ∧ b6 p = nI i ∧ b8 p = t i ∧ (∀ j, j ≠ p → b6 j = a6 j) ∧ (∀ j, j ≠ p → b8 j = a8 j) ∧ b7 = a7)
    ⟨by rw [nw_st_id hm]; exact hS, h6, h8, fun _ _ => rfl, fun _ _ => rfl, rfl⟩ ?_ ?_ ?_
  · intro i b5 b6 b7 b8 b9 hi hI po hpo
    obtain ⟨hT, e6, e8, k6, k8, rfl⟩ := hI
    refine nw_sSum hT hp h1 hx h2 e6 (by rw [nw_st_n hxp, hmx]; exact hi) e8 (by rw [nw_st_s]; exact hi) rfl (by rw [nw_st_s, ht i hi]; exact hG i hi) (fun d5 d9 hd => hpo _ _ _ _ _ ⟨?_, pk_us, ?_, ?_, ?_, rfl⟩)
    · rw [nw_st_st, nw_st_s] at hd
      exact hd
    · rw [pk_us]
      exact ht i hi
    · intro j hj
      rw [pk_un hj, k6 j hj]
    · intro j hj
      rw [pk_un hj, k8 j hj]
  · intro b5 b6 b7 b8 b9 hI po hpo
    exact nw_s40 hI.1 hp nw_st_s hpo
  · intro b5 b6 b7 b8 b9 hI
    obtain ⟨hT, e6, e8, k6, k8, rfl⟩ := hI
    exact nw_54 hp (nw_ne hS hp hT (by rw [nw_st_s, hm]; omega)) (H b5 b6 b8 b9 hT k6 k8)
/-- a delay of x (c items) -/
theorem nw_rDelay {x c : Nat} {v : Int32} (hS : nw_S G m a5 a9) (hp : p < 8) (h1 : a1 p = 5) (h4 : a4 p = v) (hx : x < 8) (hxp : x ≠ p) (h2 : a2 p = nI x) (h6 : a6 p = 0)
    (hm : m p = 0) (hc : c < 39) (hmx : m x = c) (hG0 : v = G p 0) (hG : ∀ k, k < c → G x k = G p (k + 1))
    (H : ∀ b5 b6 b9, nw_S G (nw_st m p (c + 1)) b5 b9 → (∀ j, j ≠ p → b6 j = a6 j) → ∃ n, wX_run_68 post (nI p) n (nI 0) w h a1 a2 a3 a4 b5 b6 a7 a8 b9 a10 a11) :
    wpX_run post (w, h, a1, a2, a3, a4, a5, a6, a7, a8, a9, a10, a11) (nI p) 120 := by
  refine nw_run (c := c + 1) hp (by omega) (fun i b5 b6 b7 b8 b9 => nw_S G (nw_st m p i) b5 b9 ∧ b6 p = nI (i - 1) ∧ (∀ j, j ≠ p → b6 j = a6 j) ∧ b7 = a7 ∧ b8 = a8)
    ⟨by rw [nw_st_id hm]; exact hS, h6, fun _ _ => rfl, rfl, rfl⟩ ?_ ?_ ?_
  · intro i b5 b6 b7 b8 b9 hi hI po hpo
    obtain ⟨hT, e6, k6, rfl, rfl⟩ := hI
    cases i with
    | zero =>
      refine nw_sDelayF hT hp h1 h4 nw_st_s (by rw [nw_st_s]; exact hG0) (fun d5 d9 hd => hpo _ _ _ _ _ ⟨?_, e6, k6, rfl, rfl⟩)
      rw [nw_st_st, nw_st_s] at hd
      exact hd
    | succ k =>
      refine nw_sDelay (r := k) hT hp h1 hx h2 e6 (by rw [nw_st_n hxp]; omega) (by rw [nw_st_s]; omega) (by rw [nw_st_s]; omega) rfl (by rw [nw_st_s]; exact hG k (by omega)) (fun d5 d9 hd => hpo _ _ _ _ _ ⟨?_, pk_us, ?_, rfl, rfl⟩)
      · rw [nw_st_st, nw_st_s] at hd
        exact hd
      · intro j hj
        rw [pk_un hj, k6 j hj]
  · intro b5 b6 b7 b8 b9 hI po hpo
    obtain ⟨hT, e6, k6, rfl, rfl⟩ := hI
    exact nw_sDelay0 (r := c) hT hp h1 hx h2 e6 (by rw [nw_st_n hxp]; omega) (by omega) (by rw [nw_st_s]; omega) (by rw [nw_st_s]; omega) hpo
  · intro b5 b6 b7 b8 b9 hI
    obtain ⟨hT, e6, k6, rfl, rfl⟩ := hI
    exact nw_54 hp (nw_ne hS hp hT (by rw [nw_st_s, hm]; omega)) (H b5 b6 b9 hT k6)
end
end
section
/-! ===== the network of the law ===== -/
def nw_k (j : Nat) : Int32 := if j = 1 then 0 else if j = 2 then 2 else if j = 3 then 7 else if j = 4 then 5 else 1
def nw_X (j : Nat) : Int32 := if j = 3 then nI 1 else nI 0
def nw_Y (j : Nat) : Int32 := if j = 2 then nI 1 else nI 0
def nw_N (a b v : Int32) (j : Nat) : Int32 := if j = 0 then a else if j = 1 then b else if j = 4 then v else 0
def nw_C (a b v : Int32) (a1 a2 a3 a4 : Nat → Int32) : Prop :=
  (∀ j, j < 8 → a1 j = nw_k j) ∧ (∀ j, j < 8 → a2 j = nw_X j) ∧ (∀ j, j < 8 → a3 j = nw_Y j) ∧ (∀ j, j < 8 → a4 j = nw_N a b v j)
/-- ahead of the run of process i -/
def nw_Ph (a b v : Int32) (i w h : Nat) (u : St2) : Prop := match u with
  | (f0, f1, a1, a2, a3, a4, a5, a6, a7, a8, a9, a10, a11) => f0 = nI w ∧ f1 = nI h ∧ nw_C a b v a1 a2 a3 a4 ∧ nw_S (nw_G a b v) (nw_m i) a5 a9 ∧
    (∀ j, i ≤ j → j < 8 → a6 j = 0) ∧ (∀ j, i ≤ j → j < 8 → a7 j = 0) ∧ (∀ j, i ≤ j → j < 8 → a8 j = 0) ∧ (∀ j, j < 8 → a10 j = nI j) ∧ (∀ j, i ≤ j → j < 8 → a11 j = 1)
/-- settled -/
def nw_F (a b v : Int32) (u : St2) : Prop := match u with
  | (f0, f1, a1, a2, a3, a4, a5, a6, a7, a8, a9, a10, a11) => f0 = nI 0 ∧ nw_S (nw_G a b v) (nw_m 8) a5 a9
theorem nw_rd : ∀ q, q < 8 → ∀ p, p < 8 → 0 < p → (nw_X q = nI p ∨ nw_Y q = nI p) → p < q := by decide +kernel
section
variable {f0 f1 : Int32} {a1 a2 a3 a4 a5 a6 a7 a8 a9 a10 a11 : Nat → Int32} {post : St2 → Prop} {a b v : Int32}
/-- one round of settle -/
theorem nw_iter {n i w h j : Nat} {Q : St2 → Prop} (hi : i < 4000) (hw : 0 < w) (hw8 : w ≤ 8) (hh : h < 8) (ha : a10 h = nI j) (hj : j < 8)
    (H : ∀ po : St2 → Prop, (∀ g0 g1 b1 b2 b3 b4 b5 b6 b7 b8 b9 b10 b11, Q (g0, g1, b1, b2, b3, b4, b5, b6, b7, b8, b9, b10, b11) → po (g0, g1, b1, b2, b3, b4, b5, b6, b7, b8, b9, b10, b11)) →
      wpX_run po (nI (w - 1), nI ((h + 1) % 8), a1, a2, a3, a4, a5, a6, a7, a8, a9, a10, upd a11 j 0) (nI j) 120)
    (H2 : ∀ g0 g1 b1 b2 b3 b4 b5 b6 b7 b8 b9 b10 b11, Q (g0, g1, b1, b2, b3, b4, b5, b6, b7, b8, b9, b10, b11) → wX_settle_2 post n (nI (i + 1)) g0 g1 b1 b2 b3 b4 b5 b6 b7 b8 b9 b10 b11) :
    wX_settle_2 post (n + 1) (nI i) (nI w) (nI h) a1 a2 a3 a4 a5 a6 a7 a8 a9 a10 a11 := by
  have ew : nI w - 1 = nI (w - 1) := by
    obtain ⟨k, rfl⟩ : ∃ k, w = k + 1 := ⟨w - 1, by omega⟩
    exact nI_pred k
  refine pk_le 4000 i (fun z => absurd z (by omega)) (fun _ => pk_le w 0 (fun z => absurd z (by omega)) (fun _ => ⟨pk_in h 8 hh, ?_⟩))
  refine nm_r (by rw [nI_clamp (show h < 2 ^ 31 by omega)]; exact ha) (nm_r (nw_hd h hh) (nm_r ew ⟨pk_in j 8 hj, nm_r (by rw [nI_clamp (show j < 2 ^ 31 by omega)]) (H _ ?_)⟩))
  intro g0 g1 b1 b2 b3 b4 b5 b6 b7 b8 b9 b10 b11 hQ x ex
  rw [nI_1] at ex
  subst ex
  exact H2 _ _ _ _ _ _ _ _ _ _ _ _ _ hQ
/-- the state behind the run of process p -/
theorem nw_next {p w h w' h' : Nat} {b5 b6 b7 b8 b9 : Nat → Int32} (hP : nw_Ph a b v p w h (f0, f1, a1, a2, a3, a4, a5, a6, a7, a8, a9, a10, a11))
    (hS : nw_S (nw_G a b v) (nw_st (nw_m p) p (nw_mF p)) b5 b9) (k6 : ∀ j, j ≠ p → b6 j = a6 j) (k7 : ∀ j, j ≠ p → b7 j = a7 j) (k8 : ∀ j, j ≠ p → b8 j = a8 j) :
    nw_Ph a b v (p + 1) w' h' (nI w', nI h', a1, a2, a3, a4, b5, b6, b7, b8, b9, a10, upd a11 p 0) := by
  obtain ⟨-, -, hC, -, h6, h7, h8, h10, h11⟩ := hP
  rw [nw_m_s] at hS
  refine ⟨rfl, rfl, hC, hS, fun j h1 h2 => ?_, fun j h1 h2 => ?_, fun j h1 h2 => ?_, h10, fun j h1 h2 => ?_⟩
  · rw [k6 j (by omega)]; exact h6 j (by omega) h2
  · rw [k7 j (by omega)]; exact h7 j (by omega) h2
  · rw [k8 j (by omega)]; exact h8 j (by omega) h2
  · rw [pk_un (by omega)]; exact h11 j (by omega) h2
/-- the readers of process p are all listed -/
theorem nw_tail {p w h : Nat} {g0 g1 : Int32} {b5 b6 b7 b8 b9 : Nat → Int32} (hP : nw_Ph a b v p w h (f0, f1, a1, a2, a3, a4, a5, a6, a7, a8, a9, a10, a11)) (hp0 : 0 < p) (hp : p < 8)
    (H : post (g0, g1, a1, a2, a3, a4, b5, b6, b7, b8, b9, a10, upd a11 p 0)) :
    ∃ n, wX_run_68 post (nI p) n (nI 0) g0 g1 a1 a2 a3 a4 b5 b6 b7 b8 b9 a10 (upd a11 p 0) := by
  obtain ⟨-, -, hC, -, -, -, -, -, h11⟩ := hP
  refine nw_68 0 (by omega) (fun q hq _ e => ?_) H
  rw [hC.2.1 q hq, hC.2.2.1 q hq] at e
  have hlt := nw_rd q hq p hp hp0 e
  rw [pk_un (by omega), h11 q (by omega) hq]
  decide
/-- process 1: a count -/
theorem nw_p1 {n i w : Nat} (hi : i < 4000) (hw : 0 < w) (hw8 : w ≤ 8) (hP : nw_Ph a b v 1 w 1 (f0, f1, a1, a2, a3, a4, a5, a6, a7, a8, a9, a10, a11))
    (H2 : ∀ g0 g1 b1 b2 b3 b4 b5 b6 b7 b8 b9 b10 b11, nw_Ph a b v 2 (w - 1) 2 (g0, g1, b1, b2, b3, b4, b5, b6, b7, b8, b9, b10, b11) → wX_settle_2 post n (nI (i + 1)) g0 g1 b1 b2 b3 b4 b5 b6 b7 b8 b9 b10 b11) :
    wX_settle_2 post (n + 1) (nI i) f0 f1 a1 a2 a3 a4 a5 a6 a7 a8 a9 a10 a11 := by
  have hP' := hP
  obtain ⟨rfl, rfl, hC, hS, h6, h7, h8, h10, h11⟩ := hP
  refine nw_iter (Q := nw_Ph a b v 2 (w - 1) 2) hi hw hw8 (by omega) (h10 1 (by omega)) (by omega) (fun po hpo => ?_) H2
  refine nw_rCount hS (by omega) (hC.1 1 (by omega)) (hC.2.2.2 1 (by omega)) rfl (fun k hk => rfl) (fun b5 b9 hb => nw_tail hP' (by omega) (by omega) (hpo _ _ _ _ _ _ _ _ _ _ _ _ _ ?_))
  exact nw_next hP' hb (fun _ _ => rfl) (fun _ _ => rfl) (fun _ _ => rfl)
/-- process 2: an addition -/
theorem nw_p2 {n i w : Nat} (hi : i < 4000) (hw : 0 < w) (hw8 : w ≤ 8) (hP : nw_Ph a b v 2 w 2 (f0, f1, a1, a2, a3, a4, a5, a6, a7, a8, a9, a10, a11))
    (H2 : ∀ g0 g1 b1 b2 b3 b4 b5 b6 b7 b8 b9 b10 b11, nw_Ph a b v 3 (w - 1) 3 (g0, g1, b1, b2, b3, b4, b5, b6, b7, b8, b9, b10, b11) → wX_settle_2 post n (nI (i + 1)) g0 g1 b1 b2 b3 b4 b5 b6 b7 b8 b9 b10 b11) :
    wX_settle_2 post (n + 1) (nI i) f0 f1 a1 a2 a3 a4 a5 a6 a7 a8 a9 a10 a11 := by
  have hP' := hP
  obtain ⟨rfl, rfl, hC, hS, h6, h7, h8, h10, h11⟩ := hP
  refine nw_iter (Q := nw_Ph a b v 3 (w - 1) 3) hi hw hw8 (by omega) (h10 2 (by omega)) (by omega) (fun po hpo => ?_) H2
  refine nw_rAdd (x := 0) (x' := 1) (c := 5) hS (by omega) (hC.1 2 (by omega)) (by omega) (by omega) (by omega) (by omega) (hC.2.1 2 (by omega)) (hC.2.2.1 2 (by omega)) (h6 2 (by omega) (by omega)) (h7 2 (by omega) (by omega))
    rfl (by omega) (by omega) rfl (by decide) (fun k hk => rfl) (fun b5 b6 b7 b9 hb k6 k7 => nw_tail hP' (by omega) (by omega) (hpo _ _ _ _ _ _ _ _ _ _ _ _ _ ?_))
  exact nw_next hP' hb k6 k7 (fun _ _ => rfl)
/-- process 3: a sum -/
theorem nw_p3 {n i w : Nat} (hi : i < 4000) (hw : 0 < w) (hw8 : w ≤ 8) (hP : nw_Ph a b v 3 w 3 (f0, f1, a1, a2, a3, a4, a5, a6, a7, a8, a9, a10, a11))
    (H2 : ∀ g0 g1 b1 b2 b3 b4 b5 b6 b7 b8 b9 b10 b11, nw_Ph a b v 4 (w - 1) 4 (g0, g1, b1, b2, b3, b4, b5, b6, b7, b8, b9, b10, b11) → wX_settle_2 post n (nI (i + 1)) g0 g1 b1 b2 b3 b4 b5 b6 b7 b8 b9 b10 b11) :
    wX_settle_2 post (n + 1) (nI i) f0 f1 a1 a2 a3 a4 a5 a6 a7 a8 a9 a10 a11 := by
  have hP' := hP
  obtain ⟨rfl, rfl, hC, hS, h6, h7, h8, h10, h11⟩ := hP
  refine nw_iter (Q := nw_Ph a b v 4 (w - 1) 4) hi hw hw8 (by omega) (h10 3 (by omega)) (by omega) (fun po hpo => ?_) H2
  refine nw_rSum (x := 1) (t := nw_T b) hS (by omega) (hC.1 3 (by omega)) (by omega) (by omega) (hC.2.1 3 (by omega)) (h6 3 (by omega) (by omega)) (h8 3 (by omega) (by omega))
    rfl rfl (fun k hk => rfl) (fun k hk => rfl) (fun b5 b6 b8 b9 hb k6 k8 => nw_tail hP' (by omega) (by omega) (hpo _ _ _ _ _ _ _ _ _ _ _ _ _ ?_))
  exact nw_next hP' hb k6 (fun _ _ => rfl) k8
/-- process 4: a delay -/
theorem nw_p4 {n i w : Nat} (hi : i < 4000) (hw : 0 < w) (hw8 : w ≤ 8) (hP : nw_Ph a b v 4 w 4 (f0, f1, a1, a2, a3, a4, a5, a6, a7, a8, a9, a10, a11))
    (H2 : ∀ g0 g1 b1 b2 b3 b4 b5 b6 b7 b8 b9 b10 b11, nw_Ph a b v 5 (w - 1) 5 (g0, g1, b1, b2, b3, b4, b5, b6, b7, b8, b9, b10, b11) → wX_settle_2 post n (nI (i + 1)) g0 g1 b1 b2 b3 b4 b5 b6 b7 b8 b9 b10 b11) :
    wX_settle_2 post (n + 1) (nI i) f0 f1 a1 a2 a3 a4 a5 a6 a7 a8 a9 a10 a11 := by
  have hP' := hP
  obtain ⟨rfl, rfl, hC, hS, h6, h7, h8, h10, h11⟩ := hP
  refine nw_iter (Q := nw_Ph a b v 5 (w - 1) 5) hi hw hw8 (by omega) (h10 4 (by omega)) (by omega) (fun po hpo => ?_) H2
  refine nw_rDelay (x := 0) (c := 5) (v := v) hS (by omega) (hC.1 4 (by omega)) (hC.2.2.2 4 (by omega)) (by omega) (by omega) (hC.2.1 4 (by omega)) (h6 4 (by omega) (by omega))
    rfl (by omega) rfl rfl (fun k hk => rfl) (fun b5 b6 b9 hb k6 => nw_tail hP' (by omega) (by omega) (hpo _ _ _ _ _ _ _ _ _ _ _ _ _ ?_))
  exact nw_next hP' hb k6 (fun _ _ => rfl) (fun _ _ => rfl)
/-- what a list of the processes 5, 6, 7 holds -/
theorem nw_G5 {p k : Nat} (h5 : 5 ≤ p) : (0 : Int32) * ((2 * nI k) + 1) = nw_G a b v p k := by
  unfold nw_G
  rw [if_neg (by omega), if_neg (by omega), if_neg (by omega), if_neg (by omega), if_neg (by omega)]
theorem nw_k5 : ∀ p, p < 8 → 5 ≤ p → nw_k p = 1 ∧ nw_mF p = 5 := by decide +kernel
theorem nw_N5 {p : Nat} (h5 : 5 ≤ p) : nw_N a b v p = 0 := by
  unfold nw_N
  rw [if_neg (by omega), if_neg (by omega), if_neg (by omega)]
/-- processes 5, 6, 7: lists -/
theorem nw_p5 {n i w p : Nat} (hi : i < 4000) (hw : 0 < w) (hw8 : w ≤ 8) (h5 : 5 ≤ p) (hp : p < 8) (hP : nw_Ph a b v p w p (f0, f1, a1, a2, a3, a4, a5, a6, a7, a8, a9, a10, a11))
    (H2 : ∀ g0 g1 b1 b2 b3 b4 b5 b6 b7 b8 b9 b10 b11, nw_Ph a b v (p + 1) (w - 1) ((p + 1) % 8) (g0, g1, b1, b2, b3, b4, b5, b6, b7, b8, b9, b10, b11) → wX_settle_2 post n (nI (i + 1)) g0 g1 b1 b2 b3 b4 b5 b6 b7 b8 b9 b10 b11) :
    wX_settle_2 post (n + 1) (nI i) f0 f1 a1 a2 a3 a4 a5 a6 a7 a8 a9 a10 a11 := by
  have hP' := hP
  obtain ⟨rfl, rfl, hC, hS, h6, h7, h8, h10, h11⟩ := hP
  have hk := nw_k5 p hp h5
  refine nw_iter (Q := nw_Ph a b v (p + 1) (w - 1) ((p + 1) % 8)) hi hw hw8 hp (h10 p hp) hp (fun po hpo => ?_) H2
  refine nw_rList (c := 0) hS hp ((hC.1 p hp).trans hk.1) ((hC.2.2.2 p hp).trans (nw_N5 h5)) (nw_m_ge (Nat.le_refl p)) (fun k _ => nw_G5 h5)
    (fun b5 b9 hb => nw_tail hP' (by omega) hp (hpo _ _ _ _ _ _ _ _ _ _ _ _ _ ?_))
  rw [← hk.2] at hb
  exact nw_next hP' hb (fun _ _ => rfl) (fun _ _ => rfl) (fun _ _ => rfl)
/-- process 0: a list; it wakes itself -/
theorem nw_p0 {n i : Nat} (hi : i < 4000) (hP : nw_Ph a b v 0 8 0 (f0, f1, a1, a2, a3, a4, a5, a6, a7, a8, a9, a10, a11))
    (H2 : ∀ g0 g1 b1 b2 b3 b4 b5 b6 b7 b8 b9 b10 b11, nw_Ph a b v 1 8 1 (g0, g1, b1, b2, b3, b4, b5, b6, b7, b8, b9, b10, b11) → wX_settle_2 post n (nI (i + 1)) g0 g1 b1 b2 b3 b4 b5 b6 b7 b8 b9 b10 b11) :
    wX_settle_2 post (n + 1) (nI i) f0 f1 a1 a2 a3 a4 a5 a6 a7 a8 a9 a10 a11 := by
  obtain ⟨rfl, rfl, hC, hS, h6, h7, h8, h10, h11⟩ := hP
  refine nw_iter (Q := nw_Ph a b v 1 8 1) hi (by omega) (by omega) (by omega) (h10 0 (by omega)) (by omega) (fun po hpo => ?_) H2
  refine nw_rList hS (by omega) (hC.1 0 (by omega)) (hC.2.2.2 0 (by omega)) rfl (fun k hk => rfl) (fun b5 b9 hb => ?_)
  have hb' : nw_S (nw_G a b v) (nw_m 1) b5 b9 := by
    rw [← nw_m_s 0]
    exact hb
  have hN : nw_Ph a b v 1 8 1 (nI 8, nI 1, a1, a2, a3, a4, b5, a6, a7, a8, b9, upd a10 0 (nI 0), upd (upd a11 0 0) 0 1) := by
    refine ⟨rfl, rfl, hC, hb', fun j _ hj => h6 j (by omega) hj, fun j _ hj => h7 j (by omega) hj, fun j _ hj => h8 j (by omega) hj, fun j hj => ?_, fun j h1 hj => ?_⟩
    · by_cases e : j = 0
      · rw [e, pk_us]
      · rw [pk_un e]
        exact h10 j hj
    · rw [pk_un (by omega), pk_un (by omega)]
      exact h11 j (by omega) hj
  obtain ⟨k, hk⟩ := nw_68 (p := 0) (post := po) (w := nI 8) (h := nI 1) (a1 := a1) (a2 := a2) (a3 := a3) (a4 := a4) (a5 := b5) (a6 := a6) (a7 := a7) (a8 := a8) (a9 := b9) (a10 := upd a10 0 (nI 0)) (a11 := upd (upd a11 0 0) 0 1) 1 (by omega)
    (fun q hq h1 _ => by rw [pk_un (by omega), pk_un (by omega), h11 q (by omega) hq]; decide) (hpo _ _ _ _ _ _ _ _ _ _ _ _ _ hN)
  refine ⟨k + 1, pk_le 8 0 (fun z => absurd z (by omega)) (fun _ => ⟨pk_in 0 8 (by omega), br_t (hC.2.1 0 (by omega)) ?_⟩)⟩
  refine nw_wakeN (t := 0) (by omega) pk_us (by omega) (by decide) ?_
  intro x ex
  subst ex
  exact hk
/-- process 0 once more: nothing -/
theorem nw_p8 {n i : Nat} (hi : i < 4000) (hP : nw_Ph a b v 8 1 0 (f0, f1, a1, a2, a3, a4, a5, a6, a7, a8, a9, a10, a11))
    (H2 : ∀ g0 g1 b1 b2 b3 b4 b5 b6 b7 b8 b9 b10 b11, nw_F a b v (g0, g1, b1, b2, b3, b4, b5, b6, b7, b8, b9, b10, b11) → wX_settle_2 post n (nI (i + 1)) g0 g1 b1 b2 b3 b4 b5 b6 b7 b8 b9 b10 b11) :
    wX_settle_2 post (n + 1) (nI i) f0 f1 a1 a2 a3 a4 a5 a6 a7 a8 a9 a10 a11 := by
  obtain ⟨rfl, rfl, hC, hS, h6, h7, h8, h10, h11⟩ := hP
  refine nw_iter (Q := nw_F a b v) hi (by omega) (by omega) (by omega) (h10 0 (by omega)) (by omega) (fun po hpo => ?_) H2
  exact nw_rList0 hS (by omega) (hC.1 0 (by omega)) rfl (hpo _ _ _ _ _ _ _ _ _ _ _ _ _ ⟨rfl, hS⟩)
theorem nw_stop {n i : Nat} (hi : i < 4000) (hF : nw_F a b v (f0, f1, a1, a2, a3, a4, a5, a6, a7, a8, a9, a10, a11)) (H : post (f0, f1, a1, a2, a3, a4, a5, a6, a7, a8, a9, a10, a11)) :
    wX_settle_2 post (n + 1) (nI i) f0 f1 a1 a2 a3 a4 a5 a6 a7 a8 a9 a10 a11 := by
  obtain ⟨rfl, -⟩ := hF
  exact pk_le 4000 i (fun z => absurd z (by omega)) (fun _ => br_t (by decide) H)
/-- settle leads to the settled state -/
def nw_OK (a b v : Int32) (u : St2) : Prop := ∀ po : St2 → Prop, (∀ g0 g1 b1 b2 b3 b4 b5 b6 b7 b8 b9 b10 b11, nw_F a b v (g0, g1, b1, b2, b3, b4, b5, b6, b7, b8, b9, b10, b11) → po (g0, g1, b1, b2, b3, b4, b5, b6, b7, b8, b9, b10, b11)) → wpX_settle po u
theorem nw_ok0 (hP : nw_Ph a b v 0 8 0 (f0, f1, a1, a2, a3, a4, a5, a6, a7, a8, a9, a10, a11)) : nw_OK a b v (f0, f1, a1, a2, a3, a4, a5, a6, a7, a8, a9, a10, a11) := by
  intro po hpo
  refine ⟨10, nw_p0 (i := 0) (by omega) hP ?_⟩
  intro g0 g1 b1 b2 b3 b4 b5 b6 b7 b8 b9 b10 b11 h
  refine nw_p1 (by omega) (by omega) (by omega) h ?_
  intro g0 g1 b1 b2 b3 b4 b5 b6 b7 b8 b9 b10 b11 h
  refine nw_p2 (by omega) (by omega) (by omega) h ?_
  intro g0 g1 b1 b2 b3 b4 b5 b6 b7 b8 b9 b10 b11 h
  refine nw_p3 (by omega) (by omega) (by omega) h ?_
  intro g0 g1 b1 b2 b3 b4 b5 b6 b7 b8 b9 b10 b11 h
  refine nw_p4 (by omega) (by omega) (by omega) h ?_
  intro g0 g1 b1 b2 b3 b4 b5 b6 b7 b8 b9 b10 b11 h
  refine nw_p5 (p := 5) (by omega) (by omega) (by omega) (by omega) (by omega) h ?_
  intro g0 g1 b1 b2 b3 b4 b5 b6 b7 b8 b9 b10 b11 h
  refine nw_p5 (p := 6) (by omega) (by omega) (by omega) (by omega) (by omega) h ?_
  intro g0 g1 b1 b2 b3 b4 b5 b6 b7 b8 b9 b10 b11 h
  refine nw_p5 (p := 7) (by omega) (by omega) (by omega) (by omega) (by omega) h ?_
  intro g0 g1 b1 b2 b3 b4 b5 b6 b7 b8 b9 b10 b11 h
  refine nw_p8 (by omega) h ?_
  intro g0 g1 b1 b2 b3 b4 b5 b6 b7 b8 b9 b10 b11 h
  exact nw_stop (by omega) h (hpo _ _ _ _ _ _ _ _ _ _ _ _ _ h)
theorem nw_okF (hF : nw_F a b v (f0, f1, a1, a2, a3, a4, a5, a6, a7, a8, a9, a10, a11)) : nw_OK a b v (f0, f1, a1, a2, a3, a4, a5, a6, a7, a8, a9, a10, a11) := by
  intro po hpo
  exact ⟨1, nw_stop (i := 0) (by omega) hF (hpo _ _ _ _ _ _ _ _ _ _ _ _ _ hF)⟩
end
end
section
/-! ===== the questions, over a state that settles ===== -/
def nw_sm (f : Nat → Int32) : Nat → Int32
  | 0 => 0
  | k + 1 => nw_sm f k + f k
def nw_ct : Nat → Nat
  | 0 => 0
  | i + 1 => if nw_mF i = 40 then nw_ct i + 1 else nw_ct i
theorem nw_ct_le : ∀ i, nw_ct i ≤ i
  | 0 => Nat.le_refl 0
  | i + 1 => by
    have := nw_ct_le i
    unfold nw_ct
    split <;> omega
theorem nw_mF_le (p : Nat) : nw_mF p ≤ 40 := by
  unfold nw_mF
  split
  · omega
  · split <;> omega
section
variable {f0 f1 : Int32} {a1 a2 a3 a4 a5 a6 a7 a8 a9 a10 a11 : Nat → Int32} {post : Int32 → St2 → Prop} {a b v : Int32} {p t : Nat}
theorem nw_item (hO : nw_OK a b v (f0, f1, a1, a2, a3, a4, a5, a6, a7, a8, a9, a10, a11)) (hp : p < 8) (ht : t < 40)
    (H : ∀ g0 g1 b1 b2 b3 b4 b5 b6 b7 b8 b9 b10 b11, nw_F a b v (g0, g1, b1, b2, b3, b4, b5, b6, b7, b8, b9, b10, b11) → post (if t < nw_mF p then nw_G a b v p t else -3) (g0, g1, b1, b2, b3, b4, b5, b6, b7, b8, b9, b10, b11)) :
    wpX_item post (f0, f1, a1, a2, a3, a4, a5, a6, a7, a8, a9, a10, a11) (nI p) (nI t) := by
  unfold wpX_item
  dsimp only
  refine nw_bad hp (br_t rfl (hO _ ?_))
  intro g0 g1 b1 b2 b3 b4 b5 b6 b7 b8 b9 b10 b11 hF
  have hS := hF.2
  have hm := nw_mF_le p
  have hH := H _ _ _ _ _ _ _ _ _ _ _ _ _ hF
  refine br_f (nI_pos (by omega)) ⟨pk_in p 8 hp, ?_⟩
  dsimp only
  rw [nI_clamp (show p < 2 ^ 31 by omega), hS.1 p hp, nw_m_lt hp, nw_ix, nI_clamp (show p * 40 + t < 2 ^ 31 by omega)]
  refine pk_lt t (nw_mF p) (fun z => ⟨pk_in (p * 40 + t) 320 (by omega), ?_⟩) (fun z => ?_)
  · rw [hS.2.2 p t hp (by rw [nw_m_lt hp]; exact z)]
    rw [if_pos z] at hH
    exact hH
  · rw [if_neg (by omega)] at hH
    exact hH
theorem nw_length (hO : nw_OK a b v (f0, f1, a1, a2, a3, a4, a5, a6, a7, a8, a9, a10, a11)) (hp : p < 8)
    (H : ∀ g0 g1 b1 b2 b3 b4 b5 b6 b7 b8 b9 b10 b11, nw_F a b v (g0, g1, b1, b2, b3, b4, b5, b6, b7, b8, b9, b10, b11) → post (nI (nw_mF p)) (g0, g1, b1, b2, b3, b4, b5, b6, b7, b8, b9, b10, b11)) :
    wpX_length post (f0, f1, a1, a2, a3, a4, a5, a6, a7, a8, a9, a10, a11) (nI p) := by
  unfold wpX_length
  dsimp only
  refine nw_bad hp (br_t rfl (hO _ ?_))
  intro g0 g1 b1 b2 b3 b4 b5 b6 b7 b8 b9 b10 b11 hF
  have hS := hF.2
  refine ⟨pk_in p 8 hp, ?_⟩
  dsimp only
  rw [nI_clamp (show p < 2 ^ 31 by omega), hS.1 p hp, nw_m_lt hp]
  exact H _ _ _ _ _ _ _ _ _ _ _ _ _ hF
theorem nw_sum (hO : nw_OK a b v (f0, f1, a1, a2, a3, a4, a5, a6, a7, a8, a9, a10, a11)) (hp : p < 8)
    (H : ∀ g0 g1 b1 b2 b3 b4 b5 b6 b7 b8 b9 b10 b11, nw_F a b v (g0, g1, b1, b2, b3, b4, b5, b6, b7, b8, b9, b10, b11) → post (nw_sm (nw_G a b v p) (nw_mF p)) (g0, g1, b1, b2, b3, b4, b5, b6, b7, b8, b9, b10, b11)) :
    wpX_sum post (f0, f1, a1, a2, a3, a4, a5, a6, a7, a8, a9, a10, a11) (nI p) := by
  unfold wpX_sum
  dsimp only
  refine nw_bad hp (br_t rfl (hO _ ?_))
  intro g0 g1 b1 b2 b3 b4 b5 b6 b7 b8 b9 b10 b11 hF
  have hS := hF.2
  have hm := nw_mF_le p
  refine pk_loop (σ := Unit) (fun n i _ => wX_sum_17 post (nI p) g0 g1 b1 b2 b3 b4 b5 b6 b7 b8 b9 b10 b11 n (nw_sm (nw_G a b v p) i) (nI i)) (fun _ _ => True) (nw_mF p) 0 () (by omega) trivial ?_ ?_
  · intro n _ _
    refine ⟨pk_in p 8 hp, ?_⟩
    rw [nI_clamp (show p < 2 ^ 31 by omega), hS.1 p hp, nw_m_lt hp]
    exact pk_le (nw_mF p) (nw_mF p) (fun _ => H _ _ _ _ _ _ _ _ _ _ _ _ _ hF) (fun z => absurd z (by omega))
  · intro n i _ hi _ hw
    refine ⟨pk_in p 8 hp, ?_⟩
    rw [nI_clamp (show p < 2 ^ 31 by omega), hS.1 p hp, nw_m_lt hp, nw_ix, nI_clamp (show p * 40 + i < 2 ^ 31 by omega), hS.2.2 p i hp (by rw [nw_m_lt hp]; exact hi)]
    exact pk_le (nw_mF p) i (fun z => absurd z (by omega)) (fun _ => ⟨pk_in (p * 40 + i) 320 (by omega), nm_e (nm_r (nI_1 i) (hw () trivial))⟩)
theorem nw_find {y : Int32} (hO : nw_OK a b v (f0, f1, a1, a2, a3, a4, a5, a6, a7, a8, a9, a10, a11)) (hp : p < 8) (ht : t < nw_mF p) (hne : ∀ k, k < t → ¬ nw_G a b v p k = y) (he : nw_G a b v p t = y)
    (H : ∀ g0 g1 b1 b2 b3 b4 b5 b6 b7 b8 b9 b10 b11, nw_F a b v (g0, g1, b1, b2, b3, b4, b5, b6, b7, b8, b9, b10, b11) → post (nI t) (g0, g1, b1, b2, b3, b4, b5, b6, b7, b8, b9, b10, b11)) :
    wpX_find post (f0, f1, a1, a2, a3, a4, a5, a6, a7, a8, a9, a10, a11) (nI p) y := by
  unfold wpX_find
  dsimp only
  refine nw_bad hp (br_t rfl (hO _ ?_))
  intro g0 g1 b1 b2 b3 b4 b5 b6 b7 b8 b9 b10 b11 hF
  have hS := hF.2
  have hm := nw_mF_le p
  refine pk_loop (σ := Unit) (fun n i _ => wX_find_15 post (nI p) y g0 g1 b1 b2 b3 b4 b5 b6 b7 b8 b9 b10 b11 n (nI i)) (fun _ _ => True) t 0 () (by omega) trivial ?_ ?_
  · intro n _ _
    refine ⟨pk_in p 8 hp, ?_⟩
    rw [nI_clamp (show p < 2 ^ 31 by omega), hS.1 p hp, nw_m_lt hp, nw_ix, nI_clamp (show p * 40 + t < 2 ^ 31 by omega), hS.2.2 p t hp (by rw [nw_m_lt hp]; exact ht)]
    exact pk_le (nw_mF p) t (fun z => absurd z (by omega)) (fun _ => ⟨pk_in (p * 40 + t) 320 (by omega), br_t he (H _ _ _ _ _ _ _ _ _ _ _ _ _ hF)⟩)
  · intro n i _ hi _ hw
    refine ⟨pk_in p 8 hp, ?_⟩
    rw [nI_clamp (show p < 2 ^ 31 by omega), hS.1 p hp, nw_m_lt hp, nw_ix, nI_clamp (show p * 40 + i < 2 ^ 31 by omega), hS.2.2 p i hp (by rw [nw_m_lt hp]; omega)]
    exact pk_le (nw_mF p) i (fun z => absurd z (by omega)) (fun _ => ⟨pk_in (p * 40 + i) 320 (by omega), br_f (hne i hi) (nm_r (nI_1 i) (hw () trivial))⟩)
theorem nw_full (hO : nw_OK a b v (f0, f1, a1, a2, a3, a4, a5, a6, a7, a8, a9, a10, a11))
    (H : ∀ g0 g1 b1 b2 b3 b4 b5 b6 b7 b8 b9 b10 b11, nw_F a b v (g0, g1, b1, b2, b3, b4, b5, b6, b7, b8, b9, b10, b11) → post (nI (nw_ct 8)) (g0, g1, b1, b2, b3, b4, b5, b6, b7, b8, b9, b10, b11)) :
    wpX_full post (f0, f1, a1, a2, a3, a4, a5, a6, a7, a8, a9, a10, a11) := by
  unfold wpX_full
  dsimp only
  refine hO _ ?_
  intro g0 g1 b1 b2 b3 b4 b5 b6 b7 b8 b9 b10 b11 hF
  have hS := hF.2
  refine pk_loop (σ := Unit) (fun n i _ => wX_full_8 post g0 g1 b1 b2 b3 b4 b5 b6 b7 b8 b9 b10 b11 n (nI (nw_ct i)) (nI i)) (fun _ _ => True) 8 0 () (by omega) trivial ?_ ?_
  · intro n _ _
    exact pk_le 8 8 (fun _ => H _ _ _ _ _ _ _ _ _ _ _ _ _ hF) (fun z => absurd z (by omega))
  · intro n i _ hi _ hw
    have hm := nw_mF_le i
    have ec : nw_ct (i + 1) = if nw_mF i = 40 then nw_ct i + 1 else nw_ct i := rfl
    have t := hw () trivial
    refine pk_le 8 i (fun z => absurd z (by omega)) (fun _ => ⟨pk_in i 8 hi, ?_⟩)
    rw [nI_clamp (show i < 2 ^ 31 by omega), hS.1 i hi, nw_m_lt hi]
    refine pk_eq (nw_mF i) 40 (fun z => nm_r (nI_1 _) (nm_r (nI_1 i) ?_)) (fun z => nm_r (nI_1 i) ?_)
    · rw [if_pos z] at ec
      rw [ec] at t
      exact t
    · rw [if_neg z] at ec
      rw [ec] at t
      exact t
end
end
section
/-! ===== the law ===== -/
theorem nw_sum0 (a b v : Int32) : nw_sm (nw_G a b v 0) (nw_mF 0) = 25 * a := by
  show 0 + a * ((2 * 0) + 1) + a * ((2 * 1) + 1) + a * ((2 * 2) + 1) + a * ((2 * 3) + 1) + a * ((2 * 4) + 1) = 25 * a
  grind
theorem nw_T8 (b : Int32) : ∀ t, t < 8 → nw_T b (t + 1) = ((nI t + 1) * b) + ((nI t * (nI t + 1)) / 2) := by
  intro t ht
  have h8 : t = 0 ∨ t = 1 ∨ t = 2 ∨ t = 3 ∨ t = 4 ∨ t = 5 ∨ t = 6 ∨ t = 7 := by omega
  rcases h8 with rfl | rfl | rfl | rfl | rfl | rfl | rfl | rfl
  · rw [show (nI 0 * (nI 0 + 1)) / 2 = 0 from by decide]
    show 0 + (b + 0) = (0 + 1) * b + 0
    grind
  · rw [show (nI 1 * (nI 1 + 1)) / 2 = 1 from by decide]
    show 0 + (b + 0) + (b + 1) = (1 + 1) * b + 1
    grind
  · rw [show (nI 2 * (nI 2 + 1)) / 2 = 3 from by decide]
    show 0 + (b + 0) + (b + 1) + (b + 2) = (2 + 1) * b + 3
    grind
  · rw [show (nI 3 * (nI 3 + 1)) / 2 = 6 from by decide]
    show 0 + (b + 0) + (b + 1) + (b + 2) + (b + 3) = (3 + 1) * b + 6
    grind
  · rw [show (nI 4 * (nI 4 + 1)) / 2 = 10 from by decide]
    show 0 + (b + 0) + (b + 1) + (b + 2) + (b + 3) + (b + 4) = (4 + 1) * b + 10
    grind
  · rw [show (nI 5 * (nI 5 + 1)) / 2 = 15 from by decide]
    show 0 + (b + 0) + (b + 1) + (b + 2) + (b + 3) + (b + 4) + (b + 5) = (5 + 1) * b + 15
    grind
  · rw [show (nI 6 * (nI 6 + 1)) / 2 = 21 from by decide]
    show 0 + (b + 0) + (b + 1) + (b + 2) + (b + 3) + (b + 4) + (b + 5) + (b + 6) = (6 + 1) * b + 21
    grind
  · rw [show (nI 7 * (nI 7 + 1)) / 2 = 28 from by decide]
    show 0 + (b + 0) + (b + 1) + (b + 2) + (b + 3) + (b + 4) + (b + 5) + (b + 6) + (b + 7) = (7 + 1) * b + 28
    grind
theorem nw_41 (a : Int32) : a * ((2 * nI 0) + 1) = a := by
  rw [show ((2 : Int32) * nI 0) + 1 = 1 from by decide]
  grind
theorem nw_inj (b : Int32) {k t : Nat} (hk : k < t) (ht : t < 40) : ¬ b + nI k = b + nI t := by
  intro e
  have e2 : nI k = nI t := by grind
  rw [nI_eq (by omega) (by omega)] at e2
  omega
theorem nw_u5 {f g : Nat → Int32} {x0 x1 x2 x3 x4 : Int32} (e0 : x0 = g 0) (e1 : x1 = g 1) (e2 : x2 = g 2) (e3 : x3 = g 3) (e4 : x4 = g 4) (hf : ∀ j, 5 ≤ j → j < 8 → f j = g j) :
    ∀ j, j < 8 → upd (upd (upd (upd (upd f 0 x0) 1 x1) 2 x2) 3 x3) 4 x4 j = g j := by
  intro j hj
  by_cases h4 : j = 4
  · rw [h4, pk_us, e4]
  rw [pk_un h4]
  by_cases h3 : j = 3
  · rw [h3, pk_us, e3]
  rw [pk_un h3]
  by_cases h2 : j = 2
  · rw [h2, pk_us, e2]
  rw [pk_un h2]
  by_cases h1 : j = 1
  · rw [h1, pk_us, e1]
  rw [pk_un h1]
  by_cases h0 : j = 0
  · rw [h0, pk_us, e0]
  rw [pk_un h0]
  exact hf j (by omega) hj
section
variable {f0 f1 : Int32} {a1 a2 a3 a4 a5 a6 a7 a8 a9 a10 a11 : Nat → Int32} {a b v : Int32} {t mc ms kc ks : Nat}
theorem nw_127 {z0 z1 : Int32} (ht : t < 8) (hz : z1 = z0) (hF : nw_F a b v (f0, f1, a1, a2, a3, a4, a5, a6, a7, a8, a9, a10, a11)) :
    wL_lawOf_127 (fun r _ => r = 1) mc ms a b v (nI t) z0 z1 kc ks f0 f1 a1 a2 a3 a4 a5 a6 a7 a8 a9 a10 a11 := by
  unfold wL_lawOf_127
  refine br_t hz ?_
  refine nw_sum (p := 0) (nw_okF hF) (by omega) ?_
  intro f0 f1 a1 a2 a3 a4 a5 a6 a7 a8 a9 a10 a11 hF
  refine br_t (nw_sum0 a b v) ?_
  refine nw_item (p := 3) (nw_okF hF) (by omega) (by omega) ?_
  intro f0 f1 a1 a2 a3 a4 a5 a6 a7 a8 a9 a10 a11 hF
  refine ⟨by decide, br_t ?_ ?_⟩
  · rw [if_pos (show t < nw_mF 3 from by show t < 40; omega)]
    exact nw_T8 b t ht
  refine nw_length (p := 4) (nw_okF hF) (by omega) ?_
  intro f0 f1 a1 a2 a3 a4 a5 a6 a7 a8 a9 a10 a11 hF
  refine br_t rfl ?_
  refine nw_item (p := 4) (t := 0) (nw_okF hF) (by omega) (by omega) ?_
  intro f0 f1 a1 a2 a3 a4 a5 a6 a7 a8 a9 a10 a11 hF
  refine br_t rfl ?_
  refine nw_item (p := 4) (t := 1) (nw_okF hF) (by omega) (by omega) ?_
  intro f0 f1 a1 a2 a3 a4 a5 a6 a7 a8 a9 a10 a11 hF
  refine br_t (nw_41 a) ?_
  refine nw_find (p := 1) (t := t) (nw_okF hF) (by omega) (by show t < 40; omega) (fun k hk => nw_inj b hk (by omega)) rfl ?_
  intro f0 f1 a1 a2 a3 a4 a5 a6 a7 a8 a9 a10 a11 hF
  refine br_t rfl ?_
  refine nw_full (nw_okF hF) ?_
  intro f0 f1 a1 a2 a3 a4 a5 a6 a7 a8 a9 a10 a11 hF
  exact br_t rfl rfl
theorem nw_86 {z : Int32} (ht : t < 8) (hz : (if t < nw_mF 0 then nw_G a b v 0 t else -3) = z) (hO : nw_OK a b v (f0, f1, a1, a2, a3, a4, a5, a6, a7, a8, a9, a10, a11)) :
    wL_lawOf_86 (fun r _ => r = 1) mc ms a b v (nI t) z kc ks f0 f1 a1 a2 a3 a4 a5 a6 a7 a8 a9 a10 a11 := by
  unfold wL_lawOf_86
  refine nw_item (p := 0) hO (by omega) (by omega) ?_
  intro f0 f1 a1 a2 a3 a4 a5 a6 a7 a8 a9 a10 a11 hF
  refine br_t hz ?_
  refine nw_item (p := 2) (nw_okF hF) (by omega) (by omega) ?_
  intro f0 f1 a1 a2 a3 a4 a5 a6 a7 a8 a9 a10 a11 hF
  refine pk_le 5 t (fun h5 => nw_127 ht ?_ hF) (fun h5 => nw_127 ht ?_ hF)
  · exact if_neg (show ¬ t < 5 by omega)
  · rw [← hz, if_pos (show t < nw_mF 2 from h5), if_pos (show t < nw_mF 0 from h5)]
    show a * ((2 * nI t) + 1) + (b + nI t) = a * ((2 * nI t) + 1) + b + nI t
    rw [Int32.add_assoc]
end
theorem nw_lawOf (a b i v : Int32) : wpL_lawOf (fun r _ => r = 1) 12 413 () a b i v := by
  obtain ⟨t, ht, et⟩ := pk_andE i (m := 7) 3 (by decide)
  refine ⟨by omega, by omega, 11, 400, by omega, by omega, nw_init (by omega) (by omega) ?_⟩
  intro c1 b5 b6 b7 b8 b10 b11 h1 _ _ _ _ _ _
  refine nm_r et ?_
  refine nw_set (p := 0) (k := 1) (by omega) (by omega) ?_
  intro b5 b6 b7 b8 b10 b11 _ _ _ _ _ _
  refine nw_set (p := 1) (k := 0) (by omega) (by omega) ?_
  intro b5 b6 b7 b8 b10 b11 _ _ _ _ _ _
  refine nw_set (p := 2) (k := 2) (by omega) (by omega) ?_
  intro b5 b6 b7 b8 b10 b11 _ _ _ _ _ _
  refine nw_set (p := 3) (k := 7) (by omega) (by omega) ?_
  intro b5 b6 b7 b8 b10 b11 _ _ _ _ _ _
  refine nw_set (p := 4) (k := 5) (by omega) (by omega) ?_
  intro b5 b6 b7 b8 b10 b11 h5 h6 h7 h8 h10 h11
  have hC : nw_C a b v _ _ _ _ := ⟨nw_u5 (x0 := nI 1) (x1 := nI 0) (x2 := nI 2) (x3 := nI 7) (x4 := nI 5) (g := nw_k) rfl rfl rfl rfl rfl (fun j h hj => (h1 j hj).trans (nw_k5 j hj h).1.symm),
    nw_u5 (f := fun _ => 0) (x0 := 0 &&& 7) (x1 := 0 &&& 7) (x2 := 8 &&& 7) (x3 := 1 &&& 7) (x4 := 0 &&& 7) (g := nw_X) (by decide) (by decide) (by decide) (by decide) (by decide) (fun j h hj => by unfold nw_X; rw [if_neg (by omega)]; rfl),
    nw_u5 (f := fun _ => 0) (x0 := (0 >>> ((3 : Int32) &&& 31)) &&& 7) (x1 := (0 >>> ((3 : Int32) &&& 31)) &&& 7) (x2 := (8 >>> ((3 : Int32) &&& 31)) &&& 7) (x3 := (1 >>> ((3 : Int32) &&& 31)) &&& 7) (x4 := (0 >>> ((3 : Int32) &&& 31)) &&& 7) (g := nw_Y) (by decide) (by decide) (by decide) (by decide) (by decide) (fun j h hj => by unfold nw_Y; rw [if_neg (by omega)]; rfl),
    nw_u5 (f := fun _ => 0) (x0 := a) (x1 := b) (x2 := 0) (x3 := 0) (x4 := v) (g := nw_N a b v) rfl rfl rfl rfl rfl (fun j h hj => (nw_N5 h).symm)⟩
  have hS : nw_S (nw_G a b v) (nw_m 0) b5 (fun _ => 0) := by
    refine ⟨fun j hj => ?_, fun j hj => ?_, fun p k hp hk => ?_⟩
    · rw [h5 j hj, nw_m_ge (Nat.zero_le j)]; rfl
    · rw [nw_m_ge (Nat.zero_le j)]; omega
    · rw [nw_m_ge (Nat.zero_le p)] at hk; omega
  have hO := nw_ok0 (a := a) (b := b) (v := v) (f0 := nI 8) (f1 := nI 0) ⟨rfl, rfl, hC, hS, fun j _ hj => h6 j hj, fun j _ hj => h7 j hj, fun j _ hj => h8 j hj, h10, fun j _ hj => h11 j hj⟩
  have ht8 : t < 8 := ht
  refine pk_le 5 t (fun z => nw_86 ht8 ?_ hO) (fun z => nw_86 ht8 ?_ hO)
  · exact if_neg (show ¬ t < 5 by omega)
  · exact if_pos (show t < 5 from z)
theorem nw_cell {post : Int32 → Prop} {L k : Nat} {xs : Nat → Int32} (hL : L ≤ 4) (hk : k < 4) (H : ∀ x, post x) : wpL_cellAt post L xs () (nI k) :=
  pk_le L k (fun _ => H 0) (fun z => ⟨pk_in k L z, H _⟩)
theorem i_vc (xs : Nat → Int32) (L : Nat) (hL : L ≤ 4) : wpL_law (fun r => r = 1) L xs :=
  nw_cell (k := 0) hL (by omega) (fun a => nw_cell (k := 1) hL (by omega) (fun b => nw_cell (k := 2) hL (by omega) (fun i => nw_cell (k := 3) hL (by omega) (fun v => ⟨12, 413, by omega, by omega, nw_lawOf a b i v⟩))))
end
