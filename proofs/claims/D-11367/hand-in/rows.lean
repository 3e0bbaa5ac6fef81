section
/-- the key of a value: the greater key is the better one -/
def bf_K (g : Bool) (x : Int32) : Int := cond g x.toInt (- x.toInt)
/-- the flag as the code holds it -/
def bf_G (g : Bool) : Int32 := cond g 1 0
/-- v is the best of f on the places lo .. hi -/
def bf_B (g : Bool) (f : Nat → Int32) (lo hi : Nat) (v : Int32) : Prop := (∃ j, lo ≤ j ∧ j ≤ hi ∧ v = f j) ∧ ∀ j, lo ≤ j → j ≤ hi → bf_K g (f j) ≤ bf_K g v
theorem bf_K_inj {g : Bool} {x y : Int32} (h : bf_K g x = bf_K g y) : x = y := by
  unfold bf_K at h
  apply Int32.toInt_inj.mp
  cases g
  · have h' : - x.toInt = - y.toInt := h
    omega
  · exact h
theorem bf_K_t (x : Int32) : bf_K true x = x.toInt := rfl
theorem bf_K_f (x : Int32) : bf_K false x = - x.toInt := rfl
/-- the best is one -/
theorem bf_B_eq {g : Bool} {f : Nat → Int32} {lo hi : Nat} {v w : Int32} (h : bf_B g f lo hi v) (h' : bf_B g f lo hi w) : v = w := by
  obtain ⟨⟨j, h1, h2, e⟩, b⟩ := h
  obtain ⟨⟨j', h1', h2', e'⟩, b'⟩ := h'
  have a := b j' h1' h2'
  have a' := b' j h1 h2
  rw [← e'] at a
  rw [← e] at a'
  exact bf_K_inj (g := g) (by omega)
/-- the best of one place -/
theorem bf_B_one {g : Bool} {f : Nat → Int32} {lo hi : Nat} {v : Int32} (h : bf_B g f lo hi v) (e : hi ≤ lo) : v = f lo := by
  obtain ⟨⟨j, h1, h2, e⟩, b⟩ := h
  have : j = lo := by omega
  rw [e, this]
theorem bf_B_congr {g : Bool} {f f' : Nat → Int32} {lo hi : Nat} {v : Int32} (h : bf_B g f lo hi v) (e : ∀ j, lo ≤ j → j ≤ hi → f j = f' j) : bf_B g f' lo hi v := by
  obtain ⟨⟨j, h1, h2, ev⟩, b⟩ := h
  refine ⟨⟨j, h1, h2, ?_⟩, fun i a1 a2 => ?_⟩
  · rw [ev, e j h1 h2]
  · rw [← e i a1 a2]
    exact b i a1 a2
/-- the queue: places lo .. m-1 are covered by the candidates q hd .. q (tl-1) -/
def bf_Q (g : Bool) (f : Nat → Int32) (lo m hd tl : Nat) (a5 : Nat → Int32) (q : Nat → Nat) : Prop :=
  hd ≤ tl ∧ tl ≤ m ∧ (∀ t, hd ≤ t → t < tl → a5 t = nI (q t) ∧ lo ≤ q t ∧ q t < m) ∧
  (∀ s t, hd ≤ s → s < t → t < tl → q s < q t ∧ bf_K g (f (q t)) ≤ bf_K g (f (q s))) ∧
  (∀ j, lo ≤ j → j < m → ∃ t, hd ≤ t ∧ t < tl ∧ j ≤ q t ∧ bf_K g (f j) ≤ bf_K g (f (q t)))
theorem bf_Q_0 {g : Bool} {f a5 : Nat → Int32} : bf_Q g f 0 0 0 0 a5 (fun _ => 0) := by
  refine ⟨by omega, by omega, fun t h1 h2 => absurd h2 (by omega), fun s t h1 h2 h3 => absurd h3 (by omega), fun j h1 h2 => absurd h2 (by omega)⟩
theorem bf_push {g : Bool} {f a5 : Nat → Int32} {q : Nat → Nat} {lo m hd tl tl' : Nat} (h : bf_Q g f lo m hd tl a5 q) (h1 : hd ≤ tl') (h2 : tl' ≤ tl) (hlo : lo ≤ m)
    (hp : ∀ t, tl' ≤ t → t < tl → bf_K g (f (q t)) ≤ bf_K g (f m)) (hq : tl' ≤ hd ∨ bf_K g (f m) < bf_K g (f (q (tl' - 1)))) :
    bf_Q g f lo (m + 1) hd (tl' + 1) (upd a5 tl' (nI m)) (fun t => if t = tl' then m else q t) := by
  obtain ⟨k1, k2, k3, k4, k5⟩ := h
  have ne : ∀ t, t < tl' → (if t = tl' then m else q t) = q t := fun t ht => if_neg (by omega)
  have eq : (if tl' = tl' then m else q tl') = m := if_pos rfl
  refine ⟨by omega, by omega, fun t a b => ?_, fun s t a b c => ?_, fun j a b => ?_⟩
  · dsimp only
    by_cases e : t = tl'
    · rw [e, pk_us, eq]
      exact ⟨rfl, hlo, by omega⟩
    · have := k3 t a (by omega)
      rw [pk_un e, ne t (by omega)]
      exact ⟨this.1, this.2.1, by omega⟩
  · dsimp only
    rw [ne s (by omega)]
    by_cases e : t = tl'
    · rw [e, eq]
      refine ⟨(k3 s a (by omega)).2.2, ?_⟩
      rcases hq with z | z
      · omega
      · by_cases e2 : s = tl' - 1
        · rw [e2]; omega
        · have := (k4 s (tl' - 1) a (by omega) (by omega)).2
          omega
    · rw [ne t (by omega)]
      exact k4 s t a b (by omega)
  · dsimp only
    by_cases e : j = m
    · refine ⟨tl', h1, by omega, ?_, ?_⟩
      · rw [eq]; omega
      · rw [eq, e]; omega
    · obtain ⟨t, t1, t2, t3, t4⟩ := k5 j a (by omega)
      by_cases e2 : t < tl'
      · refine ⟨t, t1, by omega, ?_, ?_⟩
        · rw [ne t e2]; exact t3
        · rw [ne t e2]; exact t4
      · refine ⟨tl', h1, by omega, ?_, ?_⟩
        · rw [eq]; omega
        · rw [eq]
          have := hp t (by omega) t2
          omega
/-- the first candidate is the best -/
theorem bf_best {g : Bool} {f a5 : Nat → Int32} {q : Nat → Nat} {lo m hd tl : Nat} (h : bf_Q g f lo m hd tl a5 q) (hlo : lo < m) : hd < tl ∧ bf_B g f lo (m - 1) (f (q hd)) := by
  obtain ⟨k1, k2, k3, k4, k5⟩ := h
  have hl : hd < tl := by
    obtain ⟨t, t1, t2, _⟩ := k5 lo (by omega) hlo
    omega
  refine ⟨hl, ⟨q hd, (k3 hd (by omega) hl).2.1, by have := (k3 hd (by omega) hl).2.2; omega, rfl⟩, fun j a b => ?_⟩
  obtain ⟨t, t1, t2, t3, t4⟩ := k5 j a (by omega)
  by_cases e : t = hd
  · rw [e] at t4; exact t4
  · have := (k4 hd t (by omega) (by omega) t2).2
    omega
/-- the window goes on, the first candidate stays in it -/
theorem bf_stay {g : Bool} {f a5 : Nat → Int32} {q : Nat → Nat} {lo lo' m hd tl : Nat} (h : bf_Q g f lo m hd tl a5 q) (hlo : lo ≤ lo') (hq : lo' ≤ q hd) : bf_Q g f lo' m hd tl a5 q := by
  obtain ⟨k1, k2, k3, k4, k5⟩ := h
  refine ⟨k1, k2, fun t a b => ?_, k4, fun j a b => k5 j (by omega) b⟩
  have k := k3 t a b
  refine ⟨k.1, ?_, k.2.2⟩
  by_cases e : t = hd
  · rw [e]; exact hq
  · have := (k4 hd t (by omega) (by omega) b).1
    omega
/-- the window goes on, the first candidate leaves it -/
theorem bf_drop {g : Bool} {f a5 : Nat → Int32} {q : Nat → Nat} {lo lo' m hd tl : Nat} (h : bf_Q g f lo m hd tl a5 q) (hl : hd < tl) (hlo : lo' ≤ lo + 1) (hlo2 : lo ≤ lo') (hq : q hd < lo') : bf_Q g f lo' m (hd + 1) tl a5 q := by
  obtain ⟨k1, k2, k3, k4, k5⟩ := h
  have kh := k3 hd (by omega) hl
  refine ⟨by omega, k2, fun t a b => ?_, fun s t a b c => k4 s t (by omega) b c, fun j a b => ?_⟩
  · have k := k3 t (by omega) b
    have := (k4 hd t (by omega) (by omega) b).1
    exact ⟨k.1, by omega, k.2.2⟩
  · obtain ⟨t, t1, t2, t3, t4⟩ := k5 j (by omega) b
    refine ⟨t, ?_, t2, t3, t4⟩
    by_cases e : t = hd
    · rw [e] at t3; omega
    · omega
/-- an array filled from below -/
theorem bf_fill {f s : Nat → Int32} {i k : Nat} {x : Int32} (hk : k = i) (h : ∀ j, j < i → s j = f j) (hx : x = f i) : ∀ j, j < i + 1 → upd s k x j = f j := by
  intro j hj
  rw [hk]
  by_cases e : j = i
  · rw [e, pk_us, hx]
  · rw [pk_un e]
    exact h j (by omega)
end
section
/-- what the raster holds when the counter stands at i: bests at the centres that are done, a0 elsewhere -/
def bf_R (g : Bool) (f a0 : Nat → Int32) (start step w i : Nat) (b : Nat → Int32) : Prop :=
  (∀ c, c < 16 → c + w < i → bf_B g f (c - w) (min 15 (c + w)) (b (start + c * step))) ∧ (∀ x, (∀ c, c < 16 → c + w < i → x ≠ start + c * step) → b x = a0 x)
theorem bf_R_0 {g : Bool} {f a0 : Nat → Int32} {start step w : Nat} : bf_R g f a0 start step w 0 a0 := ⟨fun c h1 h2 => absurd h2 (by omega), fun x h => rfl⟩
theorem bf_R_skip {g : Bool} {f a0 b : Nat → Int32} {start step w i : Nat} (h : bf_R g f a0 start step w i b) (hi : i < w) : bf_R g f a0 start step w (i + 1) b :=
  ⟨fun c h1 h2 => absurd h2 (by omega), fun x hx => h.2 x (fun c h1 h2 => absurd h2 (by omega))⟩
theorem bf_pos_inj {start step c c' : Nat} (hs : 0 < step) (h : c' ≠ c) : start + c' * step ≠ start + c * step := fun e => h (Nat.eq_of_mul_eq_mul_right hs (by omega))
theorem bf_R_put {g : Bool} {f a0 b : Nat → Int32} {start step w i c : Nat} {v : Int32} (hs : 0 < step) (h : bf_R g f a0 start step w i b) (hi : i = c + w) (hc : c < 16) (hv : bf_B g f (c - w) (min 15 (c + w)) v) : bf_R g f a0 start step w (i + 1) (upd b (start + c * step) v) := by
  refine ⟨fun c' h1 h2 => ?_, fun x hx => ?_⟩
  · by_cases e : c' = c
    · rw [e, pk_us]
      exact hv
    · rw [pk_un (bf_pos_inj hs e)]
      exact h.1 c' h1 (by omega)
  · rw [pk_un (hx c hc (by omega))]
    exact h.2 x (fun c' h1 h2 => hx c' h1 (by omega))
theorem bf_od {post : Int32 → Prop} {a1 a2 a3 a4 a5 a6 a7 : Nat → Int32} {g : Bool} {a b : Nat} (ha : a < 16) (hb : b < 16) (h1 : bf_K g (a4 b) ≤ bf_K g (a4 a) → post 1) (h0 : bf_K g (a4 a) < bf_K g (a4 b) → post 0) :
    wpX_outdoes post (a1, a2, a3, a4, a5, a6, a7) (nI a) (nI b) (bf_G g) := by
  unfold wpX_outdoes
  dsimp only
  rw [nI_clamp (show a < 2 ^ 31 by omega), nI_clamp (show b < 2 ^ 31 by omega)]
  cases g
  · refine br_t rfl ⟨pk_in a 16 ha, pk_in b 16 hb, br_c (fun z => h0 ?_) (fun z => h1 ?_)⟩
    · rw [Int32.lt_iff_toInt_lt] at z
      rw [bf_K_f, bf_K_f]
      omega
    · rw [Int32.lt_iff_toInt_lt] at z
      rw [bf_K_f, bf_K_f]
      omega
  · refine br_f (by decide) ⟨pk_in a 16 ha, pk_in b 16 hb, br_c (fun z => h0 ?_) (fun z => h1 ?_)⟩
    · rw [Int32.lt_iff_toInt_lt] at z
      rw [bf_K_t, bf_K_t]
      omega
    · rw [Int32.lt_iff_toInt_lt] at z
      rw [bf_K_t, bf_K_t]
      omega
theorem bf_132 {post : St2 → Prop} {J : Int32 → Int32 → Int32 → (Nat → Int32) → (Nat → Int32) → (Nat → Int32) → (Nat → Int32) → (Nat → Int32) → (Nat → Int32) → (Nat → Int32) → Prop} {x3 x4 x6 : Int32} {start step c i hd qh : Nat} {a1 a2 a3 a4 a5 a6 a7 : Nat → Int32}
    (hb : start + 15 * step < 256) (hhd : hd < 16) (hq : a5 hd = nI qh) (hq16 : qh < 16) (hc : c < 16)
    (H : J (nI hd) x6 (nI (i + 1)) (upd a1 (start + c * step) (a4 qh)) a2 a3 a4 a5 a6 a7) :
    wX_filterLine_132 post J (nI start) (nI step) x3 x4 (nI hd) x6 (nI i) (nI c) a1 a2 a3 a4 a5 a6 a7 := by
  unfold wX_filterLine_132
  have e : nI start + nI c * nI step = nI (start + c * step) := by rw [pk_mul, nI_add]
  have hm := Nat.mul_le_mul_right step (show c ≤ 15 by omega)
  rw [nI_clamp (show hd < 2 ^ 31 by omega), hq, nI_clamp (show qh < 2 ^ 31 by omega), e, nI_clamp (show start + c * step < 2 ^ 31 by omega)]
  exact ⟨pk_in hd 16 hhd, pk_in qh 16 hq16, pk_in (start + c * step) 256 (by omega), nm_e (nm_r (nI_1 i) H)⟩
theorem bf_104 {post : St2 → Prop} {J : Int32 → Int32 → Int32 → (Nat → Int32) → (Nat → Int32) → (Nat → Int32) → (Nat → Int32) → (Nat → Int32) → (Nat → Int32) → (Nat → Int32) → Prop} {x4 : Int32} {g : Bool} {start step w i m hd tl : Nat} {q : Nat → Nat} {a0 a1 a2 a3 a4 a5 a6 a7 : Nat → Int32}
    (hst : 0 < step) (hb : start + 15 * step < 256) (hw : w ≤ 7) (hi : i < 16 + w) (hm : m = min (i + 1) 16)
    (hQ : bf_Q g a4 (i - 1 - 2 * w) m hd tl a5 q) (hR : bf_R g a4 a0 start step w i a1)
    (H : ∀ hd' b1, bf_Q g a4 (i - 2 * w) m hd' tl a5 q → bf_R g a4 a0 start step w (i + 1) b1 → J (nI hd') (nI tl) (nI (i + 1)) b1 a2 a3 a4 a5 a6 a7) :
    wX_filterLine_104 post J (nI start) (nI step) (nI w) x4 (nI hd) (nI tl) (nI i) a1 a2 a3 a4 a5 a6 a7 := by
  unfold wX_filterLine_104
  intro x8 e8
  by_cases hc : i < w
  · refine br_t (by rw [e8]; exact pk_sneg (by omega) hc) (nm_r (nI_1 i) (H hd a1 ?_ (bf_R_skip hR hc)))
    rw [show i - 2 * w = i - 1 - 2 * w by omega]
    exact hQ
  · have e8' : x8 = nI (i - w) := by rw [e8]; exact pk_sub (by omega)
    subst e8'
    have hl := (bf_best hQ (by omega)).1
    have kh := hQ.2.2.1 hd (by omega) hl
    have htl : tl ≤ m := hQ.2.1
    have hq16 : q hd < 16 := by omega
    have hmin : min 15 (i - w + w) = m - 1 := by omega
    have hlo : i - w - w = i - 2 * w := by omega
    refine br_f (nI_pos (by omega)) ⟨pk_in hd 16 (by omega), ?_⟩
    rw [nI_clamp (show hd < 2 ^ 31 by omega), kh.1]
    have hcond : (nI (i - w) - nI w ≤ nI (q hd)) ↔ i - w ≤ q hd + w := by
      rw [Int32.le_iff_toInt_le, pk_sub_toInt (by omega) (by omega), nI_toInt (by omega)]
      omega
    refine ek_if hcond (fun z => ?_) (fun z => nm_r (nI_1 hd) ?_)
    · have hQ' : bf_Q g a4 (i - 2 * w) m hd tl a5 q := bf_stay hQ (by omega) (by omega)
      have hB := (bf_best hQ' (by omega)).2
      refine bf_132 hb (by omega) kh.1 hq16 (by omega) (H hd _ hQ' (bf_R_put hst hR (by omega) (by omega) ?_))
      rw [hmin, hlo]
      exact hB
    · have hQ' : bf_Q g a4 (i - 2 * w) m (hd + 1) tl a5 q := bf_drop hQ hl (by omega) (by omega) (by omega)
      obtain ⟨hl', hB⟩ := bf_best hQ' (by omega)
      have kh' := hQ'.2.2.1 (hd + 1) (by omega) hl'
      refine bf_132 hb (by omega) kh'.1 (by omega) (by omega) (H (hd + 1) _ hQ' (bf_R_put hst hR (by omega) (by omega) ?_))
      rw [hmin, hlo]
      exact hB
theorem bf_59 {post : St2 → Prop} {J : Int32 → Int32 → Int32 → (Nat → Int32) → (Nat → Int32) → (Nat → Int32) → (Nat → Int32) → (Nat → Int32) → (Nat → Int32) → (Nat → Int32) → Prop} {x1 x2 x3 : Int32} {g : Bool} {i lo hd tl : Nat} {q : Nat → Nat} {a1 a2 a3 a4 a5 a6 a7 : Nat → Int32}
    (hi : i < 16) (hQ : bf_Q g a4 lo i hd tl a5 q)
    (H : ∀ t', hd ≤ t' → t' ≤ tl → (∀ t, t' ≤ t → t < tl → bf_K g (a4 (q t)) ≤ bf_K g (a4 i)) → (t' ≤ hd ∨ bf_K g (a4 i) < bf_K g (a4 (q (t' - 1)))) → wX_filterLine_92 post J x1 x2 x3 (bf_G g) (nI hd) (nI t') (nI i) a1 a2 a3 a4 a5 a6 a7) :
    ∃ n, wX_filterLine_59 post J x1 x2 x3 (bf_G g) (nI hd) (nI i) a1 a2 a3 a4 a5 a6 a7 n (nI tl) := by
  have ht : tl ≤ i := hQ.2.1
  refine loop_m (fun n t => wX_filterLine_59 post J x1 x2 x3 (bf_G g) (nI hd) (nI i) a1 a2 a3 a4 a5 a6 a7 n (nI t)) (fun t' => hd ≤ t' ∧ t' ≤ tl ∧ ∀ t, t' ≤ t → t < tl → bf_K g (a4 (q t)) ≤ bf_K g (a4 i)) (fun t => t) ?_ tl ⟨hQ.1, Nat.le_refl _, fun t h1 h2 => absurd h2 (by omega)⟩
  intro n t ⟨h1, h2, h3⟩ ih
  refine pk_le t hd (fun z => H t h1 h2 h3 (Or.inl z)) (fun z => ?_)
  obtain ⟨u, rfl⟩ : ∃ u, t = u + 1 := ⟨t - 1, by omega⟩
  have kh := hQ.2.2.1 u (by omega) (by omega)
  rw [nI_pred, nI_clamp (show u < 2 ^ 31 by omega), kh.1]
  refine ⟨pk_in u 16 (by omega), bf_od hi (by omega) (fun z2 => br_f (by decide) (nm_r (pk_m1 u) (ih u ⟨by omega, by omega, fun t t1 t2 => ?_⟩ (by omega)))) (fun z2 => br_t rfl (H (u + 1) h1 h2 h3 (Or.inr z2)))⟩
  by_cases e : t = u
  · rw [e]; exact z2
  · exact h3 t (by omega) t2
theorem bf_92 {post : St2 → Prop} {J : Int32 → Int32 → Int32 → (Nat → Int32) → (Nat → Int32) → (Nat → Int32) → (Nat → Int32) → (Nat → Int32) → (Nat → Int32) → (Nat → Int32) → Prop} {x1 x2 x3 x4 x5 : Int32} {i t : Nat} {a1 a2 a3 a4 a5 a6 a7 : Nat → Int32}
    (ht : t < 16) (H : wX_filterLine_104 post J x1 x2 x3 x4 x5 (nI (t + 1)) (nI i) a1 a2 a3 a4 (upd a5 t (nI i)) a6 a7) :
    wX_filterLine_92 post J x1 x2 x3 x4 x5 (nI t) (nI i) a1 a2 a3 a4 a5 a6 a7 := by
  unfold wX_filterLine_92
  rw [nI_clamp (show t < 2 ^ 31 by omega)]
  exact ⟨pk_in t 16 ht, nm_e (nm_r (nI_1 t) H)⟩
theorem bf_43 {post : St2 → Prop} {g : Bool} {start step w : Nat} {a1 a2 a3 a4 a5 a6 a7 : Nat → Int32} (hst : 0 < step) (hb : start + 15 * step < 256) (hw : w ≤ 7)
    (H : ∀ b1 b5, bf_R g a4 a1 start step w (16 + w) b1 → post (b1, a2, a3, a4, b5, a6, a7)) :
    ∃ n, wX_filterLine_43 post (nI start) (nI step) (nI w) (bf_G g) n 0 0 0 a1 a2 a3 a4 a5 a6 a7 := by
  refine pk_loop (σ := Nat × Nat × (Nat → Int32) × (Nat → Int32)) (fun n i s => wX_filterLine_43 post (nI start) (nI step) (nI w) (bf_G g) n (nI s.1) (nI s.2.1) (nI i) s.2.2.1 a2 a3 a4 s.2.2.2 a6 a7)
    (fun i s => (∃ q, bf_Q g a4 (i - 1 - 2 * w) (min i 16) s.1 s.2.1 s.2.2.2 q) ∧ bf_R g a4 a1 start step w i s.2.2.1) (16 + w) 0 (0, 0, a1, a5) (by omega) ⟨⟨fun _ => 0, ?_⟩, bf_R_0⟩ ?_ ?_
  · rw [show 0 - 1 - 2 * w = 0 by omega]
    exact bf_Q_0
  · intro n s h
    exact pk_le (16 + w) (16 + w) (fun _ => H _ _ h.2) (fun z => absurd z (by omega)) (nI_add 16 w)
  · rintro n i ⟨hd, tl, b1, b5⟩ hi ⟨⟨q, hQ⟩, hR⟩ hw'
    dsimp only at hQ hR hw' ⊢
    have hn : ∀ hd' tl' b1' b5' q', bf_Q g a4 (i - 2 * w) (min (i + 1) 16) hd' tl' b5' q' → bf_R g a4 a1 start step w (i + 1) b1' → wX_filterLine_43 post (nI start) (nI step) (nI w) (bf_G g) n (nI hd') (nI tl') (nI (i + 1)) b1' a2 a3 a4 b5' a6 a7 := by
      intro hd' tl' b1' b5' q' h1 h2
      exact hw' (hd', tl', b1', b5') ⟨⟨q', by rw [show i + 1 - 1 - 2 * w = i - 2 * w by omega]; exact h1⟩, h2⟩
    refine pk_le (16 + w) i (fun z => absurd z (by omega)) (fun _ => ?_) (nI_add 16 w)
    refine pk_le 16 i (fun z => ?_) (fun z => ?_)
    · refine bf_104 hst hb hw hi rfl ?_ hR (fun hd' b1' h1 h2 => hn hd' tl b1' b5 q h1 h2)
      rw [show min (i + 1) 16 = min i 16 by omega]
      exact hQ
    · have em : min i 16 = i := by omega
      rw [em] at hQ
      have ht : tl ≤ i := hQ.2.1
      refine bf_59 z hQ (fun t' h1 h2 h3 h4 => bf_92 (by omega) (bf_104 (q := fun t => if t = t' then i else q t) hst hb hw hi rfl ?_ hR (fun hd' b1' k1 k2 => hn hd' (t' + 1) b1' _ (fun t => if t = t' then i else q t) k1 k2)))
      rw [show min (i + 1) 16 = i + 1 by omega]
      exact bf_push hQ h1 h2 (by omega) h3 h4
theorem bf_line {post : St2 → Prop} {g : Bool} {start step w : Nat} {a1 a2 a3 a4 a5 a6 a7 : Nat → Int32} (hst : 0 < step) (hb : start + 15 * step < 256) (hw : w ≤ 7)
    (H : ∀ b1 b4 b5, (∀ c, c < 16 → bf_B g (fun j => a1 (start + j * step)) (c - w) (min 15 (c + w)) (b1 (start + c * step))) → (∀ x, (∀ c, c < 16 → x ≠ start + c * step) → b1 x = a1 x) → post (b1, a2, a3, b4, b5, a6, a7)) :
    wpX_filterLine post (a1, a2, a3, a4, a5, a6, a7) (nI start) (nI step) (nI w) (bf_G g) := by
  refine pk_loop (fun n i s => wX_filterLine_3 post (nI start) (nI step) (nI w) (bf_G g) n (nI i) a1 a2 a3 s a5 a6 a7) (fun i s => ∀ j, j < i → s j = a1 (start + j * step)) 16 0 a4 (by omega) (fun j hj => absurd hj (by omega)) ?_ ?_
  · intro n s h
    refine pk_le 16 16 (fun _ => bf_43 hst hb hw (fun b1 b5 hR => H b1 s b5 (fun c hc => ?_) (fun x hx => hR.2 x (fun c h1 h2 => hx c h1)))) (fun z => absurd z (by omega))
    exact bf_B_congr (hR.1 c hc (by omega)) (fun j h1 h2 => h j (by omega))
  · intro n i s hi h hn
    have e : nI start + nI i * nI step = nI (start + i * step) := by rw [pk_mul, nI_add]
    have hm := Nat.mul_le_mul_right step (show i ≤ 15 by omega)
    refine pk_le 16 i (fun z => absurd z (by omega)) (fun _ => ?_)
    rw [e, nI_clamp (show start + i * step < 2 ^ 31 by omega), nI_clamp (show i < 2 ^ 31 by omega)]
    exact ⟨pk_in (start + i * step) 256 (by omega), pk_in i 16 hi, nm_e (nm_r (nI_1 i) (hn _ (bf_fill (f := fun j => a1 (start + j * step)) rfl h rfl)))⟩
end
section
theorem bf_cols {post : St2 → Prop} {g : Bool} {h : Nat} {a1 a2 a3 a4 a5 a6 a7 : Nat → Int32} (hh : h ≤ 7)
    (H : ∀ b1 b4 b5, (∀ r c, r < 16 → c < 16 → bf_B g (fun k => a1 (k * 16 + c)) (r - h) (min 15 (r + h)) (b1 (r * 16 + c))) → post (b1, a2, a3, b4, b5, a6, a7)) :
    ∃ n, wX_filter_31 post (nI h) (bf_G g) n 0 a1 a2 a3 a4 a5 a6 a7 := by
  refine pk_loop (σ := (Nat → Int32) × (Nat → Int32) × (Nat → Int32)) (fun n i s => wX_filter_31 post (nI h) (bf_G g) n (nI i) s.1 a2 a3 s.2.1 s.2.2 a6 a7)
    (fun i s => (∀ r c, r < 16 → c < i → bf_B g (fun k => a1 (k * 16 + c)) (r - h) (min 15 (r + h)) (s.1 (r * 16 + c))) ∧ (∀ r c, r < 16 → i ≤ c → c < 16 → s.1 (r * 16 + c) = a1 (r * 16 + c))) 16 0 (a1, a4, a5) (by omega) ⟨fun r c h1 h2 => absurd h2 (by omega), fun r c h1 h2 h3 => rfl⟩ ?_ ?_
  · intro n s hs
    exact pk_le 16 16 (fun _ => H _ _ _ hs.1) (fun z => absurd z (by omega))
  · rintro n i ⟨b1, b4, b5⟩ hi ⟨h1, h2⟩ hn
    dsimp only at h1 h2 hn ⊢
    refine pk_le 16 i (fun z => absurd z (by omega)) (fun _ => bf_line (start := i) (step := 16) (by omega) (by omega) hh (fun c1 c4 c5 k1 k2 => nm_r (nI_1 i) (hn (c1, c4, c5) ⟨fun r c hr hc => ?_, fun r c hr hc hc' => ?_⟩)))
    · dsimp only
      by_cases e : c = i
      · rw [e, Nat.add_comm (r * 16) i]
        exact bf_B_congr (k1 r hr) (fun j j1 j2 => by
          show b1 (i + j * 16) = a1 (j * 16 + i)
          rw [Nat.add_comm]
          exact h2 j i (by omega) (by omega) hi)
      · rw [k2 (r * 16 + c) (fun c' hc' => by omega)]
        exact h1 r c hr (by omega)
    · dsimp only
      rw [k2 (r * 16 + c) (fun c' hc' => by omega)]
      exact h2 r c hr (by omega) hc'
theorem bf_filter {post : St2 → Prop} {g : Bool} {w h : Nat} {a1 a2 a3 a4 a5 a6 a7 : Nat → Int32} (hw : w ≤ 7) (hh : h ≤ 7)
    (H : ∀ (b1 b4 b5 M : Nat → Int32), (∀ r c, r < 16 → c < 16 → bf_B g (fun j => a1 (r * 16 + j)) (c - w) (min 15 (c + w)) (M (r * 16 + c))) → (∀ r c, r < 16 → c < 16 → bf_B g (fun k => M (k * 16 + c)) (r - h) (min 15 (r + h)) (b1 (r * 16 + c))) → post (b1, a2, a3, b4, b5, a6, a7)) :
    wpX_filter post (a1, a2, a3, a4, a5, a6, a7) (nI w) (nI h) (bf_G g) := by
  refine pk_loop (σ := (Nat → Int32) × (Nat → Int32) × (Nat → Int32)) (fun n i s => wX_filter_3 post (nI w) (nI h) (bf_G g) n (nI i) s.1 a2 a3 s.2.1 s.2.2 a6 a7)
    (fun i s => (∀ r c, r < i → c < 16 → bf_B g (fun j => a1 (r * 16 + j)) (c - w) (min 15 (c + w)) (s.1 (r * 16 + c))) ∧ (∀ x, i * 16 ≤ x → s.1 x = a1 x)) 16 0 (a1, a4, a5) (by omega) ⟨fun r c h1 h2 => absurd h1 (by omega), fun x h1 => rfl⟩ ?_ ?_
  · intro n s hs
    exact pk_le 16 16 (fun _ => bf_cols hh (fun b1 b4 b5 k => H b1 b4 b5 s.1 hs.1 k)) (fun z => absurd z (by omega))
  · rintro n i ⟨b1, b4, b5⟩ hi ⟨h1, h2⟩ hn
    dsimp only at h1 h2 hn ⊢
    refine pk_le 16 i (fun z => absurd z (by omega)) (fun _ => ?_)
    rw [show nI i * 16 = nI (i * 16) from pk_mul i 16]
    refine bf_line (start := i * 16) (step := 1) (by omega) (by omega) hw (fun c1 c4 c5 k1 k2 => nm_r (nI_1 i) (hn (c1, c4, c5) ⟨fun r c hr hc => ?_, fun x hx => ?_⟩))
    · dsimp only
      by_cases e : r = i
      · have := k1 c hc
        rw [Nat.mul_one] at this
        rw [e]
        exact bf_B_congr this (fun j j1 j2 => by
          show b1 (i * 16 + j * 1) = a1 (i * 16 + j)
          rw [Nat.mul_one]
          exact h2 _ (by omega))
      · rw [k2 (r * 16 + c) (fun c' hc' => by omega)]
        exact h1 r c (by omega) hc
    · dsimp only
      rw [k2 x (fun c' hc' => by omega)]
      exact h2 x (by omega)
end
section
/-- how many places below n answer true -/
def bf_cnt (p : Nat → Bool) : Nat → Nat
  | 0 => 0
  | n + 1 => bf_cnt p n + (if p n then 1 else 0)
/-- the sum of the places below n -/
def bf_sum (f : Nat → Int32) : Nat → Int32
  | 0 => 0
  | n + 1 => bf_sum f n + f n
theorem bf_rem {post : St2 → Prop} {a1 a2 a3 a4 a5 a6 a7 : Nat → Int32} (H : ∀ b3, (∀ j, j < 256 → b3 j = a1 j) → post (a1, a2, b3, a4, a5, a6, a7)) :
    wpX_remember post (a1, a2, a3, a4, a5, a6, a7) :=
  pk_loop (fun n i s => wX_remember_2 post n (nI i) a1 a2 s a4 a5 a6 a7) (fun i s => ∀ j, j < i → s j = a1 j) 256 0 a3 (by omega) (fun j hj => absurd hj (by omega))
    (fun n s h => pk_le 256 256 (fun _ => H s h) (fun z => absurd z (by omega)))
    (fun n i s hi h hw => pk_le 256 i (fun z => absurd z (by omega)) (fun _ => ⟨pk_in i 256 hi, pk_in i 256 hi, nm_e (nm_r (nI_1 i) (hw _ (bf_fill (nI_clamp (by omega)) h (by rw [nI_clamp (by omega)]))))⟩))
theorem bf_changed {post : Int32 → Prop} {a1 a2 a3 a4 a5 a6 a7 : Nat → Int32} (H : post (nI (bf_cnt (fun x => decide (a1 x ≠ a3 x)) 256))) :
    wpX_changed post (a1, a2, a3, a4, a5, a6, a7) := by
  refine pk_loop (σ := Unit) (fun n i _ => wX_changed_4 post a1 a2 a3 a4 a5 a6 a7 n (nI (bf_cnt (fun x => decide (a1 x ≠ a3 x)) i)) (nI i)) (fun _ _ => True) 256 0 () (by omega) trivial ?_ ?_
  · intro n _ _
    exact pk_le 256 256 (fun _ => H) (fun z => absurd z (by omega))
  · intro n i _ hi _ hn
    have hn' := hn () trivial
    refine pk_le 256 i (fun z => absurd z (by omega)) (fun _ => ⟨pk_in i 256 hi, pk_in i 256 hi, ?_⟩)
    rw [nI_clamp (show i < 2 ^ 31 by omega)]
    refine br_c (fun z => nm_r (nI_1 i) ?_) (fun z => nm_r (nI_1 _) (nm_r (nI_1 i) ?_))
    · have e : bf_cnt (fun x => decide (a1 x ≠ a3 x)) (i + 1) = bf_cnt (fun x => decide (a1 x ≠ a3 x)) i := by
        simp [bf_cnt, z]
      rw [e] at hn'
      exact hn'
    · have e : bf_cnt (fun x => decide (a1 x ≠ a3 x)) (i + 1) = bf_cnt (fun x => decide (a1 x ≠ a3 x)) i + 1 := by
        simp [bf_cnt, z]
      rw [e] at hn'
      exact hn'
theorem bf_sumW {post : Int32 → Prop} {a1 a2 a3 a4 a5 a6 a7 : Nat → Int32} (H : post (bf_sum a1 256)) : wpX_sum post (a1, a2, a3, a4, a5, a6, a7) := by
  refine pk_loop (σ := Unit) (fun n i _ => wX_sum_4 post a1 a2 a3 a4 a5 a6 a7 n (bf_sum a1 i) (nI i)) (fun _ _ => True) 256 0 () (by omega) trivial ?_ ?_
  · intro n _ _
    exact pk_le 256 256 (fun _ => H) (fun z => absurd z (by omega))
  · intro n i _ hi _ hn
    refine pk_le 256 i (fun z => absurd z (by omega)) (fun _ => ⟨pk_in i 256 hi, ?_⟩)
    rw [nI_clamp (show i < 2 ^ 31 by omega)]
    exact nm_e (nm_r (nI_1 i) (hn () trivial))
theorem bf_badPixel {post : Int32 → Prop} {r c : Nat} (hr : r < 16) (hc : c < 16) (H : post 0) : wpX_badPixel post () (nI r) (nI c) :=
  br_f (nI_pos (by omega)) (br_f (nI_ge (b := 16) hr (by decide)) (br_f (nI_pos (by omega)) (br_t (nI_lt (b := 16) hc (by decide)) H)))
theorem bf_badSize {post : Int32 → Prop} {w h : Nat} (hw : w ≤ 7) (hh : h ≤ 7) (H : post 0) : wpX_badSize post () (nI w) (nI h) :=
  br_f (nI_pos (by omega)) (br_f (nI_nlt (a := 7) (b := w) hw (by decide)) (br_f (nI_pos (by omega)) (br_t (nI_le (b := 7) hh (by decide)) H)))
theorem bf_set {post : Int32 → St2 → Prop} {a1 a2 a3 a4 a5 a6 a7 : Nat → Int32} {r c v : Nat} (hr : r < 16) (hc : c < 16) (hv : v ≤ 255)
    (H : post (a1 (r * 16 + c)) (upd a1 (r * 16 + c) (nI v), a2, a3, a4, a5, a6, a7)) : wpX_set post (a1, a2, a3, a4, a5, a6, a7) (nI r) (nI c) (nI v) := by
  have e : nI r * 16 + nI c = nI (r * 16 + c) := by rw [show nI r * 16 = nI (r * 16) from pk_mul r 16, nI_add]
  unfold wpX_set
  dsimp only
  rw [e, nI_clamp (show r * 16 + c < 2 ^ 31 by omega)]
  exact bf_badPixel hr hc (br_t rfl (br_f (nI_pos (by omega)) (br_t (nI_le (b := 255) hv (by decide)) ⟨pk_in (r * 16 + c) 256 (by omega), nm_e ⟨pk_in (r * 16 + c) 256 (by omega), nm_e H⟩⟩)))
theorem bf_pixel {post : Int32 → Prop} {a1 a2 a3 a4 a5 a6 a7 : Nat → Int32} {r c : Nat} (hr : r < 16) (hc : c < 16) (H : post (a1 (r * 16 + c))) : wpX_pixel post (a1, a2, a3, a4, a5, a6, a7) (nI r) (nI c) := by
  have e : nI r * 16 + nI c = nI (r * 16 + c) := by rw [show nI r * 16 = nI (r * 16) from pk_mul r 16, nI_add]
  unfold wpX_pixel
  dsimp only
  rw [e, nI_clamp (show r * 16 + c < 2 ^ 31 by omega)]
  exact bf_badPixel hr hc (br_t rfl ⟨pk_in (r * 16 + c) 256 (by omega), H⟩)
/-- the pattern's pixel i -/
def bf_pat (x1 x2 : Int32) (i : Nat) : Int32 := (((nI (i / 16) * x1) + (nI (i % 16) * x2)) + (nI (i / 16) * nI (i % 16))) &&& 255
theorem bf_pattern {post : St2 → Prop} {a1 a2 a3 a4 a5 a6 a7 : Nat → Int32} {x1 x2 : Int32} (H : ∀ b1, (∀ j, j < 256 → b1 j = bf_pat x1 x2 j) → post (b1, a2, a3, a4, a5, a6, a7)) :
    wpX_pattern post (a1, a2, a3, a4, a5, a6, a7) x1 x2 := by
  refine pk_loop (fun n i s => wX_pattern_2 post x1 x2 n (nI i) s a2 a3 a4 a5 a6 a7) (fun i s => ∀ j, j < i → s j = bf_pat x1 x2 j) 256 0 a1 (by omega) (fun j hj => absurd hj (by omega)) ?_ ?_
  · intro n s h
    exact pk_le 256 256 (fun _ => H s h) (fun z => absurd z (by omega))
  · intro n i s hi h hn
    refine pk_le 256 i (fun z => absurd z (by omega)) (fun _ => ⟨by decide, nm_r (pk_div (a := i) (d := 16) (by omega) (by omega) (by omega)) ⟨by decide, nm_r (pk_rem (a := i) (d := 16) (by omega) (by omega) (by omega)) ⟨pk_in i 256 hi, nm_e (nm_r (nI_1 i) (hn _ (bf_fill (nI_clamp (by omega)) h rfl)))⟩⟩⟩)
theorem bf_threshold {post : Int32 → St2 → Prop} {a1 a2 a3 a4 a5 a6 a7 : Nat → Int32} {x1 : Int32} (h1 : ∀ j, j < 256 → a1 j < x1) (H : ∀ b1, post 0 (b1, a2, a3, a4, a5, a6, a7)) :
    wpX_threshold post (a1, a2, a3, a4, a5, a6, a7) x1 := by
  refine pk_loop (fun n i s => wX_threshold_4 post x1 n 0 (nI i) s a2 a3 a4 a5 a6 a7) (fun i s => ∀ j, i ≤ j → j < 256 → s j = a1 j) 256 0 a1 (by omega) (fun j _ _ => rfl) ?_ ?_
  · intro n s h
    exact pk_le 256 256 (fun _ => H s) (fun z => absurd z (by omega))
  · intro n i s hi h hn
    have hs : s (nI i).toNatClampNeg < x1 := by
      rw [nI_clamp (show i < 2 ^ 31 by omega), h i (by omega) hi]
      exact h1 i hi
    refine pk_le 256 i (fun z => absurd z (by omega)) (fun _ => ⟨pk_in i 256 hi, br_t hs (br_t rfl ⟨pk_in i 256 hi, nm_e (br_t rfl (nm_r (nI_1 i) (hn _ ?_)))⟩)⟩)
    intro j j1 j2
    rw [nI_clamp (show i < 2 ^ 31 by omega), pk_un (by omega)]
    exact h j (by omega) j2
end
section
theorem bf_find {post : Int32 → Prop} {a1 a2 a3 a4 a5 a6 a7 : Nat → Int32} {x : Nat} (hx : x < 256) (h7 : a7 x = nI x) (H : post (nI x)) : wpX_find post (a1, a2, a3, a4, a5, a6, a7) (nI x) := by
  refine ⟨1, pk_in x 256 hx, br_t ?_ H⟩
  rw [nI_clamp (show x < 2 ^ 31 by omega), h7]
  exact nI_le (Nat.le_refl x) (by omega)
theorem bf_join {post : Int32 → St2 → Prop} {a1 a2 a3 a4 a5 a6 a7 : Nat → Int32} {x : Nat} (hx : x + 1 < 256) (h7 : a7 x = nI x) (h7' : a7 (x + 1) = nI (x + 1)) (H : ∀ b7, post 1 (a1, a2, a3, a4, a5, a6, b7)) :
    wpX_join post (a1, a2, a3, a4, a5, a6, a7) (nI (x + 1)) (nI x) := by
  refine bf_find hx h7' (bf_find (by omega) h7 ?_)
  exact pk_eq (x + 1) x (fun z => absurd z (by omega)) (fun _ => pk_le x (x + 1) (fun _ => ⟨pk_in (x + 1) 256 hx, nm_e (H _)⟩) (fun z => absurd z (by omega)))
theorem bf_62 {post : Int32 → St2 → Prop} {J : Int32 → Int32 → (Nat → Int32) → (Nat → Int32) → (Nat → Int32) → (Nat → Int32) → (Nat → Int32) → (Nat → Int32) → (Nat → Int32) → Prop} {x1 : Int32} {i : Nat} {a1 a2 a3 a4 a5 a6 a7 : Nat → Int32}
    (hi : i < 256) (h : 16 ≤ i → a1 (i - 16) ≤ 0) (H : J x1 (nI (i + 1)) a1 a2 a3 a4 a5 a6 a7) : wX_patches_62 post J x1 (nI i) a1 a2 a3 a4 a5 a6 a7 := by
  unfold wX_patches_62
  refine pk_lt i 16 (fun _ => nm_r (nI_1 i) H) (fun z => ?_)
  rw [show nI i - 16 = nI (i - 16) from pk_sub (a := i) (b := 16) z, nI_clamp (show i - 16 < 2 ^ 31 by omega)]
  exact ⟨pk_in (i - 16) 256 (by omega), br_t (h z) (nm_r (nI_1 i) H)⟩
theorem bf_patches {post : Int32 → St2 → Prop} {a1 a2 a3 a4 a5 a6 a7 : Nat → Int32} {p : Nat} (hp : p + 1 < 256) (hm : p % 16 < 15) (h0 : ¬ a1 p ≤ 0) (h1 : ¬ a1 (p + 1) ≤ 0) (hz : ∀ x, x < 256 → x ≠ p → x ≠ p + 1 → a1 x ≤ 0)
    (H : ∀ b7, post 1 (a1, a2, a3, a4, a5, a6, b7)) : wpX_patches post (a1, a2, a3, a4, a5, a6, a7) := by
  have L : ∃ n, (fun n i s => wX_patches_4 post n (nI (if i ≤ p then 0 else 1)) (nI i) a1 a2 a3 a4 a5 a6 s) n 0 a7 := by
    refine pk_loop (fun n i s => wX_patches_4 post n (nI (if i ≤ p then 0 else 1)) (nI i) a1 a2 a3 a4 a5 a6 s) (fun i s => i = p + 1 → s p = nI p) 256 0 a7 (by omega) (fun z => absurd z (by omega)) ?_ ?_
    · intro n s h
      rw [if_neg (show ¬ 256 ≤ p by omega)]
      exact pk_le 256 256 (fun _ => H s) (fun z => absurd z (by omega))
    · intro n i s hi h hn
      refine pk_le 256 i (fun z => absurd z (by omega)) (fun _ => ⟨pk_in i 256 hi, nm_e ⟨pk_in i 256 hi, ?_⟩⟩)
      rw [nI_clamp (show i < 2 ^ 31 by omega)]
      rcases Nat.lt_trichotomy i p with z | z | z
      · rw [if_pos (show i ≤ p by omega)]
        rw [if_pos (show i + 1 ≤ p by omega)] at hn
        exact br_t (hz i hi (by omega) (by omega)) (nm_r (nI_1 i) (hn _ (fun z => absurd z (by omega))))
      · subst z
        rw [if_pos (show i ≤ i by omega)]
        rw [if_neg (show ¬ i + 1 ≤ i by omega)] at hn
        refine br_f h0 (nm_r (nI_1 0) ⟨by decide, ?_⟩)
        rw [show nI i - nI i / 16 * 16 = nI (i % 16) from pk_rem (a := i) (d := 16) (by omega) (by omega) (by omega)]
        have last : wX_patches_62 post (wX_patches_4 post n) (nI 1) (nI i) a1 a2 a3 a4 a5 a6 (upd s i (nI i)) := bf_62 hi (fun w => hz (i - 16) (by omega) (by omega) (by omega)) (hn _ (fun _ => pk_us))
        refine pk_le (i % 16) 0 (fun _ => last) (fun w => ?_)
        rw [show nI i - 1 = nI (i - 1) from pk_sub (a := i) (b := 1) (by omega), nI_clamp (show i - 1 < 2 ^ 31 by omega)]
        exact ⟨pk_in (i - 1) 256 (by omega), br_t (hz (i - 1) (by omega) (by omega) (by omega)) last⟩
      · rw [if_neg (show ¬ i ≤ p by omega)]
        rw [if_neg (show ¬ i + 1 ≤ p by omega)] at hn
        by_cases e : i = p + 1
        · subst e
          have h7 := h rfl
          refine br_f h1 (nm_r (nI_1 1) ⟨by decide, ?_⟩)
          rw [show nI (p + 1) - nI (p + 1) / 16 * 16 = nI ((p + 1) % 16) from pk_rem (a := p + 1) (d := 16) (by omega) (by omega) (by omega)]
          refine pk_le ((p + 1) % 16) 0 (fun w => absurd w (by omega)) (fun w => ?_)
          rw [nI_pred, nI_clamp (show p < 2 ^ 31 by omega)]
          refine ⟨pk_in p 256 (by omega), br_f h0 (bf_join (by omega) (by rw [pk_un (by omega)]; exact h7) pk_us (fun b7 => br_f (by decide) (nm_r (pk_m1 1) ?_)))⟩
          exact bf_62 hi (fun w => hz (p + 1 - 16) (by omega) (by omega) (by omega)) (hn _ (fun z => absurd z (by omega)))
        · exact br_t (hz i hi (by omega) e) (nm_r (nI_1 i) (hn _ (fun z => absurd z (by omega))))
  obtain ⟨n, hn⟩ := L
  rw [if_pos (show 0 ≤ p by omega)] at hn
  exact ⟨n, hn⟩
end
section
/-- a raster that holds p, q in the columns c, c+1 of the rows lo .. hi, 0 elsewhere -/
def bf_A (lo hi c : Nat) (p q : Int32) (i j : Nat) : Int32 := if lo ≤ i ∧ i ≤ hi then (if j = c then p else if j = c + 1 then q else 0) else 0
def bf_P (lo hi c : Nat) (p q : Int32) (a : Nat → Int32) : Prop := ∀ i j, i < 16 → j < 16 → a (i * 16 + j) = bf_A lo hi c p q i j
theorem bf_A_nn {lo hi c i j : Nat} {p q : Int32} (hp : 0 ≤ p.toInt) (hq : 0 ≤ q.toInt) : 0 ≤ (bf_A lo hi c p q i j).toInt := by
  unfold bf_A
  have z : (0 : Int32).toInt = 0 := rfl
  split
  · split
    · exact hp
    · split
      · exact hq
      · rw [z]; omega
  · rw [z]; omega
theorem bf_A_0 {lo hi c i j : Nat} {p q : Int32} (h : j ≠ c) (h' : j ≠ c + 1) : bf_A lo hi c p q i j = 0 := by
  unfold bf_A
  rw [if_neg h, if_neg h']
  split <;> rfl
theorem bf_B_const {g : Bool} {f : Nat → Int32} {lo hi : Nat} {v x : Int32} (h : bf_B g f lo hi v) (e : ∀ j, lo ≤ j → j ≤ hi → f j = x) : v = x := by
  obtain ⟨⟨j, h1, h2, ev⟩, _⟩ := h
  rw [ev, e j h1 h2]
/-- a row closed by half 1 is itself -/
theorem bf_close {f D E : Nat → Int32} {c : Nat} (hc : 2 ≤ c) (hc' : c ≤ 12) (h0 : ∀ j, j < 16 → 0 ≤ (f j).toInt) (hz : ∀ j, j < 16 → j ≠ c → j ≠ c + 1 → f j = 0)
    (hD : ∀ j, j < 16 → bf_B true f (j - 1) (min 15 (j + 1)) (D j)) (hE : ∀ j, j < 16 → bf_B false D (j - 1) (min 15 (j + 1)) (E j)) : ∀ j, j < 16 → E j = f j := by
  intro j hj
  have z : (0 : Int32).toInt = 0 := rfl
  have up : (f j).toInt ≤ (E j).toInt := by
    obtain ⟨⟨j', h1, h2, e⟩, _⟩ := hE j hj
    have := (hD j' (by omega)).2 j (by omega) (by omega)
    rw [bf_K_t, bf_K_t] at this
    rw [e]
    exact this
  have dn : ∃ j', j' < 16 ∧ j - 1 ≤ j' ∧ j' ≤ j + 1 ∧ ∀ i, j' - 1 ≤ i → i ≤ min 15 (j' + 1) → i = j ∨ (i ≠ c ∧ i ≠ c + 1) := by
    by_cases h : j ≤ c
    · exact ⟨j - 1, by omega, by omega, by omega, fun i i1 i2 => by omega⟩
    · exact ⟨min 15 (j + 1), by omega, by omega, by omega, fun i i1 i2 => by omega⟩
  obtain ⟨j', a1, a2, a3, a4⟩ := dn
  have b := (hE j hj).2 j' a2 (by omega)
  rw [bf_K_f, bf_K_f] at b
  obtain ⟨⟨i, i1, i2, e⟩, _⟩ := hD j' a1
  have d : (D j').toInt ≤ (f j).toInt := by
    rw [e]
    rcases a4 i i1 i2 with k | k
    · rw [k]; omega
    · rw [hz i (by omega) k.1 k.2, z]
      exact h0 j hj
  exact Int32.toInt_inj.mp (by omega)
/-- a row eroded by half 1 is 0 -/
theorem bf_erode {f D : Nat → Int32} {c : Nat} (hc : 2 ≤ c) (hc' : c ≤ 12) (h0 : ∀ j, j < 16 → 0 ≤ (f j).toInt) (hz : ∀ j, j < 16 → j ≠ c → j ≠ c + 1 → f j = 0)
    (hD : ∀ j, j < 16 → bf_B false f (j - 1) (min 15 (j + 1)) (D j)) : ∀ j, j < 16 → D j = 0 := by
  intro j hj
  have z : (0 : Int32).toInt = 0 := rfl
  have dn : ∃ j', j' < 16 ∧ j - 1 ≤ j' ∧ j' ≤ j + 1 ∧ j' ≠ c ∧ j' ≠ c + 1 := by
    by_cases h : j ≤ c
    · exact ⟨j - 1, by omega, by omega, by omega, by omega, by omega⟩
    · exact ⟨min 15 (j + 1), by omega, by omega, by omega, by omega, by omega⟩
  obtain ⟨j', a1, a2, a3, a4, a5⟩ := dn
  have b := (hD j hj).2 j' a2 (by omega)
  rw [bf_K_f, bf_K_f, hz j' a1 a4 a5, z] at b
  obtain ⟨⟨i, _, i2, e⟩, _⟩ := hD j hj
  have d := h0 i (by omega)
  rw [← e] at d
  exact Int32.toInt_inj.mp (by rw [z]; omega)
/-- a column dilated -/
theorem bf_dil {f D : Nat → Int32} {r k : Nat} {v : Int32} (hr : r < 16) (hv : 0 ≤ v.toInt) (hf : ∀ i, i < 16 → f i = if i = r then v else 0) {i : Nat} (hi : i < 16) (hD : bf_B true f (i - k) (min 15 (i + k)) (D i)) :
    D i = if r - k ≤ i ∧ i ≤ min 15 (r + k) then v else 0 := by
  have z : (0 : Int32).toInt = 0 := rfl
  by_cases h : r - k ≤ i ∧ i ≤ min 15 (r + k)
  · rw [if_pos h]
    refine bf_B_eq hD ⟨⟨r, by omega, by omega, by rw [hf r hr, if_pos rfl]⟩, fun j h1 h2 => ?_⟩
    rw [hf j (by omega), bf_K_t, bf_K_t]
    split
    · omega
    · rw [z]; exact hv
  · rw [if_neg h]
    exact bf_B_const hD (fun j h1 h2 => by rw [hf j (by omega), if_neg (by omega)])
/-! counting -/
theorem bf_cnt_add (p : Nat → Bool) (n : Nat) : ∀ m, bf_cnt p (n + m) = bf_cnt p n + bf_cnt (fun j => p (n + j)) m
  | 0 => rfl
  | m + 1 => by
    show bf_cnt p (n + m) + _ = bf_cnt p n + (bf_cnt (fun j => p (n + j)) m + _)
    rw [bf_cnt_add p n m, Nat.add_assoc]
    rfl
theorem bf_cnt_congr {p p' : Nat → Bool} : ∀ n, (∀ x, x < n → p x = p' x) → bf_cnt p n = bf_cnt p' n
  | 0, _ => rfl
  | n + 1, h => by
    show bf_cnt p n + _ = bf_cnt p' n + _
    rw [bf_cnt_congr n (fun x hx => h x (by omega)), h n (by omega)]
theorem bf_cnt_f : ∀ n, bf_cnt (fun _ => false) n = 0
  | 0 => rfl
  | n + 1 => by
    show bf_cnt (fun _ => false) n + 0 = 0
    rw [bf_cnt_f n]
theorem bf_cnt_two : ∀ c, c < 15 → bf_cnt (fun j => decide (j = c ∨ j = c + 1)) 16 = 2 := by decide +kernel
/-- two pixels in each row that s names -/
theorem bf_cnt_rows {p s : Nat → Bool} {c : Nat} (hc : c < 15) : ∀ n, (∀ i j, i < n → j < 16 → p (i * 16 + j) = (s i && decide (j = c ∨ j = c + 1))) → bf_cnt p (n * 16) = 2 * bf_cnt s n
  | 0, _ => rfl
  | n + 1, h => by
    rw [Nat.succ_mul, bf_cnt_add, bf_cnt_rows hc n (fun i j hi hj => h i j (by omega) hj), bf_cnt_congr (p := fun j => p (n * 16 + j)) (p' := fun j => s n && decide (j = c ∨ j = c + 1)) 16 (fun x hx => h n x (by omega) hx)]
    show _ = 2 * (bf_cnt s n + _)
    cases hs : s n
    · simp only [Bool.false_and, bf_cnt_f]
      simp
    · simp only [Bool.true_and, bf_cnt_two c hc]
      simp
      omega
theorem bf_cnt_band : ∀ r, r < 16 → ∀ k, k < 8 → bf_cnt (fun i => decide (r - k ≤ i ∧ i ≤ min 15 (r + k))) 16 = min 15 (r + k) - (r - k) + 1 ∧ bf_cnt (fun i => decide ((r - k ≤ i ∧ i ≤ min 15 (r + k)) ∧ i ≠ r)) 16 = min 15 (r + k) - (r - k) := by decide +kernel
/-! summing -/
theorem bf_sum_add (f : Nat → Int32) (n : Nat) : ∀ m, bf_sum f (n + m) = bf_sum f n + bf_sum (fun j => f (n + j)) m
  | 0 => by
    show bf_sum f n = bf_sum f n + 0
    rw [Int32.add_zero]
  | m + 1 => by
    show bf_sum f (n + m) + _ = bf_sum f n + (bf_sum (fun j => f (n + j)) m + _)
    rw [bf_sum_add f n m, Int32.add_assoc]
    rfl
theorem bf_sum_congr {f f' : Nat → Int32} : ∀ n, (∀ x, x < n → f x = f' x) → bf_sum f n = bf_sum f' n
  | 0, _ => rfl
  | n + 1, h => by
    show bf_sum f n + _ = bf_sum f' n + _
    rw [bf_sum_congr n (fun x hx => h x (by omega)), h n (by omega)]
theorem bf_sum_0 : ∀ n, bf_sum (fun _ => 0) n = 0
  | 0 => rfl
  | n + 1 => by
    show bf_sum (fun _ => 0) n + 0 = 0
    rw [bf_sum_0 n]
    rfl
theorem bf_sum_two (c : Nat) (p q : Int32) : ∀ n, bf_sum (fun j => if j = c then p else if j = c + 1 then q else 0) n = if n ≤ c then 0 else if n = c + 1 then p else p + q
  | 0 => by
    rw [if_pos (Nat.zero_le c)]
    rfl
  | n + 1 => by
    show bf_sum (fun j => if j = c then p else if j = c + 1 then q else 0) n + (if n = c then p else if n = c + 1 then q else 0) = _
    rw [bf_sum_two c p q n]
    rcases Nat.lt_trichotomy n c with h | h | h
    · rw [if_pos (show n ≤ c by omega), if_neg (show ¬ n = c by omega), if_neg (show ¬ n = c + 1 by omega), if_pos (show n + 1 ≤ c by omega)]
      rfl
    · rw [if_pos (show n ≤ c by omega), if_pos h, if_neg (show ¬ n + 1 ≤ c by omega), if_pos (show n + 1 = c + 1 by omega), Int32.zero_add]
    · rw [if_neg (show ¬ n ≤ c by omega), if_neg (show ¬ n = c by omega), if_neg (show ¬ n + 1 ≤ c by omega), if_neg (show ¬ n + 1 = c + 1 by omega)]
      by_cases e : n = c + 1
      · rw [if_pos e, if_pos e]
      · rw [if_neg e, if_neg e, Int32.add_zero]
theorem bf_sum_rows {a : Nat → Int32} {lo hi c : Nat} {p q : Int32} (hc : c < 15) : ∀ n, (∀ i j, i < n → j < 16 → a (i * 16 + j) = bf_A lo hi c p q i j) → bf_sum a (n * 16) = (p + q) * nI (bf_cnt (fun i => decide (lo ≤ i ∧ i ≤ hi)) n)
  | 0, _ => by
    show (0 : Int32) = (p + q) * 0
    rw [Int32.mul_zero]
  | n + 1, h => by
    rw [Nat.succ_mul, bf_sum_add, bf_sum_rows hc n (fun i j hi hj => h i j (by omega) hj), bf_sum_congr (f := fun j => a (n * 16 + j)) (f' := fun j => bf_A lo hi c p q n j) 16 (fun x hx => h n x (by omega) hx)]
    by_cases e : lo ≤ n ∧ n ≤ hi
    · have e1 : bf_sum (fun j => bf_A lo hi c p q n j) 16 = p + q := by
        have := bf_sum_two c p q 16
        rw [if_neg (show ¬ 16 ≤ c by omega), if_neg (show ¬ 16 = c + 1 by omega)] at this
        rw [← this]
        exact bf_sum_congr 16 (fun x hx => if_pos e)
      have e2 : bf_cnt (fun i => decide (lo ≤ i ∧ i ≤ hi)) (n + 1) = bf_cnt (fun i => decide (lo ≤ i ∧ i ≤ hi)) n + 1 := by
        simp [bf_cnt, e]
      rw [e1, e2, nI_succ, Int32.mul_add, Int32.mul_one]
    · have e1 : bf_sum (fun j => bf_A lo hi c p q n j) 16 = 0 := by
        rw [← bf_sum_0 16]
        exact bf_sum_congr 16 (fun x hx => if_neg e)
      have e2 : bf_cnt (fun i => decide (lo ≤ i ∧ i ≤ hi)) (n + 1) = bf_cnt (fun i => decide (lo ≤ i ∧ i ≤ hi)) n := by
        show bf_cnt _ n + (if decide (lo ≤ n ∧ n ≤ hi) = true then 1 else 0) = _
        rw [if_neg (by simpa using e)]
        rfl
      rw [e1, e2, Int32.add_zero]
end
section
theorem bf_P_at {lo hi c : Nat} {p q : Int32} {a : Nat → Int32} (h : bf_P lo hi c p q a) {x : Nat} (hx : x < 256) : a x = bf_A lo hi c p q (x / 16) (x % 16) := by
  have := h (x / 16) (x % 16) (by omega) (by omega)
  rw [show x / 16 * 16 + x % 16 = x by omega] at this
  exact this
theorem bf_close10 {post : Int32 → St2 → Prop} {a1 a2 a3 a4 a5 a6 a7 : Nat → Int32} {lo hi c : Nat} {p q : Int32} (hP : bf_P lo hi c p q a1) (hp : 0 ≤ p.toInt) (hq : 0 ≤ q.toInt) (hc : 2 ≤ c) (hc' : c ≤ 12)
    (H : ∀ b1 b3 b4 b5, bf_P lo hi c p q b1 → post 0 (b1, a2, b3, b4, b5, a6, a7)) : wpX_close post (a1, a2, a3, a4, a5, a6, a7) 1 0 := by
  unfold wpX_close
  refine bf_badSize (w := 1) (h := 0) (by omega) (by omega) ?_
  refine br_t rfl (bf_rem (fun b3 h3 => ?_))
  refine bf_filter (g := true) (w := 1) (h := 0) (by omega) (by omega) (fun b1 b4 b5 M k1 k2 => ?_)
  refine bf_filter (g := false) (w := 1) (h := 0) (by omega) (by omega) (fun d1 d4 d5 N k3 k4 => ?_)
  have e1 : ∀ i j, i < 16 → j < 16 → b1 (i * 16 + j) = M (i * 16 + j) := by
    intro i j hi hj
    have h := bf_B_one (k2 i j hi hj) (by omega)
    exact h
  have e2 : ∀ i j, i < 16 → j < 16 → d1 (i * 16 + j) = N (i * 16 + j) := by
    intro i j hi hj
    have h := bf_B_one (k4 i j hi hj) (by omega)
    exact h
  have hd : bf_P lo hi c p q d1 := by
    intro i j hi hj
    rw [e2 i j hi hj, ← hP i j hi hj]
    refine bf_close (f := fun j => a1 (i * 16 + j)) (D := fun j => M (i * 16 + j)) (E := fun j => N (i * 16 + j)) hc hc' (fun j hj => ?_) (fun j hj n1 n2 => ?_) (fun j hj => k1 i j hi hj) (fun j hj => ?_) j hj
    · rw [hP i j hi hj]
      exact bf_A_nn hp hq
    · rw [hP i j hi hj]
      exact bf_A_0 n1 n2
    · exact bf_B_congr (k3 i j hi hj) (fun t t1 t2 => e1 i t hi (by omega))
  refine bf_changed ?_
  have e : bf_cnt (fun x => decide (d1 x ≠ b3 x)) 256 = 0 := by
    rw [bf_cnt_congr (p' := fun _ => false) 256 (fun x hx => ?_), bf_cnt_f]
    rw [h3 x hx, bf_P_at hd hx, bf_P_at hP hx]
    simp
  rw [e]
  exact H d1 b3 d4 d5 hd
theorem bf_dilate {post : Int32 → St2 → Prop} {a1 a2 a3 a4 a5 a6 a7 : Nat → Int32} {r k c : Nat} {p q : Int32} (hP : bf_P r r c p q a1) (hp : 0 < p.toInt) (hq : 0 < q.toInt) (hr : r < 16) (hk : k ≤ 7) (hc' : c ≤ 12)
    (H : ∀ b1 b3 b4 b5, bf_P (r - k) (min 15 (r + k)) c p q b1 → post (nI (2 * (min 15 (r + k) - (r - k)))) (b1, a2, b3, b4, b5, a6, a7)) : wpX_dilate post (a1, a2, a3, a4, a5, a6, a7) 0 (nI k) := by
  unfold wpX_dilate
  refine bf_badSize (w := 0) (h := k) (by omega) hk ?_
  refine br_t rfl (bf_rem (fun b3 h3 => ?_))
  refine bf_filter (g := true) (w := 0) (h := k) (by omega) hk (fun b1 b4 b5 M k1 k2 => ?_)
  have z : (0 : Int32).toInt = 0 := rfl
  have e1 : ∀ i j, i < 16 → j < 16 → M (i * 16 + j) = a1 (i * 16 + j) := by
    intro i j hi hj
    have h := bf_B_one (k1 i j hi hj) (by omega)
    exact h
  have hd : bf_P (r - k) (min 15 (r + k)) c p q b1 := by
    intro i j hi hj
    refine bf_dil (f := fun i => M (i * 16 + j)) (D := fun i => b1 (i * 16 + j)) (r := r) (k := k) (v := if j = c then p else if j = c + 1 then q else 0) hr ?_ (fun i hi => ?_) hi (k2 i j hi hj)
    · split
      · omega
      · split
        · omega
        · rw [z]; omega
    · rw [e1 i j hi hj, hP i j hi hj]
      unfold bf_A
      by_cases e : i = r
      · rw [if_pos e, if_pos (by omega)]
      · rw [if_neg e, if_neg (by omega)]
  refine bf_changed ?_
  have e : bf_cnt (fun x => decide (b1 x ≠ b3 x)) 256 = 2 * (min 15 (r + k) - (r - k)) := by
    rw [← (bf_cnt_band r hr k (by omega)).2]
    refine bf_cnt_rows (c := c) (by omega) 16 (fun i j hi hj => ?_)
    rw [h3 _ (by omega), hd i j hi hj, hP i j hi hj]
    have np : p ≠ 0 := fun e => by rw [e, z] at hp; omega
    have nq : q ≠ 0 := fun e => by rw [e, z] at hq; omega
    rw [← Bool.decide_and]
    refine decide_eq_decide.mpr ?_
    unfold bf_A
    by_cases e : i = r
    · rw [if_pos (show r - k ≤ i ∧ i ≤ min 15 (r + k) by omega), if_pos (show r ≤ i ∧ i ≤ r by omega)]
      exact ⟨fun h => absurd rfl h, fun h => absurd e h.1.2⟩
    · rw [if_neg (show ¬ (r ≤ i ∧ i ≤ r) by omega)]
      by_cases e2 : r - k ≤ i ∧ i ≤ min 15 (r + k)
      · rw [if_pos e2]
        by_cases j1 : j = c
        · rw [if_pos j1]
          exact ⟨fun _ => ⟨⟨e2, e⟩, Or.inl j1⟩, fun _ => np⟩
        · rw [if_neg j1]
          by_cases j2 : j = c + 1
          · rw [if_pos j2]
            exact ⟨fun _ => ⟨⟨e2, e⟩, Or.inr j2⟩, fun _ => nq⟩
          · rw [if_neg j2]
            exact ⟨fun h => absurd rfl h, fun h => absurd h.2 (by omega)⟩
      · rw [if_neg e2]
        exact ⟨fun h => absurd rfl h, fun h => absurd h.1.1 e2⟩
  rw [e]
  exact H b1 b3 b4 b5 hd
theorem bf_open10 {post : Int32 → St2 → Prop} {a1 a2 a3 a4 a5 a6 a7 : Nat → Int32} {lo hi c : Nat} {p q : Int32} (hP : bf_P lo hi c p q a1) (hp : 0 < p.toInt) (hq : 0 < q.toInt) (hc : 2 ≤ c) (hc' : c ≤ 12)
    (H : ∀ b1 b3 b4 b5, post (nI (2 * bf_cnt (fun i => decide (lo ≤ i ∧ i ≤ hi)) 16)) (b1, a2, b3, b4, b5, a6, a7)) : wpX_open post (a1, a2, a3, a4, a5, a6, a7) 1 0 := by
  unfold wpX_open
  refine bf_badSize (w := 1) (h := 0) (by omega) (by omega) ?_
  refine br_t rfl (bf_rem (fun b3 h3 => ?_))
  refine bf_filter (g := false) (w := 1) (h := 0) (by omega) (by omega) (fun b1 b4 b5 M k1 k2 => ?_)
  refine bf_filter (g := true) (w := 1) (h := 0) (by omega) (by omega) (fun d1 d4 d5 N k3 k4 => ?_)
  have z : (0 : Int32).toInt = 0 := rfl
  have e0 : ∀ i j, i < 16 → j < 16 → M (i * 16 + j) = 0 := by
    intro i j hi hj
    refine bf_erode (f := fun j => a1 (i * 16 + j)) (D := fun j => M (i * 16 + j)) hc hc' (fun j hj => ?_) (fun j hj n1 n2 => ?_) (fun j hj => k1 i j hi hj) j hj
    · rw [hP i j hi hj]
      exact bf_A_nn (by omega) (by omega)
    · rw [hP i j hi hj]
      exact bf_A_0 n1 n2
  have e1 : ∀ i j, i < 16 → j < 16 → b1 (i * 16 + j) = 0 := by
    intro i j hi hj
    have h := bf_B_one (k2 i j hi hj) (by omega)
    exact h.trans (e0 i j hi hj)
  have e2 : ∀ i j, i < 16 → j < 16 → N (i * 16 + j) = 0 := fun i j hi hj => bf_B_const (k3 i j hi hj) (fun t t1 t2 => e1 i t hi (by omega))
  have e3 : ∀ i j, i < 16 → j < 16 → d1 (i * 16 + j) = 0 := by
    intro i j hi hj
    have h := bf_B_one (k4 i j hi hj) (by omega)
    exact h.trans (e2 i j hi hj)
  refine bf_changed ?_
  have e : bf_cnt (fun x => decide (d1 x ≠ b3 x)) 256 = 2 * bf_cnt (fun i => decide (lo ≤ i ∧ i ≤ hi)) 16 := by
    refine bf_cnt_rows (c := c) (by omega) 16 (fun i j hi hj => ?_)
    rw [h3 _ (by omega), e3 i j hi hj, hP i j hi hj]
    have np : (0 : Int32) ≠ p := fun e => by rw [← e, z] at hp; omega
    have nq : (0 : Int32) ≠ q := fun e => by rw [← e, z] at hq; omega
    rw [← Bool.decide_and]
    refine decide_eq_decide.mpr ?_
    unfold bf_A
    split
    · rename_i e2
      by_cases j1 : j = c
      · rw [if_pos j1]
        exact ⟨fun _ => ⟨e2, Or.inl j1⟩, fun _ => np⟩
      · rw [if_neg j1]
        by_cases j2 : j = c + 1
        · rw [if_pos j2]
          exact ⟨fun _ => ⟨e2, Or.inr j2⟩, fun _ => nq⟩
        · rw [if_neg j2]
          exact ⟨fun h => absurd rfl h, fun h => absurd h.2 (by omega)⟩
    · rename_i e2
      exact ⟨fun h => absurd rfl h, fun h => absurd h.1 e2⟩
  rw [e]
  exact H d1 b3 d4 d5
end
section
theorem bf_100 {post : Int32 → St0 → Prop} {mc ms kc ks r c p q k : Nat} {x1 x4 : Int32} {a1 a2 a3 a4 a5 a6 a7 : Nat → Int32} (hr : r < 16) (hc : 2 ≤ c) (hc' : c ≤ 12) (hp : 1 ≤ p) (hp' : p ≤ 255) (hq : 1 ≤ q) (hq' : q ≤ 255) (hk : k ≤ 7)
    (ha : ∀ x, a1 x = 0) (H : post 1 ()) : wL_lawOf_100 post mc ms x1 x4 (nI r) (nI c) (nI p) (nI q) (nI k) (nI (r - k)) (nI (min 15 (r + k))) kc ks a1 a2 a3 a4 a5 a6 a7 := by
  have tp : (nI p).toInt = (p : Int) := nI_toInt (by omega)
  have tq : (nI q).toInt = (q : Int) := nI_toInt (by omega)
  have z : (0 : Int32).toInt = 0 := rfl
  have eh : nI (min 15 (r + k)) - nI (r - k) + 1 = nI (min 15 (r + k) - (r - k) + 1) := by rw [pk_sub (by omega), nI_1]
  unfold wL_lawOf_100
  refine nm_r eh ?_
  rw [nI_1 c]
  refine bf_set hr (by omega) hp' ?_
  refine bf_set hr (by omega) hq' ?_
  refine br_t (by rw [pk_un (by omega)]; exact ha _) ?_
  have hP : bf_P r r c (nI p) (nI q) (upd (upd a1 (r * 16 + c) (nI p)) (r * 16 + (c + 1)) (nI q)) := by
    intro i j hi hj
    unfold bf_A
    by_cases e : r ≤ i ∧ i ≤ r
    · have e' : i = r := by omega
      rw [if_pos e, e']
      by_cases j1 : j = c
      · rw [if_pos j1, j1, pk_un (by omega), pk_us]
      · rw [if_neg j1]
        by_cases j2 : j = c + 1
        · rw [if_pos j2, j2, pk_us]
        · rw [if_neg j2, pk_un (by omega), pk_un (by omega)]
          exact ha _
    · rw [if_neg e, pk_un (by omega), pk_un (by omega)]
      exact ha _
  refine bf_close10 hP (by omega) (by omega) hc hc' (fun b1 b3 b4 b5 hB => ?_)
  refine br_t rfl ?_
  have at0 : b1 (r * 16 + c) = nI p := by
    rw [hB r c hr (by omega)]
    unfold bf_A
    rw [if_pos (by omega), if_pos rfl]
  have at1 : b1 (r * 16 + c + 1) = nI q := by
    rw [Nat.add_assoc, hB r (c + 1) hr (by omega)]
    unfold bf_A
    rw [if_pos (by omega), if_neg (by omega), if_pos rfl]
  refine bf_patches (p := r * 16 + c) (by omega) (by omega) (by rw [at0]; exact nI_nle (by omega) (by omega)) (by rw [at1]; exact nI_nle (by omega) (by omega)) (fun x hx n1 n2 => ?_) (fun b7 => ?_)
  · have e0 : b1 x = 0 := by
      rw [bf_P_at hB hx]
      unfold bf_A
      by_cases e : r ≤ x / 16 ∧ x / 16 ≤ r
      · rw [if_pos e, if_neg (by omega), if_neg (by omega)]
      · rw [if_neg e]
    rw [e0]
    decide
  refine br_t rfl ?_
  refine bf_dilate hB (by omega) (by omega) hr hk hc' (fun d1 d3 d4 d5 hD => ?_)
  refine br_t ?_ ?_
  · rw [show (2 : Int32) * nI (min 15 (r + k) - (r - k) + 1) = nI (2 * (min 15 (r + k) - (r - k) + 1)) from pk_mul 2 _]
    exact (pk_sub (a := 2 * (min 15 (r + k) - (r - k) + 1)) (b := 2) (by omega)).symm
  refine bf_sumW ?_
  have hcnt := (bf_cnt_band r hr k (by omega)).1
  refine br_t ?_ ?_
  · rw [← hcnt]
    exact bf_sum_rows (c := c) (by omega) 16 hD
  refine bf_open10 hD (by omega) (by omega) hc hc' (fun e1 e3 e4 e5 => ?_)
  rw [hcnt]
  refine br_t (pk_mul 2 _).symm ?_
  refine bf_pattern (fun f1 hf => nm_e (bf_pixel hr (by omega) ?_))
  refine br_t ?_ ?_
  · rw [hf _ (by omega)]
    unfold bf_pat
    rw [show (r * 16 + c) / 16 = r by omega, show (r * 16 + c) % 16 = c by omega]
  refine bf_threshold (fun j hj => ?_) (fun g1 => br_t rfl H)
  rw [hf j hj]
  unfold bf_pat
  obtain ⟨t, ht, e⟩ := pk_andE (((nI (j / 16) * x4) + (nI (j % 16) * x1)) + (nI (j / 16) * nI (j % 16))) (m := 255) 8 rfl
  rw [e]
  exact nI_lt (b := 256) ht (by decide)
theorem bf_83 {post : Int32 → St0 → Prop} {mc ms kc ks r c p q k : Nat} {x1 x4 : Int32} {a1 a2 a3 a4 a5 a6 a7 : Nat → Int32} (hr : r < 16) (hc : 2 ≤ c) (hc' : c ≤ 12) (hp : 1 ≤ p) (hp' : p ≤ 255) (hq : 1 ≤ q) (hq' : q ≤ 255) (hk : k ≤ 7)
    (ha : ∀ x, a1 x = 0) (H : post 1 ()) : wL_lawOf_83 post mc ms x1 x4 (nI r) (nI c) (nI p) (nI q) (nI k) (nI (min 15 (r + k))) kc ks a1 a2 a3 a4 a5 a6 a7 := by
  have h := bf_100 (mc := mc) (ms := ms) (kc := kc) (ks := ks) (x1 := x1) (x4 := x4) (a2 := a2) (a3 := a3) (a4 := a4) (a5 := a5) (a6 := a6) (a7 := a7) hr hc hc' hp hp' hq hq' hk ha H
  unfold wL_lawOf_83
  by_cases e : k ≤ r
  · rw [pk_sub e]
    exact br_t (nI_pos' (by omega)) h
  · rw [show r - k = 0 by omega] at h
    refine br_f ?_ h
    have := pk_sneg (a := r) (b := k) (by omega) (by omega)
    rw [Int32.lt_iff_toInt_lt] at this
    rw [Int32.le_iff_toInt_le]
    omega
theorem bf_lawOf {post : Int32 → St0 → Prop} {p0 p1 p2 p3 p4 : Int32} (H : post 1 ()) : wpL_lawOf post 8 1352 () p0 p1 p2 p3 p4 := by
  obtain ⟨r, hr, er⟩ := pk_andE p0 (m := 15) 4 rfl
  obtain ⟨b, hb, eb⟩ := pk_andE (p0 >>> ((4 : Int32) &&& 31)) (m := 255) 8 rfl
  obtain ⟨u, hu, eu⟩ := pk_andE p1 (m := 1023) 10 rfl
  obtain ⟨v, hv, ev⟩ := pk_andE p2 (m := 1023) 10 rfl
  obtain ⟨k, hk, ek⟩ := pk_andE p3 (m := 7) 3 rfl
  have e7 : 2 + (2 * (((p0 >>> ((4 : Int32) &&& 31)) &&& 255) - ((p0 >>> ((4 : Int32) &&& 31)) &&& 255) / 6 * 6)) = nI (2 + 2 * (b % 6)) := by
    rw [eb, show nI b - nI b / 6 * 6 = nI (b % 6) from pk_rem (d := 6) (by omega) (by omega) (by omega), show (2 : Int32) * nI (b % 6) = nI (2 * (b % 6)) from pk_mul 2 _]
    exact nI_add 2 _
  have e8 : 1 + ((p1 &&& 1023) - (p1 &&& 1023) / 255 * 255) = nI (1 + u % 255) := by
    rw [eu, show nI u - nI u / 255 * 255 = nI (u % 255) from pk_rem (d := 255) (by omega) (by omega) (by omega)]
    exact nI_add 1 _
  have e9 : 1 + ((p2 &&& 1023) - (p2 &&& 1023) / 255 * 255) = nI (1 + v % 255) := by
    rw [ev, show nI v - nI v / 255 * 255 = nI (v % 255) from pk_rem (d := 255) (by omega) (by omega) (by omega)]
    exact nI_add 1 _
  refine ⟨by omega, by omega, 7, 1345, by omega, by omega, by omega, by omega, by omega, by omega, by omega, by omega, by omega, by omega, by omega, by omega, by omega, by omega, by omega, by omega, nm_e ?_⟩
  refine nm_r er ⟨by decide, nm_r e7 ⟨by decide, nm_r e8 ⟨by decide, nm_r e9 (nm_r ek ?_)⟩⟩⟩
  have ha : ∀ x, upd (fun _ => 0) 0 0 x = 0 := by
    intro x
    unfold upd
    split <;> rfl
  refine pk_le (r + k) 15 (fun h => ?_) (fun h => ?_) (nI_add r k)
  · have g := bf_83 (post := post) (mc := 8) (ms := 1352) (kc := 1 + 7) (ks := 7 + 1345) (x1 := p1) (x4 := p4) (a2 := fun _ => 0) (a3 := fun _ => 0) (a4 := fun _ => 0) (a5 := fun _ => 0) (a6 := fun _ => 0) (a7 := fun _ => 0) hr (show 2 ≤ 2 + 2 * (b % 6) by omega) (by omega) (show 1 ≤ 1 + u % 255 by omega) (by omega) (show 1 ≤ 1 + v % 255 by omega) (by omega) (show k ≤ 7 by omega) ha H
    rw [show min 15 (r + k) = r + k by omega, ← nI_add r k] at g
    exact g
  · have g := bf_83 (post := post) (mc := 8) (ms := 1352) (kc := 1 + 7) (ks := 7 + 1345) (x1 := p1) (x4 := p4) (a2 := fun _ => 0) (a3 := fun _ => 0) (a4 := fun _ => 0) (a5 := fun _ => 0) (a6 := fun _ => 0) (a7 := fun _ => 0) hr (show 2 ≤ 2 + 2 * (b % 6) by omega) (by omega) (show 1 ≤ 1 + u % 255 by omega) (by omega) (show 1 ≤ 1 + v % 255 by omega) (by omega) (show k ≤ 7 by omega) ha H
    rw [show min 15 (r + k) = 15 by omega] at g
    exact g
theorem bf_cell {post : Int32 → Prop} {L : Nat} {xs : Nat → Int32} (hL : L ≤ 5) (i : Nat) (hi : i < 5) (H : ∀ r, post r) : wpL_cellAt post L xs () (nI i) :=
  pk_le L i (fun _ => H 0) (fun z => ⟨pk_in i L z, H _⟩)
end
section
theorem i_vc (xs : Nat → Int32) (L : Nat) (hL : L ≤ 5) : wpL_law (fun r => r = 1) L xs :=
  bf_cell hL 0 (by omega) (fun _ => bf_cell hL 1 (by omega) (fun _ => bf_cell hL 2 (by omega) (fun _ => bf_cell hL 3 (by omega) (fun _ => bf_cell hL 4 (by omega) (fun _ => ⟨8, 1352, by omega, by omega, bf_lawOf rfl⟩)))))
end
