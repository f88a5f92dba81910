section
/-! the pure picture: what stands at the places of the unit's arrays while the four instructions run -/
theorem cq_at {f : Nat → Int32} {x y : Int32} {j : Nat} (hj : j < 64) (hy : y = nI j) (h : f j = x) : f y.toNatClampNeg = x := by
  subst hy
  rw [nI_clamp (by omega)]
  exact h
theorem cq_up {f : Nat → Int32} {x x' y : Int32} {j : Nat} (hj : j < 64) (hy : y = nI j) (h : x = x') : upd f y.toNatClampNeg x = upd f j x' := by
  subst hy
  rw [nI_clamp (by omega), h]
theorem cq_ij (w i : Nat) : 16 * nI w + nI i = nI (16 * w + i) := by
  rw [show (16 : Int32) = nI 16 from rfl, pk_mul, nI_add]
theorem cq_nb : ∀ j, j < 17 → (nI j).toInt8.toInt32 = nI j := by decide +kernel
theorem cq_b1 : ∀ j, j < 17 → (nI j + 1).toInt8.toInt32 = nI (j + 1) := by decide +kernel
theorem cq_rd {f : Nat → Int32} {x v : Int32} {i j : Nat} (h : i = j → x = v) (h' : i ≠ j → f i = v) : upd f j x i = v := by
  by_cases e : i = j
  · rw [e, pk_us]
    exact h e
  · rw [pk_un e]
    exact h' e
/-- an instruction's answer for one element -/
def cq_op : Nat → Int32 → Int32 → Int32
  | 0, x, y => x + y
  | 1, x, y => x - y
  | 2, x, y => x * y
  | _, x, y => if x ≤ y then y else x
def cq_V (k : Nat) (A : Nat → Int32) (i : Nat) : Int32 := cq_op k (A i) (A (16 + i))
/-- the program: at 2 the instruction k (2, 0, 1), at 3 the sum (0, 2) -/
def cq_P (k : Nat) (a4 a5 a6 a7 : Nat → Int32) : Prop :=
  a4 2 = nI k ∧ a4 3 = nI 9 ∧ a5 2 = nI 2 ∧ a5 3 = nI 0 ∧ a6 2 = nI 0 ∧ a6 3 = nI 2 ∧ a7 2 = nI 1
/-- a unit's elements that are begun and not finished -/
def cq_Q (o r : Nat) (V : Nat → Int32) (f b : Nat) (a14 a16 : Nat → Int32) : Prop :=
  ∀ i, f ≤ i → i < b → a14 (o + i) = V i ∧ a16 (o + i) = nI (r + i / 2)
/-- the vector registers -/
def cq_A (A V : Nat → Int32) (f : Nat) (a1 : Nat → Int32) : Prop :=
  (∀ i, i < 32 → a1 i = A i) ∧ (∀ i, i < f → a1 (32 + i) = V i) ∧ (∀ i, f ≤ i → i < 16 → a1 (32 + i) = A (32 + i))
/-- the whole state while the two units work: u works on k, 3 sums -/
def cq_I (k u n : Nat) (A : Nat → Int32) (zz : Int32) (c t wu w3 b f b3 f3 : Nat) (s : St2) : Prop := match s with
  | (l, d, len, pl, nx, now, sm, a1, a2, a3, a4, a5, a6, a7, a8, a9, a10, a11, a12, a13, a14, a15, a16) =>
    (k ≤ 3 ∧ u ≤ 1 ∧ n ≤ 16 ∧ f ≤ b ∧ b ≤ n ∧ f3 ≤ b3 ∧ b3 ≤ f ∧ t < 100) ∧
    (l = nI 2 ∧ d = nI 3 ∧ len = nI n ∧ pl = nI 4 ∧ nx = nI c ∧ now = nI t ∧ sm = bx_sum (cq_V k A) f3) ∧
    cq_P k a4 a5 a6 a7 ∧ cq_A A (cq_V k A) f a1 ∧ a2 0 = zz ∧
    (a8 u = nI wu ∧ a8 3 = nI w3 ∧ ∀ j, j < 4 → j ≠ u → j ≠ 3 → a8 j = nI 0) ∧
    (a9 u = nI 2 ∧ a10 u = nI n ∧ a12 u = nI b ∧ a13 u = nI f) ∧
    ((w3 ≠ 0 → a9 3 = nI 3) ∧ (w3 ≠ 0 → a10 3 = nI n) ∧ a12 3 = nI b3 ∧ a13 3 = nI f3) ∧
    cq_Q (16 * u) 6 (cq_V k A) f b a14 a16 ∧ cq_Q (16 * 3) 9 (cq_V k A) f3 b3 a14 a16
theorem cq_A_put {A V : Nat → Int32} {f : Nat} {a1 : Nat → Int32} (h : cq_A A V f a1) : cq_A A V (f + 1) (upd a1 (32 + f) (V f)) := by
  obtain ⟨h1, h2, h3⟩ := h
  refine ⟨fun i hi => ?_, fun i hi => ?_, fun i hi hi2 => ?_⟩
  · rw [pk_un (by omega)]
    exact h1 i hi
  · exact cq_rd (fun e => by rw [show i = f by omega]) (fun e => h2 i (by omega))
  · rw [pk_un (by omega)]
    exact h3 i (by omega) hi2
theorem cq_Q_f {o r f b : Nat} {V a14 a16 : Nat → Int32} (h : cq_Q o r V f b a14 a16) : cq_Q o r V (f + 1) b a14 a16 :=
  fun i h1 h2 => h i (by omega) h2
theorem cq_Q_put {o r f b : Nat} {V a14 a16 : Nat → Int32} (h : cq_Q o r V f b a14 a16) :
    cq_Q o r V f (b + 1) (upd a14 (o + b) (V b)) (upd a16 (o + b) (nI (r + b / 2))) := by
  intro i h1 h2
  by_cases e : i = b
  · rw [e, pk_us, pk_us]
    exact ⟨rfl, rfl⟩
  · rw [pk_un (by omega), pk_un (by omega)]
    exact h i h1 (by omega)
theorem cq_Q_oth {o r f b j : Nat} {x y : Int32} {V a14 a16 : Nat → Int32} (h : cq_Q o r V f b a14 a16) (hj : ∀ i, i < b → o + i ≠ j) :
    cq_Q o r V f b (upd a14 j x) (upd a16 j y) := by
  intro i h1 h2
  rw [pk_un (hj i h2), pk_un (hj i h2)]
  exact h i h1 h2
theorem cq_Q_nil {o r f : Nat} {V a14 a16 : Nat → Int32} : cq_Q o r V f f a14 a16 :=
  fun i h1 h2 => absurd h2 (by omega)
/-- no older instruction is at work beside the one at 2 -/
theorem cq_old {u w3 : Nat} {a8 a9 : Nat → Int32} (h83 : a8 3 = nI w3) (h8o : ∀ j, j < 4 → j ≠ u → j ≠ 3 → a8 j = nI 0) (h9 : a9 u = nI 2) (h93 : w3 ≠ 0 → a9 3 = nI 3) :
    ∀ j, j < 4 → a8 j = 0 ∨ nI 2 ≤ a9 j := by
  intro j hj
  by_cases e : j = u
  · right
    rw [e, h9]
    exact nI_le (by omega) (by omega)
  · by_cases e3 : j = 3
    · subst e3
      by_cases w : w3 = 0
      · left
        rw [h83, w]
        exact nI_0
      · right
        rw [h93 w]
        exact nI_le (by omega) (by omega)
    · left
      exact h8o j hj e e3
end
section
/-! the methods that only ask -/
theorem cq_reg {post : Int32 → Prop} {s : St2} {r : Nat} (hr : r < 4) (h : post 1) : wpX_isRegister post s (nI r) := by
  obtain ⟨l, d, len, pl, nx, now, sm, a1, a2, a3, a4, a5, a6, a7, a8, a9, a10, a11, a12, a13, a14, a15, a16⟩ := s
  exact pk_lt r 0 (fun q => absurd q (by omega)) (fun _ => pk_lt 3 r (fun q => absurd q (by omega)) (fun _ => h))
theorem cq_idleY {post : Int32 → Prop} {l d len pl nx now sm : Int32} {a1 a2 a3 a4 a5 a6 a7 a8 a9 a10 a11 a12 a13 a14 a15 a16 : Nat → Int32} (h : pl ≤ nx) (h0 : a8 0 = 0) (h1 : a8 1 = 0) (h2 : a8 2 = 0) (h3 : a8 3 = 0) (hp : post 1) : wpX_isIdle post (l, d, len, pl, nx, now, sm, a1, a2, a3, a4, a5, a6, a7, a8, a9, a10, a11, a12, a13, a14, a15, a16) :=
  br_t h (br_t h0 (br_t h1 (br_t h2 (br_t h3 hp))))
theorem cq_idleN {post : Int32 → Prop} {l d len pl nx now sm : Int32} {a1 a2 a3 a4 a5 a6 a7 a8 a9 a10 a11 a12 a13 a14 a15 a16 : Nat → Int32} (h : ¬ (pl ≤ nx ∧ a8 0 = 0 ∧ a8 1 = 0 ∧ a8 2 = 0 ∧ a8 3 = 0)) (hp : post 0) : wpX_isIdle post (l, d, len, pl, nx, now, sm, a1, a2, a3, a4, a5, a6, a7, a8, a9, a10, a11, a12, a13, a14, a15, a16) :=
  br_c (fun e => br_c (fun e0 => br_c (fun e1 => br_c (fun e2 => br_c (fun e3 => absurd ⟨e, e0, e1, e2, e3⟩ h) (fun _ => hp)) (fun _ => hp)) (fun _ => hp)) (fun _ => hp)) (fun _ => hp)
theorem cq_w3 {post : Int32 → Prop} {k v : Nat} {l d len pl nx now sm : Int32} {a1 a2 a3 a4 a5 a6 a7 a8 a9 a10 a11 a12 a13 a14 a15 a16 : Nat → Int32} (P : cq_P k a4 a5 a6 a7) (h : post 0) : wpX_writesVector post (l, d, len, pl, nx, now, sm, a1, a2, a3, a4, a5, a6, a7, a8, a9, a10, a11, a12, a13, a14, a15, a16) (nI 3) (nI v) :=
  ⟨pk_in 3 16 (by omega), nm_r (cq_at (by omega) rfl P.2.1) (pk_lt 8 9 (fun _ => h) (fun q => absurd q (by omega)))⟩
theorem cq_w2 {post : Int32 → Prop} {k v : Nat} {p0 : Int32} {l d len pl nx now sm : Int32} {a1 a2 a3 a4 a5 a6 a7 a8 a9 a10 a11 a12 a13 a14 a15 a16 : Nat → Int32} (hk : k ≤ 3) (hv : v < 4) (P : cq_P k a4 a5 a6 a7) (hp : p0 = nI 2) (h1 : v = 2 → post 1) (h0 : v ≠ 2 → post 0) :
    wpX_writesVector post (l, d, len, pl, nx, now, sm, a1, a2, a3, a4, a5, a6, a7, a8, a9, a10, a11, a12, a13, a14, a15, a16) p0 (nI v) := by
  subst hp
  exact ⟨pk_in 2 16 (by omega), nm_r (cq_at (by omega) rfl P.1) (pk_lt 8 k (fun q => absurd q (by omega)) (fun _ => pk_eq k 7 (fun q => absurd q (by omega)) (fun _ => ⟨pk_in 2 16 (by omega), pk_eq 2 v (fun e => h1 e.symm) (fun e => h0 (fun e' => e e'.symm)) (cq_at (by omega) rfl P.2.2.1)⟩)))⟩
theorem cq_r3 {post : Int32 → Prop} {k v : Nat} {l d len pl nx now sm : Int32} {a1 a2 a3 a4 a5 a6 a7 a8 a9 a10 a11 a12 a13 a14 a15 a16 : Nat → Int32} (hv : v < 4) (P : cq_P k a4 a5 a6 a7) (h1 : v = 2 → post 1) (h0 : v ≠ 2 → post 0) :
    wpX_readsVector post (l, d, len, pl, nx, now, sm, a1, a2, a3, a4, a5, a6, a7, a8, a9, a10, a11, a12, a13, a14, a15, a16) (nI 3) (nI v) :=
  ⟨pk_in 3 16 (by omega), nm_r (cq_at (by omega) rfl P.2.1) (pk_lt 3 9 (fun _ => pk_eq 9 7 (fun q => absurd q (by omega)) (fun _ => pk_eq 9 6 (fun q => absurd q (by omega)) (fun _ => pk_lt 9 9 (fun q => absurd q (by omega)) (fun _ => ⟨pk_in 3 16 (by omega), pk_eq 2 v (fun e => h1 e.symm) (fun e => h0 (fun e' => e e'.symm)) (cq_at (by omega) rfl P.2.2.2.2.2.1)⟩)))) (fun q => absurd q (by omega)))⟩
theorem cq_54 {post J10 : Int32 → Prop} {k u f i v m : Nat} {l d len pl nx now sm : Int32} {a1 a2 a3 a4 a5 a6 a7 a8 a9 a10 a11 a12 a13 a14 a15 a16 : Nat → Int32} (hk : k ≤ 3) (hv : v < 4) (hu : u < 4) (hi : i < 16) (hf : f ≤ 16) (P : cq_P k a4 a5 a6 a7) (h9 : a9 u = nI 2) (h13 : a13 u = nI f)
    (hn : (v = 2 → i < f) → wX_mayBegin_54 post J10 (nI i) (nI 3) (nI u) l d len pl nx now sm a1 a2 a3 a4 a5 a6 a7 a8 a9 a10 a11 a12 a13 a14 a15 a16 m (nI (v + 1))) (hb : v = 2 → f ≤ i → post 0) :
    wX_mayBegin_54 post J10 (nI i) (nI 3) (nI u) l d len pl nx now sm a1 a2 a3 a4 a5 a6 a7 a8 a9 a10 a11 a12 a13 a14 a15 a16 (m + 1) (nI v) :=
  pk_le 4 v (fun q => absurd q (by omega)) (fun _ => cq_w3 P (br_t rfl (cq_r3 hv P
    (fun e => br_f (by decide) (br_f (by decide) ⟨pk_in u 4 hu, cq_w2 hk hv P (cq_at (by omega) rfl h9)
      (fun _ => br_f (by decide) ⟨pk_in u 4 hu, pk_lt i f (fun q => br_t rfl (nm_r (nI_1 v) (hn (fun _ => q)))) (fun q => hb e q) rfl (cq_at (by omega) rfl h13)⟩)
      (fun e' => absurd e e')⟩))
    (fun e => br_t rfl (br_t rfl (br_t rfl (nm_r (nI_1 v) (hn (fun q => absurd q e)))))))))
theorem cq_54e {post J10 : Int32 → Prop} {x2 x3 : Int32} {u m : Nat} {l d len pl nx now sm : Int32} {a1 a2 a3 a4 a5 a6 a7 a8 a9 a10 a11 a12 a13 a14 a15 a16 : Nat → Int32} (hn : J10 (nI (u + 1))) : wX_mayBegin_54 post J10 x2 x3 (nI u) l d len pl nx now sm a1 a2 a3 a4 a5 a6 a7 a8 a9 a10 a11 a12 a13 a14 a15 a16 (m + 1) (nI 4) :=
  pk_le 4 4 (fun _ => nm_r (nI_1 u) hn) (fun q => absurd q (by omega))
theorem cq_54a {post J10 : Int32 → Prop} {k u f i : Nat} {l d len pl nx now sm : Int32} {a1 a2 a3 a4 a5 a6 a7 a8 a9 a10 a11 a12 a13 a14 a15 a16 : Nat → Int32} (hk : k ≤ 3) (hu : u < 4) (hi : i < 16) (hf : f ≤ 16) (P : cq_P k a4 a5 a6 a7) (h9 : a9 u = nI 2) (h13 : a13 u = nI f)
    (hn : i < f → J10 (nI (u + 1))) (hb : f ≤ i → post 0) : wX_mayBegin_54 post J10 (nI i) (nI 3) (nI u) l d len pl nx now sm a1 a2 a3 a4 a5 a6 a7 a8 a9 a10 a11 a12 a13 a14 a15 a16 5 (nI 0) :=
  cq_54 (v := 0) hk (by omega) hu hi hf P h9 h13 (fun _ => cq_54 (v := 1) hk (by omega) hu hi hf P h9 h13 (fun _ => cq_54 (v := 2) hk (by omega) hu hi hf P h9 h13
    (fun q => cq_54 (v := 3) hk (by omega) hu hi hf P h9 h13 (fun _ => cq_54e (hn (q rfl))) (fun q => absurd q (by omega))) (fun _ q => hb q)) (fun q => absurd q (by omega))) (fun q => absurd q (by omega))
theorem cq_mbs {post : Int32 → Prop} {x2 x3 : Int32} {j m : Nat} {l d len pl nx now sm : Int32} {a1 a2 a3 a4 a5 a6 a7 a8 a9 a10 a11 a12 a13 a14 a15 a16 : Nat → Int32} (hj : j < 4) (h : a8 j = 0 ∨ x3 ≤ a9 j) (hn : wX_mayBegin_10 post x2 x3 l d len pl nx now sm a1 a2 a3 a4 a5 a6 a7 a8 a9 a10 a11 a12 a13 a14 a15 a16 m (nI (j + 1))) :
    wX_mayBegin_10 post x2 x3 l d len pl nx now sm a1 a2 a3 a4 a5 a6 a7 a8 a9 a10 a11 a12 a13 a14 a15 a16 (m + 1) (nI j) := by
  have ej : (nI j).toNatClampNeg = j := nI_clamp (by omega)
  refine pk_le 4 j (fun q => absurd q (by omega)) (fun _ => ⟨pk_in j 4 hj, ?_⟩)
  rw [ej]
  exact br_c (fun _ => nm_r (nI_1 j) hn) (fun e => ⟨pk_in j 4 hj, br_t (h.resolve_left e) (nm_r (nI_1 j) hn)⟩)
theorem cq_mbu {post : Int32 → Prop} {k u n f i m : Nat} {l d len pl nx now sm : Int32} {a1 a2 a3 a4 a5 a6 a7 a8 a9 a10 a11 a12 a13 a14 a15 a16 : Nat → Int32} (hk : k ≤ 3) (hu : u < 4) (hi : i < n) (hn16 : n ≤ 16) (hf : f ≤ 16) (P : cq_P k a4 a5 a6 a7) (h8 : a8 u = 0 → i < f) (h9 : a9 u = nI 2) (h10 : a10 u = nI n) (h13 : a13 u = nI f)
    (hn : i < f → wX_mayBegin_10 post (nI i) (nI 3) l d len pl nx now sm a1 a2 a3 a4 a5 a6 a7 a8 a9 a10 a11 a12 a13 a14 a15 a16 m (nI (u + 1))) (hb : f ≤ i → post 0) :
    wX_mayBegin_10 post (nI i) (nI 3) l d len pl nx now sm a1 a2 a3 a4 a5 a6 a7 a8 a9 a10 a11 a12 a13 a14 a15 a16 (m + 1) (nI u) := by
  have ej : (nI u).toNatClampNeg = u := nI_clamp (by omega)
  refine pk_le 4 u (fun q => absurd q (by omega)) (fun _ => ⟨pk_in u 4 hu, ?_⟩)
  rw [ej]
  exact br_c (fun e => nm_r (nI_1 u) (hn (h8 e))) (fun e => ⟨pk_in u 4 hu, pk_le 3 2 (fun q => absurd q (by omega)) (fun _ => ⟨pk_in u 4 hu, pk_lt i n (fun _ => ⟨5, cq_54a hk hu (by omega) hf P h9 h13 hn hb⟩) (fun q => absurd q (by omega)) rfl h10⟩) rfl h9⟩)
theorem cq_mbe {post : Int32 → Prop} {x2 x3 : Int32} {m : Nat} {l d len pl nx now sm : Int32} {a1 a2 a3 a4 a5 a6 a7 a8 a9 a10 a11 a12 a13 a14 a15 a16 : Nat → Int32} (h : post 1) : wX_mayBegin_10 post x2 x3 l d len pl nx now sm a1 a2 a3 a4 a5 a6 a7 a8 a9 a10 a11 a12 a13 a14 a15 a16 (m + 1) (nI 4) :=
  pk_le 4 4 (fun _ => h) (fun q => absurd q (by omega))
theorem cq_mayU {post : Int32 → Prop} {u i : Nat} {l d len pl nx now sm : Int32} {a1 a2 a3 a4 a5 a6 a7 a8 a9 a10 a11 a12 a13 a14 a15 a16 : Nat → Int32} (hu : u < 4) (h : ∀ j, j < 4 → a8 j = 0 ∨ nI 2 ≤ a9 j) (h9 : a9 u = nI 2) (hp : post 1) : wpX_mayBegin post (l, d, len, pl, nx, now, sm, a1, a2, a3, a4, a5, a6, a7, a8, a9, a10, a11, a12, a13, a14, a15, a16) (nI u) (nI i) :=
  ⟨pk_in u 4 hu, nm_r (cq_at (by omega) rfl h9) ⟨5, cq_mbs (j := 0) (by omega) (h 0 (by omega)) (cq_mbs (j := 1) (by omega) (h 1 (by omega)) (cq_mbs (j := 2) (by omega) (h 2 (by omega)) (cq_mbs (j := 3) (by omega) (h 3 (by omega)) (cq_mbe hp))))⟩⟩
theorem cq_may3 {post : Int32 → Prop} {k u n f i : Nat} {l d len pl nx now sm : Int32} {a1 a2 a3 a4 a5 a6 a7 a8 a9 a10 a11 a12 a13 a14 a15 a16 : Nat → Int32} (hk : k ≤ 3) (hu : u ≤ 1) (hi : i < n) (hn16 : n ≤ 16) (hf : f ≤ 16) (P : cq_P k a4 a5 a6 a7) (h8 : a8 u = 0 → i < f) (h8o : ∀ j, j < 4 → j ≠ u → j ≠ 3 → a8 j = nI 0)
    (h9 : a9 u = nI 2) (h10 : a10 u = nI n) (h13 : a13 u = nI f) (h93 : a9 3 = nI 3) (hy : i < f → post 1) (hb : f ≤ i → post 0) : wpX_mayBegin post (l, d, len, pl, nx, now, sm, a1, a2, a3, a4, a5, a6, a7, a8, a9, a10, a11, a12, a13, a14, a15, a16) (nI 3) (nI i) := by
  refine ⟨pk_in 3 4 (by omega), nm_r (cq_at (by omega) rfl h93) ⟨5, ?_⟩⟩
  have e : i < f → wX_mayBegin_10 post (nI i) (nI 3) l d len pl nx now sm a1 a2 a3 a4 a5 a6 a7 a8 a9 a10 a11 a12 a13 a14 a15 a16 3 (nI 2) := fun q =>
    cq_mbs (j := 2) (by omega) (Or.inl (h8o 2 (by omega) (by omega) (by omega))) (cq_mbs (j := 3) (by omega) (Or.inr (by rw [h93]; exact nI_le (by omega) (by omega))) (cq_mbe (hy q)))
  rcases (show u = 0 ∨ u = 1 by omega) with rfl | rfl
  · exact cq_mbu (u := 0) hk (by omega) hi hn16 hf P h8 h9 h10 h13 (fun q => cq_mbs (j := 1) (by omega) (Or.inl (h8o 1 (by omega) (by omega) (by omega))) (e q)) hb
  · exact cq_mbs (j := 0) (by omega) (Or.inl (h8o 0 (by omega) (by omega) (by omega))) (cq_mbu (u := 1) hk (by omega) hi hn16 hf P h8 h9 h10 h13 e hb)
theorem cq_cu {post : Int32 → St2 → Prop} {k u i : Nat} {l d len pl nx now sm : Int32} {a1 a2 a3 a4 a5 a6 a7 a8 a9 a10 a11 a12 a13 a14 a15 a16 : Nat → Int32} (hk : k ≤ 3) (hu : u ≤ 1) (hi : i < 16) (P : cq_P k a4 a5 a6 a7) (h9 : a9 u = nI 2) (h : post (cq_op k (a1 i) (a1 (16 + i))) (l, d, len, pl, nx, now, sm, a1, a2, a3, a4, a5, a6, a7, a8, a9, a10, a11, a12, a13, a14, a15, a16)) :
    wpX_compute post (l, d, len, pl, nx, now, sm, a1, a2, a3, a4, a5, a6, a7, a8, a9, a10, a11, a12, a13, a14, a15, a16) (nI u) (nI i) := by
  obtain ⟨p1, p2, p3, p4, p5, p6, p7⟩ := P
  have e6 : 16 * a6 (nI 2).toNatClampNeg + nI i = nI i := by
    rw [cq_at (f := a6) (by omega) rfl p5, cq_ij]
    exact congrArg nI (by omega)
  have e7 : 16 * a7 (nI 2).toNatClampNeg + nI i = nI (16 + i) := by
    rw [cq_at (f := a7) (by omega) rfl p7, cq_ij]
  refine ⟨pk_in u 4 (by omega), nm_r (cq_at (by omega) rfl h9) ⟨pk_in 2 16 (by omega), nm_r (cq_at (by omega) rfl p1) ?_⟩⟩
  refine pk_eq u 2 (fun q => absurd q (by omega)) (fun _ => ⟨pk_in 2 16 (by omega), pk_in i 64 (by omega) e6, nm_r (cq_at (x := a1 i) (by omega) e6 rfl) ?_⟩)
  refine pk_eq k 4 (fun q => absurd q (by omega)) (fun _ => pk_eq k 5 (fun q => absurd q (by omega)) (fun _ => pk_eq k 9 (fun q => absurd q (by omega)) (fun _ => ⟨pk_in 2 16 (by omega), pk_in (16 + i) 64 (by omega) e7, nm_r (cq_at (x := a1 (16 + i)) (by omega) e7 rfl) ?_⟩)))
  refine pk_eq k 0 (fun e => ?_) (fun e0 => pk_eq k 1 (fun e => ?_) (fun e1 => pk_eq k 2 (fun e => ?_) (fun e2 => ?_)))
  · subst e
    exact h
  · subst e
    exact h
  · subst e
    exact h
  · have e3 : k = 3 := by omega
    subst e3
    refine br_c (fun q => ?_) (fun q => ?_)
    · rw [show cq_op 3 (a1 i) (a1 (16 + i)) = a1 (16 + i) from if_pos q] at h
      exact h
    · rw [show cq_op 3 (a1 i) (a1 (16 + i)) = a1 i from if_neg q] at h
      exact h
theorem cq_c3 {post : Int32 → St2 → Prop} {k i : Nat} {l d len pl nx now sm : Int32} {a1 a2 a3 a4 a5 a6 a7 a8 a9 a10 a11 a12 a13 a14 a15 a16 : Nat → Int32} (hi : i < 16) (P : cq_P k a4 a5 a6 a7) (h93 : a9 3 = nI 3) (h : post (a1 (32 + i)) (l, d, len, pl, nx, now, sm, a1, a2, a3, a4, a5, a6, a7, a8, a9, a10, a11, a12, a13, a14, a15, a16)) :
    wpX_compute post (l, d, len, pl, nx, now, sm, a1, a2, a3, a4, a5, a6, a7, a8, a9, a10, a11, a12, a13, a14, a15, a16) (nI 3) (nI i) := by
  obtain ⟨p1, p2, p3, p4, p5, p6, p7⟩ := P
  have e6 : 16 * a6 (nI 3).toNatClampNeg + nI i = nI (32 + i) := by
    rw [cq_at (f := a6) (by omega) rfl p6, cq_ij]
  refine ⟨pk_in 3 4 (by omega), nm_r (cq_at (by omega) rfl h93) ⟨pk_in 3 16 (by omega), nm_r (cq_at (by omega) rfl p2) ?_⟩⟩
  refine pk_eq 3 2 (fun q => absurd q (by omega)) (fun _ => ⟨pk_in 3 16 (by omega), pk_in (32 + i) 64 (by omega) e6, nm_r (cq_at (x := a1 (32 + i)) (by omega) e6 rfl) ?_⟩)
  exact pk_eq 9 4 (fun q => absurd q (by omega)) (fun _ => pk_eq 9 5 (fun q => absurd q (by omega)) (fun _ => pk_eq 9 9 (fun _ => h) (fun q => absurd rfl q)))
end
section
/-! beginElements: two lanes -/
def cq_B (post : St2 → Prop) (w m lane : Nat) (s : St2) : Prop := match s with
  | (l, d, len, pl, nx, now, sm, a1, a2, a3, a4, a5, a6, a7, a8, a9, a10, a11, a12, a13, a14, a15, a16) => wX_beginElements_2 post (nI w) m (nI lane) l d len pl nx now sm a1 a2 a3 a4 a5 a6 a7 a8 a9 a10 a11 a12 a13 a14 a15 a16
theorem cq_bu1 {post : St2 → Prop} {k u n c t wu w3 b f b3 f3 m lane : Nat} {A : Nat → Int32} {zz : Int32} {s : St2} (I : cq_I k u n A zz c t wu w3 b f b3 f3 s) (hl : lane < 2) (hb : b < n) (ht : t = 3 + b / 2)
    (hn : ∀ s', cq_I k u n A zz c t wu w3 (b + 1) f b3 f3 s' → cq_B post u m (lane + 1) s') : cq_B post u (m + 1) lane s := by
  obtain ⟨l, d, len, pl, nx, now, sm, a1, a2, a3, a4, a5, a6, a7, a8, a9, a10, a11, a12, a13, a14, a15, a16⟩ := s
  obtain ⟨⟨hk, hu, hn16, hfb, hbn, hf3, hb3, ht'⟩, ⟨rfl, rfl, rfl, rfl, rfl, rfl, rfl⟩, P, hA, hz, ⟨h8u, h83, h8o⟩, ⟨h9, h10, h12, h13⟩, ⟨h93, h103, h123, h133⟩, Qu, Q3⟩ := I
  refine pk_le 2 lane (fun q => absurd q (by omega)) (fun _ => ⟨pk_in u 4 (by omega), nm_r (cq_at (by omega) rfl h12) ⟨pk_in u 4 (by omega), pk_le n b (fun q => absurd q (by omega)) (fun _ => ?_) (cq_at (by omega) rfl h10)⟩⟩)
  refine cq_mayU (by omega) (cq_old h83 h8o h9 h93) h9 (br_f (by decide) (nm_r (cq_ij u b) (cq_cu hk hu (by omega) P h9 ?_)))
  refine ⟨pk_in (16 * u + b) 64 (by omega), nm_r (cq_up (x' := cq_V k A b) (by omega) rfl ?_) ⟨pk_in (16 * u + b) 64 (by omega), nm_r (cq_up (x' := nI (6 + b / 2)) (by omega) rfl ?_) ⟨pk_in u 4 (by omega), pk_in u 4 (by omega), nm_r (cq_up (x' := nI (b + 1)) (by omega) rfl ?_) (nm_r (nI_1 lane) (hn (nI 2, nI 3, nI n, nI 4, nI c, nI t, bx_sum (cq_V k A) f3, a1, a2, a3, a4, a5, a6, a7, a8, a9, a10, a11, upd a12 u (nI (b + 1)), a13, upd a14 (16 * u + b) (cq_V k A b), a15, upd a16 (16 * u + b) (nI (6 + b / 2))) ?_))⟩⟩⟩
  · show cq_op k (a1 b) (a1 (16 + b)) = cq_op k (A b) (A (16 + b))
    rw [hA.1 b (by omega), hA.1 (16 + b) (by omega)]
  · rw [nI_add]
    exact congrArg nI (by omega)
  · rw [cq_at (f := a12) (by omega) rfl h12]
    exact cq_b1 b (by omega)
  · exact ⟨⟨hk, hu, hn16, by omega, by omega, hf3, hb3, ht'⟩, ⟨rfl, rfl, rfl, rfl, rfl, rfl, rfl⟩, P, hA, hz, ⟨h8u, h83, h8o⟩, ⟨h9, h10, pk_us, h13⟩,
      ⟨h93, h103, by rw [pk_un (by omega)]; exact h123, h133⟩, cq_Q_put Qu, cq_Q_oth Q3 (fun i hi => by omega)⟩
theorem cq_bux {post : St2 → Prop} {k u n c t wu w3 b f b3 f3 m lane : Nat} {A : Nat → Int32} {zz : Int32} {s : St2} (I : cq_I k u n A zz c t wu w3 b f b3 f3 s) (hl : lane ≤ 2) (hb : lane = 2 ∨ n ≤ b) (hp : post s) : cq_B post u (m + 1) lane s := by
  obtain ⟨l, d, len, pl, nx, now, sm, a1, a2, a3, a4, a5, a6, a7, a8, a9, a10, a11, a12, a13, a14, a15, a16⟩ := s
  obtain ⟨⟨hk, hu, hn16, hfb, hbn, hf3, hb3, ht'⟩, ⟨rfl, rfl, rfl, rfl, rfl, rfl, rfl⟩, P, hA, hz, ⟨h8u, h83, h8o⟩, ⟨h9, h10, h12, h13⟩, ⟨h93, h103, h123, h133⟩, Qu, Q3⟩ := I
  exact pk_le 2 lane (fun _ => hp) (fun _ => ⟨pk_in u 4 (by omega), nm_r (cq_at (by omega) rfl h12) ⟨pk_in u 4 (by omega), pk_le n b (fun _ => hp) (fun q => absurd q (by omega)) (cq_at (by omega) rfl h10)⟩⟩)
theorem cq_bu {post : St2 → Prop} {k u n c t wu w3 f b3 f3 : Nat} {A : Nat → Int32} {zz : Int32} : ∀ (m lane b : Nat) (s : St2), lane + m = 2 → cq_I k u n A zz c t wu w3 b f b3 f3 s → (b < n → 3 ≤ t ∧ b = 2 * (t - 3) + lane) →
    (∀ s', cq_I k u n A zz c t wu w3 (min n (b + m)) f b3 f3 s' → post s') → cq_B post u (m + 1) lane s
  | 0, lane, b, s, hl, I, hb, hp => by
    have hbn : b ≤ n := by
      obtain ⟨l, d, len, pl, nx, now, sm, a1, a2, a3, a4, a5, a6, a7, a8, a9, a10, a11, a12, a13, a14, a15, a16⟩ := s
      exact I.1.2.2.2.2.1
    refine cq_bux I (by omega) (Or.inl (by omega)) (hp s ?_)
    rw [show min n (b + 0) = b by omega]
    exact I
  | m + 1, lane, b, s, hl, I, hb, hp => by
    have hbn : b ≤ n := by
      obtain ⟨l, d, len, pl, nx, now, sm, a1, a2, a3, a4, a5, a6, a7, a8, a9, a10, a11, a12, a13, a14, a15, a16⟩ := s
      exact I.1.2.2.2.2.1
    by_cases h : b < n
    · have e := hb h
      refine cq_bu1 I (by omega) h (by omega) (fun s' I' => cq_bu m (lane + 1) (b + 1) s' (by omega) I' (fun _ => ⟨e.1, by omega⟩) (fun s'' I'' => hp s'' ?_))
      rw [show b + (m + 1) = b + 1 + m by omega]
      exact I''
    · refine cq_bux I (by omega) (Or.inr (by omega)) (hp s ?_)
      rw [show min n (b + (m + 1)) = b by omega]
      exact I
theorem cq_b31 {post : St2 → Prop} {k u n c t wu w3 b f b3 f3 m lane : Nat} {A : Nat → Int32} {zz : Int32} {s : St2} (I : cq_I k u n A zz c t wu w3 b f b3 f3 s) (hw : w3 ≠ 0) (hl : lane < 2) (hb : b3 < f) (ht : t = 6 + b3 / 2)
    (hn : ∀ s', cq_I k u n A zz c t wu w3 b f (b3 + 1) f3 s' → cq_B post 3 m (lane + 1) s') : cq_B post 3 (m + 1) lane s := by
  obtain ⟨l, d, len, pl, nx, now, sm, a1, a2, a3, a4, a5, a6, a7, a8, a9, a10, a11, a12, a13, a14, a15, a16⟩ := s
  obtain ⟨⟨hk, hu, hn16, hfb, hbn, hf3, hb3, ht'⟩, ⟨rfl, rfl, rfl, rfl, rfl, rfl, rfl⟩, P, hA, hz, ⟨h8u, h83, h8o⟩, ⟨h9, h10, h12, h13⟩, ⟨h93, h103, h123, h133⟩, Qu, Q3⟩ := I
  refine pk_le 2 lane (fun q => absurd q (by omega)) (fun _ => ⟨pk_in 3 4 (by omega), nm_r (cq_at (by omega) rfl h123) ⟨pk_in 3 4 (by omega), pk_le n b3 (fun q => absurd q (by omega)) (fun _ => ?_) (cq_at (by omega) rfl (h103 hw))⟩⟩)
  refine cq_may3 hk hu (by omega) hn16 (by omega) P (fun _ => hb) h8o h9 h10 h13 (h93 hw) (fun _ => br_f (by decide) (nm_r (cq_ij 3 b3) (cq_c3 (by omega) P (h93 hw) ?_))) (fun q => absurd q (by omega))
  refine ⟨pk_in (16 * 3 + b3) 64 (by omega), nm_r (cq_up (x' := cq_V k A b3) (by omega) rfl ?_) ⟨pk_in (16 * 3 + b3) 64 (by omega), nm_r (cq_up (x' := nI (9 + b3 / 2)) (by omega) rfl ?_) ⟨pk_in 3 4 (by omega), pk_in 3 4 (by omega), nm_r (cq_up (x' := nI (b3 + 1)) (by omega) rfl ?_) (nm_r (nI_1 lane) (hn (nI 2, nI 3, nI n, nI 4, nI c, nI t, bx_sum (cq_V k A) f3, a1, a2, a3, a4, a5, a6, a7, a8, a9, a10, a11, upd a12 3 (nI (b3 + 1)), a13, upd a14 (16 * 3 + b3) (cq_V k A b3), a15, upd a16 (16 * 3 + b3) (nI (9 + b3 / 2))) ?_))⟩⟩⟩
  · exact hA.2.1 b3 hb
  · rw [nI_add]
    exact congrArg nI (by omega)
  · rw [cq_at (f := a12) (by omega) rfl h123]
    exact cq_b1 b3 (by omega)
  · exact ⟨⟨hk, hu, hn16, hfb, hbn, by omega, by omega, ht'⟩, ⟨rfl, rfl, rfl, rfl, rfl, rfl, rfl⟩, P, hA, hz, ⟨h8u, h83, h8o⟩, ⟨h9, h10, by rw [pk_un (by omega)]; exact h12, h13⟩,
      ⟨h93, h103, pk_us, h133⟩, cq_Q_oth Qu (fun i hi => by omega), cq_Q_put Q3⟩
theorem cq_b3x {post : St2 → Prop} {k u n c t wu w3 b f b3 f3 m lane : Nat} {A : Nat → Int32} {zz : Int32} {s : St2} (I : cq_I k u n A zz c t wu w3 b f b3 f3 s) (hw : w3 ≠ 0) (hwu : wu = 0 → n ≤ f) (hwv : wu ≤ 1) (hl : lane ≤ 2) (hb : lane = 2 ∨ f ≤ b3) (hp : post s) : cq_B post 3 (m + 1) lane s := by
  obtain ⟨l, d, len, pl, nx, now, sm, a1, a2, a3, a4, a5, a6, a7, a8, a9, a10, a11, a12, a13, a14, a15, a16⟩ := s
  obtain ⟨⟨hk, hu, hn16, hfb, hbn, hf3, hb3, ht'⟩, ⟨rfl, rfl, rfl, rfl, rfl, rfl, rfl⟩, P, hA, hz, ⟨h8u, h83, h8o⟩, ⟨h9, h10, h12, h13⟩, ⟨h93, h103, h123, h133⟩, Qu, Q3⟩ := I
  refine pk_le 2 lane (fun _ => hp) (fun _ => ⟨pk_in 3 4 (by omega), nm_r (cq_at (by omega) rfl h123) ⟨pk_in 3 4 (by omega), pk_le n b3 (fun _ => hp) (fun q => ?_) (cq_at (by omega) rfl (h103 hw))⟩⟩)
  have h8 : a8 u = 0 → b3 < f := by
    intro e
    rw [h8u, ← nI_0, nI_eq (by omega) (by omega)] at e
    have := hwu e
    omega
  exact cq_may3 hk hu (by omega) hn16 (by omega) P h8 h8o h9 h10 h13 (h93 hw) (fun q => absurd q (by omega)) (fun _ => br_t rfl hp)
theorem cq_b3 {post : St2 → Prop} {k u n c t wu w3 b f f3 : Nat} {A : Nat → Int32} {zz : Int32} (hw : w3 ≠ 0) (hwu : wu = 0 → n ≤ f) (hwv : wu ≤ 1) : ∀ (m lane b3 : Nat) (s : St2), lane + m = 2 → cq_I k u n A zz c t wu w3 b f b3 f3 s → (b3 < f → 6 ≤ t ∧ b3 = 2 * (t - 6) + lane) →
    (∀ s', cq_I k u n A zz c t wu w3 b f (min f (b3 + m)) f3 s' → post s') → cq_B post 3 (m + 1) lane s
  | 0, lane, b3, s, hl, I, hb, hp => by
    have hbn : b3 ≤ f := by
      obtain ⟨l, d, len, pl, nx, now, sm, a1, a2, a3, a4, a5, a6, a7, a8, a9, a10, a11, a12, a13, a14, a15, a16⟩ := s
      exact I.1.2.2.2.2.2.2.1
    refine cq_b3x I hw hwu hwv (by omega) (Or.inl (by omega)) (hp s ?_)
    rw [show min f (b3 + 0) = b3 by omega]
    exact I
  | m + 1, lane, b3, s, hl, I, hb, hp => by
    have hbn : b3 ≤ f := by
      obtain ⟨l, d, len, pl, nx, now, sm, a1, a2, a3, a4, a5, a6, a7, a8, a9, a10, a11, a12, a13, a14, a15, a16⟩ := s
      exact I.1.2.2.2.2.2.2.1
    by_cases h : b3 < f
    · have e := hb h
      refine cq_b31 I hw (by omega) h (by omega) (fun s' I' => cq_b3 hw hwu hwv m (lane + 1) (b3 + 1) s' (by omega) I' (fun _ => ⟨e.1, by omega⟩) (fun s'' I'' => hp s'' ?_))
      rw [show b3 + (m + 1) = b3 + 1 + m by omega]
      exact I''
    · refine cq_b3x I hw hwu hwv (by omega) (Or.inr (by omega)) (hp s ?_)
      rw [show min f (b3 + (m + 1)) = b3 by omega]
      exact I
theorem cq_begU {post : St2 → Prop} {k u n c t wu w3 b f b3 f3 : Nat} {A : Nat → Int32} {zz : Int32} {s : St2} (I : cq_I k u n A zz c t wu w3 b f b3 f3 s) (hb : b < n → 3 ≤ t ∧ b = 2 * (t - 3))
    (hp : ∀ s', cq_I k u n A zz c t wu w3 (min n (b + 2)) f b3 f3 s' → post s') : wpX_beginElements post s (nI u) := by
  have h := cq_bu 2 0 b s rfl I hb hp
  obtain ⟨l, d, len, pl, nx, now, sm, a1, a2, a3, a4, a5, a6, a7, a8, a9, a10, a11, a12, a13, a14, a15, a16⟩ := s
  exact ⟨3, h⟩
theorem cq_beg3 {post : St2 → Prop} {k u n c t wu w3 b f b3 f3 : Nat} {A : Nat → Int32} {zz : Int32} {s : St2} (I : cq_I k u n A zz c t wu w3 b f b3 f3 s) (hw : w3 ≠ 0) (hwu : wu = 0 → n ≤ f) (hwv : wu ≤ 1) (hb : b3 < f → 6 ≤ t ∧ b3 = 2 * (t - 6))
    (hp : ∀ s', cq_I k u n A zz c t wu w3 b f (min f (b3 + 2)) f3 s' → post s') : wpX_beginElements post s (nI 3) := by
  have h := cq_b3 hw hwu hwv 2 0 b3 s rfl I hb hp
  obtain ⟨l, d, len, pl, nx, now, sm, a1, a2, a3, a4, a5, a6, a7, a8, a9, a10, a11, a12, a13, a14, a15, a16⟩ := s
  exact ⟨3, h⟩
end
section
/-! finishElements: two lanes, then the unit may become free -/
def cq_F (post : St2 → Prop) (w m lane : Nat) (s : St2) : Prop := match s with
  | (l, d, len, pl, nx, now, sm, a1, a2, a3, a4, a5, a6, a7, a8, a9, a10, a11, a12, a13, a14, a15, a16) => wX_finishElements_12 post (nI w) m (nI lane) l d len pl nx now sm a1 a2 a3 a4 a5 a6 a7 a8 a9 a10 a11 a12 a13 a14 a15 a16
def cq_G (post : St2 → Prop) (w : Nat) (s : St2) : Prop := match s with
  | (l, d, len, pl, nx, now, sm, a1, a2, a3, a4, a5, a6, a7, a8, a9, a10, a11, a12, a13, a14, a15, a16) => wX_finishElements_81 post (nI w) l d len pl nx now sm a1 a2 a3 a4 a5 a6 a7 a8 a9 a10 a11 a12 a13 a14 a15 a16
theorem cq_du {post : St2 → Prop} {k u i : Nat} {x : Int32} {l d len pl nx now sm : Int32} {a1 a2 a3 a4 a5 a6 a7 a8 a9 a10 a11 a12 a13 a14 a15 a16 : Nat → Int32} (hk : k ≤ 3) (hu : u ≤ 1) (hi : i < 16) (P : cq_P k a4 a5 a6 a7) (h9 : a9 u = nI 2) (h14 : a14 (16 * u + i) = x) (h : post (l, d, len, pl, nx, now, sm, upd a1 (32 + i) x, a2, a3, a4, a5, a6, a7, a8, a9, a10, a11, a12, a13, a14, a15, a16)) :
    wpX_deliver post (l, d, len, pl, nx, now, sm, a1, a2, a3, a4, a5, a6, a7, a8, a9, a10, a11, a12, a13, a14, a15, a16) (nI u) (nI i) := by
  have e5 : 16 * a5 (nI 2).toNatClampNeg + nI i = nI (32 + i) := by
    rw [cq_at (f := a5) (by omega) rfl P.2.2.1, cq_ij]
  exact ⟨pk_in u 4 (by omega), nm_r (cq_at (by omega) rfl h9) ⟨pk_in (16 * u + i) 64 (by omega) (cq_ij u i), nm_r (cq_at (by omega) (cq_ij u i) h14) (pk_eq u 3 (fun q => absurd q (by omega)) (fun _ => ⟨pk_in 2 16 (by omega), pk_eq k 7 (fun q => absurd q (by omega)) (fun _ => ⟨pk_in 2 16 (by omega), pk_in (32 + i) 64 (by omega) e5, nm_r (cq_up (by omega) e5 rfl) h⟩) (cq_at (by omega) rfl P.1)⟩))⟩⟩
theorem cq_d3 {post : St2 → Prop} {i : Nat} {x : Int32} {l d len pl nx now sm : Int32} {a1 a2 a3 a4 a5 a6 a7 a8 a9 a10 a11 a12 a13 a14 a15 a16 : Nat → Int32} (hi : i < 16) (h14 : a14 (16 * 3 + i) = x) (h : post (l, d, len, pl, nx, now, sm + x, a1, a2, a3, a4, a5, a6, a7, a8, a9, a10, a11, a12, a13, a14, a15, a16)) : wpX_deliver post (l, d, len, pl, nx, now, sm, a1, a2, a3, a4, a5, a6, a7, a8, a9, a10, a11, a12, a13, a14, a15, a16) (nI 3) (nI i) :=
  ⟨pk_in 3 4 (by omega), nm_e ⟨pk_in (16 * 3 + i) 64 (by omega) (cq_ij 3 i), nm_r (cq_at (by omega) (cq_ij 3 i) h14) (pk_eq 3 3 (fun _ => nm_e h) (fun q => absurd rfl q))⟩⟩
theorem cq_fu1 {post : St2 → Prop} {k u n c t wu w3 b f b3 f3 m lane : Nat} {A : Nat → Int32} {zz : Int32} {s : St2} (I : cq_I k u n A zz c t wu w3 b f b3 f3 s) (hl : lane < 2) (hb : f < b) (ht : 6 + f / 2 ≤ t)
    (hn : ∀ s', cq_I k u n A zz c t wu w3 b (f + 1) b3 f3 s' → cq_F post u m (lane + 1) s') : cq_F post u (m + 1) lane s := by
  obtain ⟨l, d, len, pl, nx, now, sm, a1, a2, a3, a4, a5, a6, a7, a8, a9, a10, a11, a12, a13, a14, a15, a16⟩ := s
  obtain ⟨⟨hk, hu, hn16, hfb, hbn, hf3, hb3, ht'⟩, ⟨rfl, rfl, rfl, rfl, rfl, rfl, rfl⟩, P, hA, hz, ⟨h8u, h83, h8o⟩, ⟨h9, h10, h12, h13⟩, ⟨h93, h103, h123, h133⟩, Qu, Q3⟩ := I
  have q := Qu f (Nat.le_refl f) hb
  refine pk_le 2 lane (fun q => absurd q (by omega)) (fun _ => ⟨pk_in u 4 (by omega), nm_r (cq_at (by omega) rfl h13) ⟨pk_in u 4 (by omega), pk_le b f (fun q => absurd q (by omega)) (fun _ => ⟨pk_in (16 * u + f) 64 (by omega) (cq_ij u f), pk_le (6 + f / 2) t (fun _ => cq_du hk hu (by omega) P h9 q.1 ?_) (fun q => absurd q (by omega)) (cq_at (by omega) (cq_ij u f) q.2) rfl⟩) (cq_at (by omega) rfl h12)⟩⟩)
  refine ⟨pk_in u 4 (by omega), pk_in u 4 (by omega), nm_r (cq_up (x' := nI (f + 1)) (by omega) rfl ?_) (nm_r (nI_1 lane) (hn (nI 2, nI 3, nI n, nI 4, nI c, nI t, bx_sum (cq_V k A) f3, upd a1 (32 + f) (cq_V k A f), a2, a3, a4, a5, a6, a7, a8, a9, a10, a11, a12, upd a13 u (nI (f + 1)), a14, a15, a16) ?_))⟩
  · rw [cq_at (f := a13) (by omega) rfl h13]
    exact cq_b1 f (by omega)
  · exact ⟨⟨hk, hu, hn16, by omega, hbn, hf3, by omega, ht'⟩, ⟨rfl, rfl, rfl, rfl, rfl, rfl, rfl⟩, P, cq_A_put hA, hz, ⟨h8u, h83, h8o⟩, ⟨h9, h10, h12, pk_us⟩,
      ⟨h93, h103, h123, by rw [pk_un (by omega)]; exact h133⟩, cq_Q_f Qu, Q3⟩
theorem cq_fux {post : St2 → Prop} {k u n c t wu w3 b f b3 f3 m lane : Nat} {A : Nat → Int32} {zz : Int32} {s : St2} (I : cq_I k u n A zz c t wu w3 b f b3 f3 s) (hl : lane ≤ 2) (hb : lane = 2 ∨ b ≤ f ∨ t < 6 + f / 2)
    (hg : cq_G post u s) : cq_F post u (m + 1) lane s := by
  obtain ⟨l, d, len, pl, nx, now, sm, a1, a2, a3, a4, a5, a6, a7, a8, a9, a10, a11, a12, a13, a14, a15, a16⟩ := s
  obtain ⟨⟨hk, hu, hn16, hfb, hbn, hf3, hb3, ht'⟩, ⟨rfl, rfl, rfl, rfl, rfl, rfl, rfl⟩, P, hA, hz, ⟨h8u, h83, h8o⟩, ⟨h9, h10, h12, h13⟩, ⟨h93, h103, h123, h133⟩, Qu, Q3⟩ := I
  refine pk_le 2 lane (fun _ => hg) (fun q0 => ⟨pk_in u 4 (by omega), nm_r (cq_at (by omega) rfl h13) ⟨pk_in u 4 (by omega), pk_le b f (fun _ => hg) (fun q1 => ?_) (cq_at (by omega) rfl h12)⟩⟩)
  have q := Qu f (Nat.le_refl f) q1
  exact ⟨pk_in (16 * u + f) 64 (by omega) (cq_ij u f), pk_le (6 + f / 2) t (fun q => absurd q (by omega)) (fun _ => hg) (cq_at (by omega) (cq_ij u f) q.2) rfl⟩
theorem cq_fu {post : St2 → Prop} {k u n c t wu w3 b b3 f3 : Nat} {A : Nat → Int32} {zz : Int32} : ∀ (m lane f : Nat) (s : St2), lane + m = 2 → f ≤ 2 * (t - 5) → cq_I k u n A zz c t wu w3 b f b3 f3 s →
    (∀ s', cq_I k u n A zz c t wu w3 b (min (min b (2 * (t - 5))) (f + m)) b3 f3 s' → cq_G post u s') → cq_F post u (m + 1) lane s
  | 0, lane, f, s, hl, hf, I, hp => by
    have hbn : f ≤ b := by
      obtain ⟨l, d, len, pl, nx, now, sm, a1, a2, a3, a4, a5, a6, a7, a8, a9, a10, a11, a12, a13, a14, a15, a16⟩ := s
      exact I.1.2.2.2.1
    refine cq_fux I (by omega) (Or.inl (by omega)) (hp s ?_)
    rw [show min (min b (2 * (t - 5))) (f + 0) = f by omega]
    exact I
  | m + 1, lane, f, s, hl, hf, I, hp => by
    have hbn : f ≤ b := by
      obtain ⟨l, d, len, pl, nx, now, sm, a1, a2, a3, a4, a5, a6, a7, a8, a9, a10, a11, a12, a13, a14, a15, a16⟩ := s
      exact I.1.2.2.2.1
    by_cases h : f < b ∧ 6 + f / 2 ≤ t
    · refine cq_fu1 I (by omega) h.1 h.2 (fun s' I' => cq_fu m (lane + 1) (f + 1) s' (by omega) (by omega) I' (fun s'' I'' => hp s'' ?_))
      rw [show f + (m + 1) = f + 1 + m by omega]
      exact I''
    · refine cq_fux I (by omega) (by omega) (hp s ?_)
      rw [show min (min b (2 * (t - 5))) (f + (m + 1)) = f by omega]
      exact I
theorem cq_gu {post : St2 → Prop} {k u n c t w3 b f b3 f3 : Nat} {A : Nat → Int32} {zz : Int32} {s : St2} (I : cq_I k u n A zz c t 1 w3 b f b3 f3 s)
    (hp : ∀ s', cq_I k u n A zz c t (if f < n then 1 else 0) w3 b f b3 f3 s' → post s') : cq_G post u s := by
  obtain ⟨l, d, len, pl, nx, now, sm, a1, a2, a3, a4, a5, a6, a7, a8, a9, a10, a11, a12, a13, a14, a15, a16⟩ := s
  obtain ⟨⟨hk, hu, hn16, hfb, hbn, hf3, hb3, ht'⟩, ⟨rfl, rfl, rfl, rfl, rfl, rfl, rfl⟩, P, hA, hz, ⟨h8u, h83, h8o⟩, ⟨h9, h10, h12, h13⟩, ⟨h93, h103, h123, h133⟩, Qu, Q3⟩ := I
  refine ⟨pk_in u 4 (by omega), pk_in u 4 (by omega), pk_le n f (fun q => ?_) (fun q => ?_) (cq_at (by omega) rfl h10) (cq_at (by omega) rfl h13)⟩
  · refine pk_eq u 3 (fun q => absurd q (by omega)) (fun _ => ⟨pk_in u 4 (by omega), nm_r (cq_up (x' := nI 0) (by omega) rfl rfl) (hp _ ?_)⟩)
    rw [if_neg (by omega)]
    exact ⟨⟨hk, hu, hn16, hfb, hbn, hf3, hb3, ht'⟩, ⟨rfl, rfl, rfl, rfl, rfl, rfl, rfl⟩, P, hA, hz, ⟨pk_us, by rw [pk_un (by omega)]; exact h83, fun j h1 h2 h3 => by rw [pk_un h2]; exact h8o j h1 h2 h3⟩, ⟨h9, h10, h12, h13⟩,
      ⟨h93, h103, h123, h133⟩, Qu, Q3⟩
  · refine hp _ ?_
    rw [if_pos q]
    exact ⟨⟨hk, hu, hn16, hfb, hbn, hf3, hb3, ht'⟩, ⟨rfl, rfl, rfl, rfl, rfl, rfl, rfl⟩, P, hA, hz, ⟨h8u, h83, h8o⟩, ⟨h9, h10, h12, h13⟩, ⟨h93, h103, h123, h133⟩, Qu, Q3⟩
theorem cq_finO {post : St2 → Prop} {j : Nat} {l d len pl nx now sm : Int32} {a1 a2 a3 a4 a5 a6 a7 a8 a9 a10 a11 a12 a13 a14 a15 a16 : Nat → Int32} (hj : j < 4) (h : a8 j = nI 0) (hp : post (l, d, len, pl, nx, now, sm, a1, a2, a3, a4, a5, a6, a7, a8, a9, a10, a11, a12, a13, a14, a15, a16)) : wpX_finishElements post (l, d, len, pl, nx, now, sm, a1, a2, a3, a4, a5, a6, a7, a8, a9, a10, a11, a12, a13, a14, a15, a16) (nI j) :=
  ⟨pk_in j 4 hj, br_t (cq_at (by omega) rfl h) hp⟩
theorem cq_finU {post : St2 → Prop} {k u n c t wu w3 b f b3 f3 : Nat} {A : Nat → Int32} {zz : Int32} {s : St2} (I : cq_I k u n A zz c t wu w3 b f b3 f3 s) (hwu : wu = 0 → n ≤ f) (hwv : wu ≤ 1) (hf : f ≤ 2 * (t - 5))
    (hp : ∀ s', cq_I k u n A zz c t (if min (min b (2 * (t - 5))) (f + 2) < n then 1 else 0) w3 b (min (min b (2 * (t - 5))) (f + 2)) b3 f3 s' → post s') : wpX_finishElements post s (nI u) := by
  rcases (show wu = 0 ∨ wu = 1 by omega) with rfl | rfl
  · have I' := I
    obtain ⟨l, d, len, pl, nx, now, sm, a1, a2, a3, a4, a5, a6, a7, a8, a9, a10, a11, a12, a13, a14, a15, a16⟩ := s
    obtain ⟨⟨hk, hu, hn16, hfb, hbn, hf3, hb3, ht'⟩, ⟨rfl, rfl, rfl, rfl, rfl, rfl, rfl⟩, P, hA, hz, ⟨h8u, h83, h8o⟩, ⟨h9, h10, h12, h13⟩, ⟨h93, h103, h123, h133⟩, Qu, Q3⟩ := I'
    have := hwu rfl
    refine cq_finO (by omega) h8u (hp _ ?_)
    rw [show min (min b (2 * (t - 5))) (f + 2) = f by omega, if_neg (by omega)]
    exact I
  · have h := cq_fu (post := post) 2 0 f s rfl hf I (fun s' I' => cq_gu I' hp)
    obtain ⟨l, d, len, pl, nx, now, sm, a1, a2, a3, a4, a5, a6, a7, a8, a9, a10, a11, a12, a13, a14, a15, a16⟩ := s
    obtain ⟨⟨hk, hu, hn16, hfb, hbn, hf3, hb3, ht'⟩, ⟨rfl, rfl, rfl, rfl, rfl, rfl, rfl⟩, P, hA, hz, ⟨h8u, h83, h8o⟩, ⟨h9, h10, h12, h13⟩, ⟨h93, h103, h123, h133⟩, Qu, Q3⟩ := I
    exact ⟨pk_in u 4 (by omega), pk_eq 1 0 (fun q => absurd q (by omega)) (fun _ => ⟨3, h⟩) (cq_at (by omega) rfl h8u)⟩
theorem cq_f31 {post : St2 → Prop} {k u n c t wu w3 b f b3 f3 m lane : Nat} {A : Nat → Int32} {zz : Int32} {s : St2} (I : cq_I k u n A zz c t wu w3 b f b3 f3 s) (hl : lane < 2) (hb : f3 < b3) (ht : 9 + f3 / 2 ≤ t)
    (hn : ∀ s', cq_I k u n A zz c t wu w3 b f b3 (f3 + 1) s' → cq_F post 3 m (lane + 1) s') : cq_F post 3 (m + 1) lane s := by
  obtain ⟨l, d, len, pl, nx, now, sm, a1, a2, a3, a4, a5, a6, a7, a8, a9, a10, a11, a12, a13, a14, a15, a16⟩ := s
  obtain ⟨⟨hk, hu, hn16, hfb, hbn, hf3, hb3, ht'⟩, ⟨rfl, rfl, rfl, rfl, rfl, rfl, rfl⟩, P, hA, hz, ⟨h8u, h83, h8o⟩, ⟨h9, h10, h12, h13⟩, ⟨h93, h103, h123, h133⟩, Qu, Q3⟩ := I
  have q := Q3 f3 (Nat.le_refl f3) hb
  refine pk_le 2 lane (fun q => absurd q (by omega)) (fun _ => ⟨pk_in 3 4 (by omega), nm_r (cq_at (by omega) rfl h133) ⟨pk_in 3 4 (by omega), pk_le b3 f3 (fun q => absurd q (by omega)) (fun _ => ⟨pk_in (16 * 3 + f3) 64 (by omega) (cq_ij 3 f3), pk_le (9 + f3 / 2) t (fun _ => cq_d3 (by omega) q.1 ?_) (fun q => absurd q (by omega)) (cq_at (by omega) (cq_ij 3 f3) q.2) rfl⟩) (cq_at (by omega) rfl h123)⟩⟩)
  refine ⟨pk_in 3 4 (by omega), pk_in 3 4 (by omega), nm_r (cq_up (x' := nI (f3 + 1)) (by omega) rfl ?_) (nm_r (nI_1 lane) (hn (nI 2, nI 3, nI n, nI 4, nI c, nI t, bx_sum (cq_V k A) f3 + cq_V k A f3, a1, a2, a3, a4, a5, a6, a7, a8, a9, a10, a11, a12, upd a13 3 (nI (f3 + 1)), a14, a15, a16) ?_))⟩
  · rw [cq_at (f := a13) (by omega) rfl h133]
    exact cq_b1 f3 (by omega)
  · exact ⟨⟨hk, hu, hn16, hfb, hbn, by omega, hb3, ht'⟩, ⟨rfl, rfl, rfl, rfl, rfl, rfl, rfl⟩, P, hA, hz, ⟨h8u, h83, h8o⟩, ⟨h9, h10, h12, by rw [pk_un (by omega)]; exact h13⟩,
      ⟨h93, h103, h123, pk_us⟩, Qu, cq_Q_f Q3⟩
theorem cq_f3x {post : St2 → Prop} {k u n c t wu w3 b f b3 f3 m lane : Nat} {A : Nat → Int32} {zz : Int32} {s : St2} (I : cq_I k u n A zz c t wu w3 b f b3 f3 s) (hl : lane ≤ 2) (hb : lane = 2 ∨ b3 ≤ f3 ∨ t < 9 + f3 / 2)
    (hg : cq_G post 3 s) : cq_F post 3 (m + 1) lane s := by
  obtain ⟨l, d, len, pl, nx, now, sm, a1, a2, a3, a4, a5, a6, a7, a8, a9, a10, a11, a12, a13, a14, a15, a16⟩ := s
  obtain ⟨⟨hk, hu, hn16, hfb, hbn, hf3, hb3, ht'⟩, ⟨rfl, rfl, rfl, rfl, rfl, rfl, rfl⟩, P, hA, hz, ⟨h8u, h83, h8o⟩, ⟨h9, h10, h12, h13⟩, ⟨h93, h103, h123, h133⟩, Qu, Q3⟩ := I
  refine pk_le 2 lane (fun _ => hg) (fun q0 => ⟨pk_in 3 4 (by omega), nm_r (cq_at (by omega) rfl h133) ⟨pk_in 3 4 (by omega), pk_le b3 f3 (fun _ => hg) (fun q1 => ?_) (cq_at (by omega) rfl h123)⟩⟩)
  have q := Q3 f3 (Nat.le_refl f3) q1
  exact ⟨pk_in (16 * 3 + f3) 64 (by omega) (cq_ij 3 f3), pk_le (9 + f3 / 2) t (fun q => absurd q (by omega)) (fun _ => hg) (cq_at (by omega) (cq_ij 3 f3) q.2) rfl⟩
theorem cq_f3 {post : St2 → Prop} {k u n c t wu w3 b f b3 : Nat} {A : Nat → Int32} {zz : Int32} : ∀ (m lane f3 : Nat) (s : St2), lane + m = 2 → f3 ≤ 2 * (t - 8) → cq_I k u n A zz c t wu w3 b f b3 f3 s →
    (∀ s', cq_I k u n A zz c t wu w3 b f b3 (min (min b3 (2 * (t - 8))) (f3 + m)) s' → cq_G post 3 s') → cq_F post 3 (m + 1) lane s
  | 0, lane, f3, s, hl, hf, I, hp => by
    have hbn : f3 ≤ b3 := by
      obtain ⟨l, d, len, pl, nx, now, sm, a1, a2, a3, a4, a5, a6, a7, a8, a9, a10, a11, a12, a13, a14, a15, a16⟩ := s
      exact I.1.2.2.2.2.2.1
    refine cq_f3x I (by omega) (Or.inl (by omega)) (hp s ?_)
    rw [show min (min b3 (2 * (t - 8))) (f3 + 0) = f3 by omega]
    exact I
  | m + 1, lane, f3, s, hl, hf, I, hp => by
    have hbn : f3 ≤ b3 := by
      obtain ⟨l, d, len, pl, nx, now, sm, a1, a2, a3, a4, a5, a6, a7, a8, a9, a10, a11, a12, a13, a14, a15, a16⟩ := s
      exact I.1.2.2.2.2.2.1
    by_cases h : f3 < b3 ∧ 9 + f3 / 2 ≤ t
    · refine cq_f31 I (by omega) h.1 h.2 (fun s' I' => cq_f3 m (lane + 1) (f3 + 1) s' (by omega) (by omega) I' (fun s'' I'' => hp s'' ?_))
      rw [show f3 + (m + 1) = f3 + 1 + m by omega]
      exact I''
    · refine cq_f3x I (by omega) (by omega) (hp s ?_)
      rw [show min (min b3 (2 * (t - 8))) (f3 + (m + 1)) = f3 by omega]
      exact I
theorem cq_g3 {post : St2 → Prop} {k u n c t wu b f b3 f3 : Nat} {A : Nat → Int32} {zz : Int32} {s : St2} (I : cq_I k u n A zz c t wu 1 b f b3 f3 s)
    (hp : ∀ s', cq_I k u n A (if f3 < n then zz else bx_sum (cq_V k A) f3) c t wu (if f3 < n then 1 else 0) b f b3 f3 s' → post s') : cq_G post 3 s := by
  obtain ⟨l, d, len, pl, nx, now, sm, a1, a2, a3, a4, a5, a6, a7, a8, a9, a10, a11, a12, a13, a14, a15, a16⟩ := s
  obtain ⟨⟨hk, hu, hn16, hfb, hbn, hf3, hb3, ht'⟩, ⟨rfl, rfl, rfl, rfl, rfl, rfl, rfl⟩, P, hA, hz, ⟨h8u, h83, h8o⟩, ⟨h9, h10, h12, h13⟩, ⟨h93, h103, h123, h133⟩, Qu, Q3⟩ := I
  have e9 := h93 (by omega)
  have e10 := h103 (by omega)
  have e9' : a9 (nI 3).toNatClampNeg = nI 3 := cq_at (by omega) rfl e9
  have e5 : a5 (a9 (nI 3).toNatClampNeg).toNatClampNeg = nI 0 := cq_at (by omega) e9' P.2.2.2.1
  refine ⟨pk_in 3 4 (by omega), pk_in 3 4 (by omega), pk_le n f3 (fun q => ?_) (fun q => ?_) (cq_at (by omega) rfl e10) (cq_at (by omega) rfl h133)⟩
  · refine pk_eq 3 3 (fun _ => ⟨pk_in 3 4 (by omega), pk_in 3 16 (by omega) e9', pk_in 0 4 (by omega) e5, nm_r (cq_up (by omega) e5 rfl) ⟨pk_in 3 4 (by omega), nm_r (cq_up (x' := nI 0) (by omega) rfl rfl) (hp _ ?_)⟩⟩) (fun q => absurd rfl q)
    rw [if_neg (by omega), if_neg (by omega)]
    exact ⟨⟨hk, hu, hn16, hfb, hbn, hf3, hb3, ht'⟩, ⟨rfl, rfl, rfl, rfl, rfl, rfl, rfl⟩, P, hA, pk_us, ⟨by rw [pk_un (by omega)]; exact h8u, pk_us, fun j h1 h2 h3 => by rw [pk_un h3]; exact h8o j h1 h2 h3⟩, ⟨h9, h10, h12, h13⟩,
      ⟨fun q => absurd rfl q, fun q => absurd rfl q, h123, h133⟩, Qu, Q3⟩
  · refine hp _ ?_
    rw [if_pos q, if_pos q]
    exact ⟨⟨hk, hu, hn16, hfb, hbn, hf3, hb3, ht'⟩, ⟨rfl, rfl, rfl, rfl, rfl, rfl, rfl⟩, P, hA, hz, ⟨h8u, h83, h8o⟩, ⟨h9, h10, h12, h13⟩, ⟨h93, h103, h123, h133⟩, Qu, Q3⟩
theorem cq_fin3 {post : St2 → Prop} {k u n c t wu b f b3 f3 : Nat} {A : Nat → Int32} {zz : Int32} {s : St2} (I : cq_I k u n A zz c t wu 1 b f b3 f3 s) (hf : f3 ≤ 2 * (t - 8))
    (hp : ∀ s', cq_I k u n A (if min (min b3 (2 * (t - 8))) (f3 + 2) < n then zz else bx_sum (cq_V k A) (min (min b3 (2 * (t - 8))) (f3 + 2))) c t wu (if min (min b3 (2 * (t - 8))) (f3 + 2) < n then 1 else 0) b f b3 (min (min b3 (2 * (t - 8))) (f3 + 2)) s' → post s') :
    wpX_finishElements post s (nI 3) := by
  have h := cq_f3 (post := post) 2 0 f3 s rfl hf I (fun s' I' => cq_g3 I' hp)
  obtain ⟨l, d, len, pl, nx, now, sm, a1, a2, a3, a4, a5, a6, a7, a8, a9, a10, a11, a12, a13, a14, a15, a16⟩ := s
  obtain ⟨⟨hk, hu, hn16, hfb, hbn, hf3, hb3, ht'⟩, ⟨rfl, rfl, rfl, rfl, rfl, rfl, rfl⟩, P, hA, hz, ⟨h8u, h83, h8o⟩, ⟨h9, h10, h12, h13⟩, ⟨h93, h103, h123, h133⟩, Qu, Q3⟩ := I
  exact ⟨pk_in 3 4 (by omega), pk_eq 1 0 (fun q => absurd q (by omega)) (fun _ => ⟨3, h⟩) (cq_at (by omega) rfl h83)⟩
end
section
/-! beginInOrder: the older unit first -/
def cq_J (J4 : Int32 → Int32 → Int32 → Int32 → Int32 → Int32 → Int32 → Int32 → Int32 → (Nat → Int32) → (Nat → Int32) → (Nat → Int32) → (Nat → Int32) → (Nat → Int32) → (Nat → Int32) → (Nat → Int32) → (Nat → Int32) → (Nat → Int32) → (Nat → Int32) → (Nat → Int32) → (Nat → Int32) → (Nat → Int32) → (Nat → Int32) → (Nat → Int32) → (Nat → Int32) → Prop) (x1 x2 : Int32) (s : St2) : Prop := match s with
  | (l, d, len, pl, nx, now, sm, a1, a2, a3, a4, a5, a6, a7, a8, a9, a10, a11, a12, a13, a14, a15, a16) => J4 x1 x2 l d len pl nx now sm a1 a2 a3 a4 a5 a6 a7 a8 a9 a10 a11 a12 a13 a14 a15 a16
theorem cq_sk {post : St2 → Prop} {J4} {x1 x2 x3 : Int32} {j m : Nat} {l d len pl nx now sm : Int32} {a1 a2 a3 a4 a5 a6 a7 a8 a9 a10 a11 a12 a13 a14 a15 a16 : Nat → Int32} (hj : j < 4) (h : a8 j = 0 ∨ ¬ x1 < a9 j ∨ (¬ x3 < 0 ∧ vp_in x3 4 ∧ a9 x3.toNatClampNeg ≤ a9 j))
    (hn : wX_beginInOrder_14 post J4 x1 x2 l d len pl nx now sm a1 a2 a3 a4 a5 a6 a7 a8 a9 a10 a11 a12 a13 a14 a15 a16 m x3 (nI (j + 1))) : wX_beginInOrder_14 post J4 x1 x2 l d len pl nx now sm a1 a2 a3 a4 a5 a6 a7 a8 a9 a10 a11 a12 a13 a14 a15 a16 (m + 1) x3 (nI j) := by
  have ej : (nI j).toNatClampNeg = j := nI_clamp (by omega)
  refine pk_le 4 j (fun q => absurd q (by omega)) (fun _ => ⟨pk_in j 4 hj, ?_⟩)
  rw [ej]
  refine br_c (fun _ => nm_r (nI_1 j) hn) (fun e => ⟨pk_in j 4 hj, br_c (fun e1 => ?_) (fun _ => nm_r (nI_1 j) hn)⟩)
  rcases h with h | h | ⟨h, h', h''⟩
  · exact absurd h e
  · exact absurd e1 h
  · exact br_f h ⟨pk_in j 4 hj, h', br_t h'' (nm_r (nI_1 j) hn)⟩
theorem cq_st {post : St2 → Prop} {J4} {x1 x2 x3 : Int32} {j m : Nat} {l d len pl nx now sm : Int32} {a1 a2 a3 a4 a5 a6 a7 a8 a9 a10 a11 a12 a13 a14 a15 a16 : Nat → Int32} (hj : j < 4) (h8 : ¬ a8 j = 0) (h9 : x1 < a9 j) (h3 : x3 < 0)
    (hn : wX_beginInOrder_14 post J4 x1 x2 l d len pl nx now sm a1 a2 a3 a4 a5 a6 a7 a8 a9 a10 a11 a12 a13 a14 a15 a16 m (nI j) (nI (j + 1))) : wX_beginInOrder_14 post J4 x1 x2 l d len pl nx now sm a1 a2 a3 a4 a5 a6 a7 a8 a9 a10 a11 a12 a13 a14 a15 a16 (m + 1) x3 (nI j) := by
  have ej : (nI j).toNatClampNeg = j := nI_clamp (by omega)
  refine pk_le 4 j (fun q => absurd q (by omega)) (fun _ => ⟨pk_in j 4 hj, ?_⟩)
  rw [ej]
  exact br_f h8 ⟨pk_in j 4 hj, br_t h9 (br_t h3 (nm_r (nI_1 j) hn))⟩
/-- none is left -/
theorem cq_s0 {post : St2 → Prop} {J4} {x1 x2 : Int32} {l d len pl nx now sm : Int32} {a1 a2 a3 a4 a5 a6 a7 a8 a9 a10 a11 a12 a13 a14 a15 a16 : Nat → Int32} (h : ∀ j, j < 4 → a8 j = 0 ∨ ¬ x1 < a9 j) (hp : post (l, d, len, pl, nx, now, sm, a1, a2, a3, a4, a5, a6, a7, a8, a9, a10, a11, a12, a13, a14, a15, a16)) : wX_beginInOrder_14 post J4 x1 x2 l d len pl nx now sm a1 a2 a3 a4 a5 a6 a7 a8 a9 a10 a11 a12 a13 a14 a15 a16 5 (-1) 0 :=
  have g : ∀ j, j < 4 → a8 j = 0 ∨ ¬ x1 < a9 j ∨ (¬ (-1 : Int32) < 0 ∧ vp_in (-1) 4 ∧ a9 (-1 : Int32).toNatClampNeg ≤ a9 j) := fun j hj => (h j hj).elim Or.inl (fun q => Or.inr (Or.inl q))
  cq_sk (j := 0) (by omega) (g 0 (by omega)) (cq_sk (j := 1) (by omega) (g 1 (by omega)) (cq_sk (j := 2) (by omega) (g 2 (by omega)) (cq_sk (j := 3) (by omega) (g 3 (by omega))
    (pk_le 4 4 (fun _ => br_f (by decide) hp) (fun q => absurd q (by omega))))))
/-- unit 3 is the only one -/
theorem cq_s3 {post : St2 → Prop} {J4} {x1 x2 : Int32} {l d len pl nx now sm : Int32} {a1 a2 a3 a4 a5 a6 a7 a8 a9 a10 a11 a12 a13 a14 a15 a16 : Nat → Int32} (h : ∀ j, j < 3 → a8 j = 0 ∨ ¬ x1 < a9 j) (h8 : ¬ a8 3 = 0) (h9 : x1 < a9 3) (hn : wX_beginInOrder_14 post J4 x1 x2 l d len pl nx now sm a1 a2 a3 a4 a5 a6 a7 a8 a9 a10 a11 a12 a13 a14 a15 a16 1 (nI 3) (nI 4)) : wX_beginInOrder_14 post J4 x1 x2 l d len pl nx now sm a1 a2 a3 a4 a5 a6 a7 a8 a9 a10 a11 a12 a13 a14 a15 a16 5 (-1) 0 :=
  have g : ∀ j, j < 3 → a8 j = 0 ∨ ¬ x1 < a9 j ∨ (¬ (-1 : Int32) < 0 ∧ vp_in (-1) 4 ∧ a9 (-1 : Int32).toNatClampNeg ≤ a9 j) := fun j hj => (h j hj).elim Or.inl (fun q => Or.inr (Or.inl q))
  cq_sk (j := 0) (by omega) (g 0 (by omega)) (cq_sk (j := 1) (by omega) (g 1 (by omega)) (cq_sk (j := 2) (by omega) (g 2 (by omega)) (cq_st (j := 3) (by omega) h8 h9 (by decide) hn)))
/-- unit u comes first -/
theorem cq_su {post : St2 → Prop} {J4} {x2 : Int32} {u w3 : Nat} {l d len pl nx now sm : Int32} {a1 a2 a3 a4 a5 a6 a7 a8 a9 a10 a11 a12 a13 a14 a15 a16 : Nat → Int32} (hu : u ≤ 1) (h8u : ¬ a8 u = 0) (h8o : ∀ j, j < 4 → j ≠ u → j ≠ 3 → a8 j = nI 0) (h83 : a8 3 = nI w3) (h9 : a9 u = nI 2) (h93 : w3 ≠ 0 → a9 3 = nI 3)
    (hn : wX_beginInOrder_14 post J4 (-1) x2 l d len pl nx now sm a1 a2 a3 a4 a5 a6 a7 a8 a9 a10 a11 a12 a13 a14 a15 a16 1 (nI u) (nI 4)) : wX_beginInOrder_14 post J4 (-1) x2 l d len pl nx now sm a1 a2 a3 a4 a5 a6 a7 a8 a9 a10 a11 a12 a13 a14 a15 a16 5 (-1) 0 := by
  have h2 : wX_beginInOrder_14 post J4 (-1) x2 l d len pl nx now sm a1 a2 a3 a4 a5 a6 a7 a8 a9 a10 a11 a12 a13 a14 a15 a16 3 (nI u) (nI 2) := by
    refine cq_sk (j := 2) (by omega) (Or.inl (h8o 2 (by omega) (by omega) (by omega))) (cq_sk (j := 3) (by omega) ?_ hn)
    by_cases w : w3 = 0
    · left
      rw [h83, w]
      exact nI_0
    · right
      right
      refine ⟨nI_pos (by omega), vp_in_nI (by omega) (by omega), ?_⟩
      rw [nI_clamp (by omega), h9, h93 w]
      exact nI_le (by omega) (by omega)
  have e9 : (-1 : Int32) < a9 u := by
    rw [h9]
    decide
  rcases (show u = 0 ∨ u = 1 by omega) with rfl | rfl
  · exact cq_st (j := 0) (by omega) h8u e9 (by decide) (cq_sk (j := 1) (by omega) (Or.inl (h8o 1 (by omega) (by omega) (by omega))) h2)
  · exact cq_sk (j := 0) (by omega) (Or.inl (h8o 0 (by omega) (by omega) (by omega))) (cq_st (j := 1) (by omega) h8u e9 (by decide) h2)
/-- one turn of the outer loop that begins elements of u, of 3 -/
theorem cq_goU {post : St2 → Prop} {J4} {k u n c t wu w3 b f b3 f3 x2 : Nat} {A : Nat → Int32} {zz : Int32} {l d len pl nx now sm : Int32} {a1 a2 a3 a4 a5 a6 a7 a8 a9 a10 a11 a12 a13 a14 a15 a16 : Nat → Int32} (I : cq_I k u n A zz c t wu w3 b f b3 f3 (l, d, len, pl, nx, now, sm, a1, a2, a3, a4, a5, a6, a7, a8, a9, a10, a11, a12, a13, a14, a15, a16)) (hb : b < n → 3 ≤ t ∧ b = 2 * (t - 3))
    (hJ : ∀ s', cq_I k u n A zz c t wu w3 (min n (b + 2)) f b3 f3 s' → cq_J J4 (nI 2) (nI (x2 + 1)) s') {x1 : Int32} : wX_beginInOrder_14 post J4 x1 (nI x2) l d len pl nx now sm a1 a2 a3 a4 a5 a6 a7 a8 a9 a10 a11 a12 a13 a14 a15 a16 1 (nI u) (nI 4) := by
  have hu : u ≤ 1 := I.1.2.1
  have h9 : a9 u = nI 2 := I.2.2.2.2.2.2.1.1
  refine pk_le 4 4 (fun _ => pk_le 0 u (fun _ => ⟨pk_in u 4 (by omega), nm_r (cq_at (by omega) rfl h9) (cq_begU I hb (fun s' I' => ?_))⟩) (fun q => absurd q (by omega))) (fun q => absurd q (by omega))
  have h := hJ s' I'
  obtain ⟨l, d, len, pl, nx, now, sm, a1, a2, a3, a4, a5, a6, a7, a8, a9, a10, a11, a12, a13, a14, a15, a16⟩ := s'
  exact nm_r (nI_1 x2) h
theorem cq_go3 {post : St2 → Prop} {J4} {k u n c t wu w3 b f b3 f3 x2 : Nat} {A : Nat → Int32} {zz : Int32} {l d len pl nx now sm : Int32} {a1 a2 a3 a4 a5 a6 a7 a8 a9 a10 a11 a12 a13 a14 a15 a16 : Nat → Int32} (I : cq_I k u n A zz c t wu w3 b f b3 f3 (l, d, len, pl, nx, now, sm, a1, a2, a3, a4, a5, a6, a7, a8, a9, a10, a11, a12, a13, a14, a15, a16)) (hw : w3 ≠ 0) (hwu : wu = 0 → n ≤ f) (hwv : wu ≤ 1) (hb : b3 < f → 6 ≤ t ∧ b3 = 2 * (t - 6))
    (hJ : ∀ s', cq_I k u n A zz c t wu w3 b f (min f (b3 + 2)) f3 s' → cq_J J4 (nI 3) (nI (x2 + 1)) s') {x1 : Int32} : wX_beginInOrder_14 post J4 x1 (nI x2) l d len pl nx now sm a1 a2 a3 a4 a5 a6 a7 a8 a9 a10 a11 a12 a13 a14 a15 a16 1 (nI 3) (nI 4) := by
  have h9 : a9 3 = nI 3 := I.2.2.2.2.2.2.2.1.1 hw
  refine pk_le 4 4 (fun _ => pk_le 0 3 (fun _ => ⟨pk_in 3 4 (by omega), nm_r (cq_at (by omega) rfl h9) (cq_beg3 I hw hwu hwv hb (fun s' I' => ?_))⟩) (fun q => absurd q (by omega))) (fun q => absurd q (by omega))
  have h := hJ s' I'
  obtain ⟨l, d, len, pl, nx, now, sm, a1, a2, a3, a4, a5, a6, a7, a8, a9, a10, a11, a12, a13, a14, a15, a16⟩ := s'
  exact nm_r (nI_1 x2) h
/-- the turn behind the last one -/
theorem cq_o3 {post : St2 → Prop} {k u n c t wu w3 b f b3 f3 m x2 : Nat} {A : Nat → Int32} {zz : Int32} {s : St2} (I : cq_I k u n A zz c t wu w3 b f b3 f3 s) (hx : x2 < 4) (hp : post s) : cq_J (wX_beginInOrder_4 post (m + 1)) (nI 3) (nI x2) s := by
  obtain ⟨l, d, len, pl, nx, now, sm, a1, a2, a3, a4, a5, a6, a7, a8, a9, a10, a11, a12, a13, a14, a15, a16⟩ := s
  obtain ⟨⟨hk, hu, hn16, hfb, hbn, hf3, hb3, ht'⟩, ⟨rfl, rfl, rfl, rfl, rfl, rfl, rfl⟩, P, hA, hz, ⟨h8u, h83, h8o⟩, ⟨h9, h10, h12, h13⟩, ⟨h93, h103, h123, h133⟩, Qu, Q3⟩ := I
  refine pk_le 4 x2 (fun q => absurd q (by omega)) (fun _ => ⟨5, cq_s0 (fun j hj => ?_) hp⟩)
  by_cases e : j = u
  · right
    rw [e, h9]
    exact nI_nlt (by omega) (by omega)
  · by_cases e3 : j = 3
    · subst e3
      by_cases w : w3 = 0
      · left
        rw [h83, w]
        exact nI_0
      · right
        rw [h93 w]
        exact nI_nlt (by omega) (by omega)
    · left
      exact h8o j hj e e3
/-- the turn behind unit u's -/
theorem cq_o2 {post : St2 → Prop} {k u n c t wu w3 b f b3 f3 m x2 : Nat} {A : Nat → Int32} {zz : Int32} {s : St2} (I : cq_I k u n A zz c t wu w3 b f b3 f3 s) (hx : x2 < 3) (hwu : wu = 0 → n ≤ f) (hwv : wu ≤ 1) (hw3 : w3 ≤ 1) (hw : w3 = 0 → f ≤ b3) (hb : b3 < f → 6 ≤ t ∧ b3 = 2 * (t - 6))
    (hp : ∀ s', cq_I k u n A zz c t wu w3 b f (min f (b3 + 2)) f3 s' → post s') : cq_J (wX_beginInOrder_4 post (m + 2)) (nI 2) (nI x2) s := by
  obtain ⟨l, d, len, pl, nx, now, sm, a1, a2, a3, a4, a5, a6, a7, a8, a9, a10, a11, a12, a13, a14, a15, a16⟩ := s
  have I0 := I
  obtain ⟨⟨hk, hu, hn16, hfb, hbn, hf3, hb3, ht'⟩, ⟨rfl, rfl, rfl, rfl, rfl, rfl, rfl⟩, P, hA, hz, ⟨h8u, h83, h8o⟩, ⟨h9, h10, h12, h13⟩, ⟨h93, h103, h123, h133⟩, Qu, Q3⟩ := I0
  have hj : ∀ j, j < 3 → a8 j = 0 ∨ ¬ nI 2 < a9 j := by
    intro j hj
    by_cases e : j = u
    · right
      rw [e, h9]
      exact nI_nlt (by omega) (by omega)
    · left
      exact h8o j (by omega) e (by omega)
  by_cases w : w3 = 0
  · have e := hw w
    refine pk_le 4 x2 (fun q => absurd q (by omega)) (fun _ => ⟨5, cq_s0 (fun j h4 => ?_) (hp _ ?_)⟩)
    · by_cases e3 : j = 3
      · left
        rw [e3, h83, w]
        exact nI_0
      · exact hj j (by omega)
    · rw [show min f (b3 + 2) = b3 by omega]
      exact I
  · refine pk_le 4 x2 (fun q => absurd q (by omega)) (fun _ => ⟨5, cq_s3 hj ?_ ?_ (cq_go3 I w hwu hwv hb (fun s' I' => cq_o3 I' (by omega) (hp s' I')))⟩)
    · rw [h83]
      exact nI_ne0 (by omega) (by omega)
    · rw [h93 w]
      exact nI_lt (by omega) (by omega)
theorem cq_beg {post : St2 → Prop} {k u n c t wu w3 b f b3 f3 : Nat} {A : Nat → Int32} {zz : Int32} {s : St2} (I : cq_I k u n A zz c t wu w3 b f b3 f3 s) (hwu : wu = 0 → n ≤ f) (hwv : wu ≤ 1) (hw3 : w3 ≤ 1) (hw : w3 = 0 → f ≤ b3)
    (hbu : b < n → 3 ≤ t ∧ b = 2 * (t - 3)) (hb : b3 < f → 6 ≤ t ∧ b3 = 2 * (t - 6))
    (hp : ∀ s', cq_I k u n A zz c t wu w3 (min n (b + 2)) f (min f (b3 + 2)) f3 s' → post s') : wpX_beginInOrder post s := by
  obtain ⟨l, d, len, pl, nx, now, sm, a1, a2, a3, a4, a5, a6, a7, a8, a9, a10, a11, a12, a13, a14, a15, a16⟩ := s
  have I0 := I
  obtain ⟨⟨hk, hu, hn16, hfb, hbn, hf3, hb3, ht'⟩, ⟨rfl, rfl, rfl, rfl, rfl, rfl, rfl⟩, P, hA, hz, ⟨h8u, h83, h8o⟩, ⟨h9, h10, h12, h13⟩, ⟨h93, h103, h123, h133⟩, Qu, Q3⟩ := I0
  rcases (show wu = 0 ∨ wu = 1 by omega) with w | w
  · have e := hwu w
    have hj : ∀ j, j < 3 → a8 j = 0 ∨ ¬ (-1 : Int32) < a9 j := by
      intro j hj
      left
      by_cases e : j = u
      · rw [e, h8u, w]
        exact nI_0
      · exact h8o j (by omega) e (by omega)
    by_cases w' : w3 = 0
    · have e' := hw w'
      refine ⟨4, pk_le 4 0 (fun q => absurd q (by omega)) (fun _ => ⟨5, cq_s0 (fun j h4 => ?_) (hp _ ?_)⟩)⟩
      · by_cases e3 : j = 3
        · left
          rw [e3, h83, w']
          exact nI_0
        · exact hj j (by omega)
      · rw [show min f (b3 + 2) = b3 by omega, show min n (b + 2) = b by omega]
        exact I
    · refine ⟨4, pk_le 4 0 (fun q => absurd q (by omega)) (fun _ => ⟨5, cq_s3 hj ?_ ?_ (cq_go3 (x2 := 0) I w' hwu hwv hb (fun s' I' => cq_o3 I' (by omega) (hp s' ?_)))⟩)⟩
      · rw [h83]
        exact nI_ne0 (by omega) (by omega)
      · rw [h93 w']
        decide
      · rw [show min n (b + 2) = b by omega]
        exact I'
  · refine ⟨4, pk_le 4 0 (fun q => absurd q (by omega)) (fun _ => ⟨5, cq_su hu ?_ h8o h83 h9 h93 (cq_goU (x2 := 0) I hbu (fun s' I' => cq_o2 I' (by omega) hwu hwv hw3 hw hb hp))⟩)⟩
    rw [h8u, w]
    exact nI_ne0 (by omega) (by omega)
/-- no unit works -/
theorem cq_beg0 {post : St2 → Prop} {l d len pl nx now sm : Int32} {a1 a2 a3 a4 a5 a6 a7 a8 a9 a10 a11 a12 a13 a14 a15 a16 : Nat → Int32} (h : ∀ j, j < 4 → a8 j = 0) (hp : post (l, d, len, pl, nx, now, sm, a1, a2, a3, a4, a5, a6, a7, a8, a9, a10, a11, a12, a13, a14, a15, a16)) : wpX_beginInOrder post (l, d, len, pl, nx, now, sm, a1, a2, a3, a4, a5, a6, a7, a8, a9, a10, a11, a12, a13, a14, a15, a16) :=
  ⟨4, pk_le 4 0 (fun q => absurd q (by omega)) (fun _ => ⟨5, cq_s0 (fun j hj => Or.inl (h j hj)) hp⟩)⟩
end
section
/-! issue, one instruction after the other -/
theorem cq_unit {post : Int32 → Prop} {k u : Nat} {l d len pl nx now sm : Int32} {a1 a2 a3 a4 a5 a6 a7 a8 a9 a10 a11 a12 a13 a14 a15 a16 : Nat → Int32} (hk : k ≤ 3) (h2 : k = 2 → u = 1) (h0 : k ≠ 2 → u = 0) (h : post (nI u)) : wpX_unitFor post (l, d, len, pl, nx, now, sm, a1, a2, a3, a4, a5, a6, a7, a8, a9, a10, a11, a12, a13, a14, a15, a16) (nI k) := by
  refine pk_eq k 2 (fun e => ?_) (fun e => pk_eq k 5 (fun q => absurd q (by omega)) (fun _ => pk_lt 4 k (fun q => absurd q (by omega)) (fun _ => ?_)))
  · have e' := h2 e
    subst e'
    exact h
  · have e' := h0 e
    subst e'
    exact h
theorem cq_iss4 {post : St2 → Prop} {l d len pl nx now sm : Int32} {a1 a2 a3 a4 a5 a6 a7 a8 a9 a10 a11 a12 a13 a14 a15 a16 : Nat → Int32} (hpl : pl = nI 4) (hnx : nx = nI 4) (hp : post (l, d, len, pl, nx, now, sm, a1, a2, a3, a4, a5, a6, a7, a8, a9, a10, a11, a12, a13, a14, a15, a16)) : wpX_issue post (l, d, len, pl, nx, now, sm, a1, a2, a3, a4, a5, a6, a7, a8, a9, a10, a11, a12, a13, a14, a15, a16) :=
  pk_lt 4 4 (fun q => absurd q (by omega)) (fun _ => hp) hnx hpl
theorem cq_iss3 {post : St2 → Prop} {k u n t wu b f : Nat} {A : Nat → Int32} {zz : Int32} {s : St2} (I : cq_I k u n A zz 3 t wu 0 b f 0 0 s) (hp : ∀ s', cq_I k u n A zz 4 t wu 1 b f 0 0 s' → post s') : wpX_issue post s := by
  obtain ⟨l, d, len, pl, nx, now, sm, a1, a2, a3, a4, a5, a6, a7, a8, a9, a10, a11, a12, a13, a14, a15, a16⟩ := s
  obtain ⟨⟨hk, hu, hn16, hfb, hbn, hf3, hb3, ht'⟩, ⟨rfl, rfl, rfl, rfl, rfl, rfl, rfl⟩, P, hA, hz, ⟨h8u, h83, h8o⟩, ⟨h9, h10, h12, h13⟩, ⟨h93, h103, h123, h133⟩, Qu, Q3⟩ := I
  refine pk_lt 3 4 (fun _ => ⟨pk_in 3 16 (by omega), nm_r (cq_at (by omega) rfl P.2.1) (br_t h83 (br_t rfl (pk_lt 9 10 (fun _ => ?_) (fun q => absurd q (by omega)))))⟩) (fun q => absurd q (by omega))
  refine pk_eq 9 2 (fun q => absurd q (by omega)) (fun _ => pk_eq 9 5 (fun q => absurd q (by omega)) (fun _ => pk_lt 4 9 (fun _ => pk_lt 8 9 (fun _ => ?_) (fun q => absurd q (by omega))) (fun q => absurd q (by omega))))
  refine ⟨pk_in 3 4 (by omega), br_t h83 ⟨pk_in 3 4 (by omega), nm_r (cq_up (j := 3) (x' := nI 1) (by omega) rfl rfl) ⟨pk_in 3 4 (by omega), nm_r (cq_up (j := 3) (x' := nI 3) (by omega) rfl (cq_nb 3 (by omega))) ⟨pk_in 3 4 (by omega), nm_r (cq_up (j := 3) (x' := nI n) (by omega) rfl (cq_nb n (by omega))) ⟨pk_in 3 4 (by omega), nm_r (cq_up (j := 3) (x' := nI 0) (by omega) rfl rfl) ⟨pk_in 3 4 (by omega), nm_r (cq_up (j := 3) (x' := nI 0) (by omega) rfl rfl) ?_⟩⟩⟩⟩⟩⟩
  refine pk_eq 9 4 (fun q => absurd q (by omega)) (fun _ => pk_eq 9 5 (fun q => absurd q (by omega)) (fun _ => pk_eq 9 6 (fun q => absurd q (by omega)) (fun _ => pk_eq 9 7 (fun q => absurd q (by omega)) (fun _ => pk_eq 9 9 (fun _ => nm_r (nI_1 3) (hp _ ?_)) (fun q => absurd rfl q)))))
  exact ⟨⟨hk, hu, hn16, hfb, hbn, hf3, hb3, ht'⟩, ⟨rfl, rfl, rfl, rfl, rfl, rfl, rfl⟩, P, hA, hz, ⟨by rw [pk_un (by omega)]; exact h8u, pk_us, fun j h1 h2 h3 => by rw [pk_un h3]; exact h8o j h1 h2 h3⟩,
    ⟨by rw [pk_un (by omega)]; exact h9, by rw [pk_un (by omega)]; exact h10, by rw [pk_un (by omega)]; exact h12, by rw [pk_un (by omega)]; exact h13⟩,
    ⟨fun _ => pk_us, fun _ => pk_us, pk_us, pk_us⟩, Qu, Q3⟩
theorem cq_iss2 {post : St2 → Prop} {k u n t : Nat} {A : Nat → Int32} {a1 a2 a3 a4 a5 a6 a7 a8 a9 a10 a11 a12 a13 a14 a15 a16 : Nat → Int32} (hk : k ≤ 3) (h2 : k = 2 → u = 1) (h0 : k ≠ 2 → u = 0) (hn : n ≤ 16) (ht : t < 100) (P : cq_P k a4 a5 a6 a7) (hA : cq_A A (cq_V k A) 0 a1)
    (h8 : ∀ j, j < 4 → a8 j = nI 0) (h12 : a12 3 = nI 0) (h13 : a13 3 = nI 0) (hp : ∀ s', cq_I k u n A (a2 0) 3 t 1 0 0 0 0 0 s' → post s') :
    wpX_issue post (nI 2, nI 3, nI n, nI 4, nI 2, nI t, 0, a1, a2, a3, a4, a5, a6, a7, a8, a9, a10, a11, a12, a13, a14, a15, a16) := by
  have hu : u ≤ 1 := by
    by_cases e : k = 2
    · have := h2 e
      omega
    · have := h0 e
      omega
  refine pk_lt 2 4 (fun _ => ⟨pk_in 2 16 (by omega), nm_r (cq_at (by omega) rfl P.1) (br_t (h8 3 (by omega)) (br_t rfl (pk_lt k 10 (fun _ => cq_unit hk h2 h0 ?_) (fun q => absurd q (by omega)))))⟩) (fun q => absurd q (by omega))
  refine ⟨pk_in u 4 (by omega), br_t (cq_at (by omega) rfl (h8 u (by omega))) ⟨pk_in u 4 (by omega), nm_r (cq_up (x' := nI 1) (by omega) rfl rfl) ⟨pk_in u 4 (by omega), nm_r (cq_up (x' := nI 2) (by omega) rfl (cq_nb 2 (by omega))) ⟨pk_in u 4 (by omega), nm_r (cq_up (x' := nI n) (by omega) rfl (cq_nb n (by omega))) ⟨pk_in u 4 (by omega), nm_r (cq_up (x' := nI 0) (by omega) rfl rfl) ⟨pk_in u 4 (by omega), nm_r (cq_up (x' := nI 0) (by omega) rfl rfl) ?_⟩⟩⟩⟩⟩⟩
  refine pk_eq k 4 (fun q => absurd q (by omega)) (fun _ => pk_eq k 5 (fun q => absurd q (by omega)) (fun _ => pk_eq k 6 (fun q => absurd q (by omega)) (fun _ => pk_eq k 7 (fun q => absurd q (by omega)) (fun _ => pk_eq k 9 (fun q => absurd q (by omega)) (fun _ => nm_r (nI_1 2) (hp _ ?_))))))
  exact ⟨⟨hk, hu, hn, by omega, by omega, by omega, by omega, ht⟩, ⟨rfl, rfl, rfl, rfl, rfl, rfl, rfl⟩, P, hA, rfl, ⟨pk_us, by rw [pk_un (by omega)]; exact h8 3 (by omega), fun j h1 h2 h3 => by rw [pk_un h2]; exact h8 j h1⟩,
    ⟨pk_us, pk_us, pk_us, pk_us⟩, ⟨fun q => absurd rfl q, fun q => absurd rfl q, by rw [pk_un (by omega)]; exact h12, by rw [pk_un (by omega)]; exact h13⟩, cq_Q_nil, cq_Q_nil⟩
/-- the vector length that a scalar sets -/
def cq_cl (x : Int32) (n : Nat) : Prop := (0 ≤ x → x ≤ 16 → x = nI n) ∧ (0 ≤ x → ¬ x ≤ 16 → (16 : Int32) = nI n) ∧ (¬ 0 ≤ x → (0 : Int32) = nI n)
theorem cq_iss1 {post : St2 → Prop} {n : Nat} {x : Int32} {l d len now sm : Int32} {a1 a2 a3 a4 a5 a6 a7 a8 a9 a10 a11 a12 a13 a14 a15 a16 : Nat → Int32} (p4 : a4 1 = nI 12) (p5 : a5 1 = nI 3) (h2 : a2 3 = x) (hc : cq_cl x n) (h8 : a8 3 = nI 0) (hp : ∀ y, y = nI n → post (l, d, y, nI 4, nI 2, now, sm, a1, a2, a3, a4, a5, a6, a7, a8, a9, a10, a11, a12, a13, a14, a15, a16)) :
    wpX_issue post (l, d, len, nI 4, nI 1, now, sm, a1, a2, a3, a4, a5, a6, a7, a8, a9, a10, a11, a12, a13, a14, a15, a16) := by
  refine pk_lt 1 4 (fun _ => ⟨pk_in 1 16 (by omega), nm_r (cq_at (by omega) rfl p4) (br_t h8 (br_t rfl (pk_lt 12 10 (fun q => absurd q (by omega)) (fun _ => ?_))))⟩) (fun q => absurd q (by omega))
  refine ⟨pk_in 1 16 (by omega), nm_r (cq_at (by omega) rfl p5) ⟨pk_in 1 16 (by omega), nm_r (cq_at (by omega) rfl p4) (pk_eq 12 10 (fun q => absurd q (by omega)) (fun _ => pk_eq 12 11 (fun q => absurd q (by omega)) (fun _ => ⟨pk_in 3 4 (by omega), nm_r (cq_at (by omega) rfl h2) ?_⟩)))⟩⟩
  exact br_c (fun g0 => br_c (fun g1 => nm_r (nI_1 1) (hp _ (hc.1 g0 g1))) (fun g1 => nm_r (nI_1 1) (hp _ (hc.2.1 g0 g1)))) (fun g0 => nm_r (nI_1 1) (hp _ (hc.2.2 g0)))
theorem cq_iss0 {post : St2 → Prop} {x : Int32} {l d len now sm : Int32} {a1 a2 a3 a4 a5 a6 a7 a8 a9 a10 a11 a12 a13 a14 a15 a16 : Nat → Int32} (p4 : a4 0 = nI 10) (p5 : a5 0 = nI 3) (p6 : a6 0 = x) (h8 : a8 3 = nI 0) (hp : post (l, d, len, nI 4, nI 1, now, sm, a1, upd a2 3 x, a3, a4, a5, a6, a7, a8, a9, a10, a11, a12, a13, a14, a15, a16)) :
    wpX_issue post (l, d, len, nI 4, nI 0, now, sm, a1, a2, a3, a4, a5, a6, a7, a8, a9, a10, a11, a12, a13, a14, a15, a16) := by
  refine pk_lt 0 4 (fun _ => ⟨pk_in 0 16 (by omega), nm_r (cq_at (by omega) rfl p4) (br_t h8 (br_t rfl (pk_lt 10 10 (fun q => absurd q (by omega)) (fun _ => ?_))))⟩) (fun q => absurd q (by omega))
  exact ⟨pk_in 0 16 (by omega), nm_r (cq_at (by omega) rfl p5) ⟨pk_in 0 16 (by omega), nm_r (cq_at (by omega) rfl p4) (pk_eq 10 10 (fun _ => ⟨pk_in 0 16 (by omega), pk_in 3 4 (by omega), nm_r (cq_up (by omega) rfl (cq_at (by omega) rfl p6)) (nm_r (nI_1 0) hp)⟩) (fun q => absurd rfl q))⟩⟩
end
section
/-! run: one cycle after the other -/
def cq_R (post : Int32 → St2 → Prop) (J10 : Int32 → Int32 → Int32 → Int32 → Int32 → Int32 → Int32 → (Nat → Int32) → (Nat → Int32) → (Nat → Int32) → (Nat → Int32) → (Nat → Int32) → (Nat → Int32) → (Nat → Int32) → (Nat → Int32) → (Nat → Int32) → (Nat → Int32) → (Nat → Int32) → (Nat → Int32) → (Nat → Int32) → (Nat → Int32) → (Nat → Int32) → (Nat → Int32) → Prop) (m x : Nat) (s : St2) : Prop := match s with
  | (l, d, len, pl, nx, now, sm, a1, a2, a3, a4, a5, a6, a7, a8, a9, a10, a11, a12, a13, a14, a15, a16) => wX_run_29 post J10 m (nI x) l d len pl nx now sm a1 a2 a3 a4 a5 a6 a7 a8 a9 a10 a11 a12 a13 a14 a15 a16
def cq_K (J10 : Int32 → Int32 → Int32 → Int32 → Int32 → Int32 → Int32 → (Nat → Int32) → (Nat → Int32) → (Nat → Int32) → (Nat → Int32) → (Nat → Int32) → (Nat → Int32) → (Nat → Int32) → (Nat → Int32) → (Nat → Int32) → (Nat → Int32) → (Nat → Int32) → (Nat → Int32) → (Nat → Int32) → (Nat → Int32) → (Nat → Int32) → (Nat → Int32) → Prop) (s : St2) : Prop := match s with
  | (l, d, len, pl, nx, now, sm, a1, a2, a3, a4, a5, a6, a7, a8, a9, a10, a11, a12, a13, a14, a15, a16) => J10 l d len pl nx (now + 1) sm a1 a2 a3 a4 a5 a6 a7 a8 a9 a10 a11 a12 a13 a14 a15 a16
def cq_T (post : Int32 → St2 → Prop) (m : Nat) (s : St2) : Prop := match s with
  | (l, d, len, pl, nx, now, sm, a1, a2, a3, a4, a5, a6, a7, a8, a9, a10, a11, a12, a13, a14, a15, a16) => wX_run_10 post m l d len pl nx now sm a1 a2 a3 a4 a5 a6 a7 a8 a9 a10 a11 a12 a13 a14 a15 a16
theorem cq_now {post : Int32 → St2 → Prop} {m k u n c t wu w3 b f b3 f3 : Nat} {A : Nat → Int32} {zz : Int32} {s : St2} (I : cq_I k u n A zz c t wu w3 b f b3 f3 s) (ht : t + 1 < 100)
    (h : ∀ s', cq_I k u n A zz c (t + 1) wu w3 b f b3 f3 s' → cq_T post m s') : cq_K (wX_run_10 post m) s := by
  obtain ⟨l, d, len, pl, nx, now, sm, a1, a2, a3, a4, a5, a6, a7, a8, a9, a10, a11, a12, a13, a14, a15, a16⟩ := s
  obtain ⟨⟨hk, hu, hn16, hfb, hbn, hf3, hb3, ht'⟩, ⟨rfl, rfl, rfl, rfl, rfl, rfl, rfl⟩, P, hA, hz, ⟨h8u, h83, h8o⟩, ⟨h9, h10, h12, h13⟩, ⟨h93, h103, h123, h133⟩, Qu, Q3⟩ := I
  have g := h (nI 2, nI 3, nI n, nI 4, nI c, nI (t + 1), bx_sum (cq_V k A) f3, a1, a2, a3, a4, a5, a6, a7, a8, a9, a10, a11, a12, a13, a14, a15, a16) ⟨⟨hk, hu, hn16, hfb, hbn, hf3, hb3, ht⟩, ⟨rfl, rfl, rfl, rfl, rfl, rfl, rfl⟩, P, hA, hz, ⟨h8u, h83, h8o⟩, ⟨h9, h10, h12, h13⟩, ⟨h93, h103, h123, h133⟩, Qu, Q3⟩
  rw [← nI_1 t] at g
  exact g
/-- a cycle in which no unit works -/
theorem cq_cyc0 {post : Int32 → St2 → Prop} {J10} {G : St2 → Prop} {l d len pl nx now sm : Int32} {a1 a2 a3 a4 a5 a6 a7 a8 a9 a10 a11 a12 a13 a14 a15 a16 : Nat → Int32} (h8 : ∀ j, j < 4 → a8 j = nI 0) (h : ∀ Q : St2 → Prop, (∀ s', G s' → Q s') → wpX_issue Q (l, d, len, pl, nx, now, sm, a1, a2, a3, a4, a5, a6, a7, a8, a9, a10, a11, a12, a13, a14, a15, a16)) (hJ : ∀ s', G s' → cq_K J10 s') : wX_run_29 post J10 5 0 l d len pl nx now sm a1 a2 a3 a4 a5 a6 a7 a8 a9 a10 a11 a12 a13 a14 a15 a16 := by
  refine pk_le 4 0 (fun q => absurd q (by omega)) (fun _ => cq_finO (j := 0) (by omega) (h8 0 (by omega)) (nm_r (nI_1 0) ?_))
  refine pk_le 4 1 (fun q => absurd q (by omega)) (fun _ => cq_finO (j := 1) (by omega) (h8 1 (by omega)) (nm_r (nI_1 1) ?_))
  refine pk_le 4 2 (fun q => absurd q (by omega)) (fun _ => cq_finO (j := 2) (by omega) (h8 2 (by omega)) (nm_r (nI_1 2) ?_))
  refine pk_le 4 3 (fun q => absurd q (by omega)) (fun _ => cq_finO (j := 3) (by omega) (h8 3 (by omega)) (nm_r (nI_1 3) ?_))
  refine pk_le 4 4 (fun _ => cq_beg0 h8 (h _ (fun s' g => ?_))) (fun q => absurd q (by omega))
  have g' := hJ s' g
  obtain ⟨l, d, len, pl, nx, now, sm, a1, a2, a3, a4, a5, a6, a7, a8, a9, a10, a11, a12, a13, a14, a15, a16⟩ := s'
  exact nm_e g'
/-- a cycle's first half -/
theorem cq_fin {post : Int32 → St2 → Prop} {J10} {k u n c t wu w3 w3' b f b3 f3 f3' : Nat} {A : Nat → Int32} {zz zz' : Int32} {l d len pl nx now sm : Int32} {a1 a2 a3 a4 a5 a6 a7 a8 a9 a10 a11 a12 a13 a14 a15 a16 : Nat → Int32} (I : cq_I k u n A zz c t wu w3 b f b3 f3 (l, d, len, pl, nx, now, sm, a1, a2, a3, a4, a5, a6, a7, a8, a9, a10, a11, a12, a13, a14, a15, a16)) (hwu : wu = 0 → n ≤ f) (hwv : wu ≤ 1) (hf : f ≤ 2 * (t - 5))
    (h3 : ∀ (Q : St2 → Prop) (s : St2), cq_I k u n A zz c t (if min (min b (2 * (t - 5))) (f + 2) < n then 1 else 0) w3 b (min (min b (2 * (t - 5))) (f + 2)) b3 f3 s →
      (∀ s', cq_I k u n A zz' c t (if min (min b (2 * (t - 5))) (f + 2) < n then 1 else 0) w3' b (min (min b (2 * (t - 5))) (f + 2)) b3 f3' s' → Q s') → wpX_finishElements Q s (nI 3))
    (hn : ∀ s', cq_I k u n A zz' c t (if min (min b (2 * (t - 5))) (f + 2) < n then 1 else 0) w3' b (min (min b (2 * (t - 5))) (f + 2)) b3 f3' s' → cq_R post J10 1 4 s') : wX_run_29 post J10 5 0 l d len pl nx now sm a1 a2 a3 a4 a5 a6 a7 a8 a9 a10 a11 a12 a13 a14 a15 a16 := by
  rcases (show u = 0 ∨ u = 1 by have := I.1.2.1; omega) with e | e
  · subst e
    refine pk_le 4 0 (fun q => absurd q (by omega)) (fun _ => cq_finU (u := 0) I hwu hwv hf (fun s' I' => ?_))
    obtain ⟨l, d, len, pl, nx, now, sm, a1, a2, a3, a4, a5, a6, a7, a8, a9, a10, a11, a12, a13, a14, a15, a16⟩ := s'
    have h8o := I'.2.2.2.2.2.1.2.2
    refine nm_r (nI_1 0) (pk_le 4 1 (fun q => absurd q (by omega)) (fun _ => cq_finO (j := 1) (by omega) (h8o 1 (by omega) (by omega) (by omega)) (nm_r (nI_1 1) ?_)))
    refine pk_le 4 2 (fun q => absurd q (by omega)) (fun _ => cq_finO (j := 2) (by omega) (h8o 2 (by omega) (by omega) (by omega)) (nm_r (nI_1 2) ?_))
    refine pk_le 4 3 (fun q => absurd q (by omega)) (fun _ => h3 _ _ I' (fun s'' I'' => ?_))
    have g := hn s'' I''
    obtain ⟨l, d, len, pl, nx, now, sm, a1, a2, a3, a4, a5, a6, a7, a8, a9, a10, a11, a12, a13, a14, a15, a16⟩ := s''
    exact nm_r (nI_1 3) g
  · subst e
    have h8o := I.2.2.2.2.2.1.2.2
    refine pk_le 4 0 (fun q => absurd q (by omega)) (fun _ => cq_finO (j := 0) (by omega) (h8o 0 (by omega) (by omega) (by omega)) (nm_r (nI_1 0) ?_))
    refine pk_le 4 1 (fun q => absurd q (by omega)) (fun _ => cq_finU (u := 1) I hwu hwv hf (fun s' I' => ?_))
    obtain ⟨l, d, len, pl, nx, now, sm, a1, a2, a3, a4, a5, a6, a7, a8, a9, a10, a11, a12, a13, a14, a15, a16⟩ := s'
    have h8o := I'.2.2.2.2.2.1.2.2
    refine nm_r (nI_1 1) (pk_le 4 2 (fun q => absurd q (by omega)) (fun _ => cq_finO (j := 2) (by omega) (h8o 2 (by omega) (by omega) (by omega)) (nm_r (nI_1 2) ?_)))
    refine pk_le 4 3 (fun q => absurd q (by omega)) (fun _ => h3 _ _ I' (fun s'' I'' => ?_))
    have g := hn s'' I''
    obtain ⟨l, d, len, pl, nx, now, sm, a1, a2, a3, a4, a5, a6, a7, a8, a9, a10, a11, a12, a13, a14, a15, a16⟩ := s''
    exact nm_r (nI_1 3) g
/-- a cycle's second half -/
theorem cq_sec {post : Int32 → St2 → Prop} {J10} {G : St2 → Prop} {k u n c t wu w3 b f b3 f3 : Nat} {A : Nat → Int32} {zz : Int32} {s : St2} (I : cq_I k u n A zz c t wu w3 b f b3 f3 s) (hwu : wu = 0 → n ≤ f) (hwv : wu ≤ 1) (hw3 : w3 ≤ 1) (hw : w3 = 0 → f ≤ b3)
    (hbu : b < n → 3 ≤ t ∧ b = 2 * (t - 3)) (hb : b3 < f → 6 ≤ t ∧ b3 = 2 * (t - 6))
    (hi : ∀ (Q : St2 → Prop) (s' : St2), cq_I k u n A zz c t wu w3 (min n (b + 2)) f (min f (b3 + 2)) f3 s' → (∀ s'', G s'' → Q s'') → wpX_issue Q s') (hJ : ∀ s'', G s'' → cq_K J10 s'') : cq_R post J10 1 4 s := by
  obtain ⟨l, d, len, pl, nx, now, sm, a1, a2, a3, a4, a5, a6, a7, a8, a9, a10, a11, a12, a13, a14, a15, a16⟩ := s
  refine pk_le 4 4 (fun _ => cq_beg I hwu hwv hw3 hw hbu hb (fun s' I' => ?_)) (fun q => absurd q (by omega))
  have g : ∀ Q : St2 → Prop, (∀ s'', G s'' → Q s'') → wpX_issue Q s' := fun Q hQ => hi Q s' I' hQ
  obtain ⟨l, d, len, pl, nx, now, sm, a1, a2, a3, a4, a5, a6, a7, a8, a9, a10, a11, a12, a13, a14, a15, a16⟩ := s'
  refine g _ (fun s'' g' => ?_)
  have g'' := hJ s'' g'
  obtain ⟨l, d, len, pl, nx, now, sm, a1, a2, a3, a4, a5, a6, a7, a8, a9, a10, a11, a12, a13, a14, a15, a16⟩ := s''
  exact nm_e g''
/-- the state at the head of cycle t, from the fourth on -/
def cq_H (k u n : Nat) (A : Nat → Int32) (t : Nat) (s : St2) : Prop :=
  cq_I k u n A (if t = 4 ∨ min n (2 * (t - 9)) < n then 0 else bx_sum (cq_V k A) n) 4 t (if min n (2 * (t - 6)) < n then 1 else 0) (if t = 4 ∨ min n (2 * (t - 9)) < n then 1 else 0) (min n (2 * (t - 3))) (min n (2 * (t - 6))) (min n (2 * (t - 6))) (min n (2 * (t - 9))) s
theorem cq_step {post : Int32 → St2 → Prop} {m k u n t : Nat} {A : Nat → Int32} {l d len pl nx now sm : Int32} {a1 a2 a3 a4 a5 a6 a7 a8 a9 a10 a11 a12 a13 a14 a15 a16 : Nat → Int32} (ht : 4 ≤ t) (ht' : t < 90) (H : cq_H k u n A t (l, d, len, pl, nx, now, sm, a1, a2, a3, a4, a5, a6, a7, a8, a9, a10, a11, a12, a13, a14, a15, a16)) (hi : t = 4 ∨ min n (2 * (t - 9)) < n) (hJ : ∀ s', cq_H k u n A (t + 1) s' → cq_T post m s') :
    wX_run_29 post (wX_run_10 post m) 5 0 l d len pl nx now sm a1 a2 a3 a4 a5 a6 a7 a8 a9 a10 a11 a12 a13 a14 a15 a16 := by
  unfold cq_H at H
  rw [if_pos hi, if_pos hi] at H
  refine cq_fin H (fun q => by split at q <;> omega) (by split <;> omega) (by omega) (fun Q s I hQ => cq_fin3 I (by omega) hQ) (fun s' I' => ?_)
  rw [show min (min (min n (2 * (t - 3))) (2 * (t - 5))) (min n (2 * (t - 6)) + 2) = min n (2 * (t + 1 - 6)) by omega,
    show min (min (min n (2 * (t - 6))) (2 * (t - 8))) (min n (2 * (t - 9)) + 2) = min n (2 * (t + 1 - 9)) by omega] at I'
  refine cq_sec (G := cq_I k u n A (if min n (2 * (t + 1 - 9)) < n then 0 else bx_sum (cq_V k A) (min n (2 * (t + 1 - 9)))) 4 t (if min n (2 * (t + 1 - 6)) < n then 1 else 0) (if min n (2 * (t + 1 - 9)) < n then 1 else 0) (min n (2 * (t + 1 - 3))) (min n (2 * (t + 1 - 6))) (min n (2 * (t + 1 - 6))) (min n (2 * (t + 1 - 9))))
    I' (fun q => by split at q <;> omega) (by split <;> omega) (by split <;> omega) (fun q => by split at q <;> omega) (fun q => ⟨by omega, by omega⟩) (fun q => ⟨by omega, by omega⟩) (fun Q s1 I1 hQ => ?_) (fun s2 I2 => cq_now I2 (by omega) (fun s3 I3 => hJ s3 ?_))
  · rw [show min n (min n (2 * (t - 3)) + 2) = min n (2 * (t + 1 - 3)) by omega, show min (min n (2 * (t + 1 - 6))) (min n (2 * (t - 6)) + 2) = min n (2 * (t + 1 - 6)) by omega] at I1
    have g := hQ s1 I1
    obtain ⟨l, d, len, pl, nx, now, sm, a1, a2, a3, a4, a5, a6, a7, a8, a9, a10, a11, a12, a13, a14, a15, a16⟩ := s1
    exact cq_iss4 I1.2.1.2.2.2.1 I1.2.1.2.2.2.2.1 g
  · unfold cq_H
    by_cases h : min n (2 * (t + 1 - 9)) < n
    · rw [if_pos (Or.inr h), if_pos (Or.inr h)]
      rw [if_pos h, if_pos h] at I3
      exact I3
    · have h' : ¬ (t + 1 = 4 ∨ min n (2 * (t + 1 - 9)) < n) := by omega
      rw [if_neg h', if_neg h']
      rw [if_neg h, if_neg h] at I3
      have e : bx_sum (cq_V k A) n = bx_sum (cq_V k A) (min n (2 * (t + 1 - 9))) := congrArg _ (by omega)
      rw [e]
      exact I3
/-- the end: the register and the sum -/
def cq_E (k n : Nat) (A : Nat → Int32) (s : St2) : Prop := match s with
  | (l, d, len, pl, nx, now, sm, a1, a2, a3, a4, a5, a6, a7, a8, a9, a10, a11, a12, a13, a14, a15, a16) => cq_A A (cq_V k A) n a1 ∧ a2 0 = bx_sum (cq_V k A) n
theorem cq_run {post : Int32 → St2 → Prop} {k u n : Nat} {A : Nat → Int32} (hp : ∀ s', cq_E k n A s' → post (nI 4) s') : ∀ (m t : Nat) (s : St2), t + m = 17 → 4 ≤ t → cq_H k u n A t s → cq_T post (m + 1) s := by
  intro m
  induction m with
  | zero =>
    intro t s hm ht H
    obtain ⟨l, d, len, pl, nx, now, sm, a1, a2, a3, a4, a5, a6, a7, a8, a9, a10, a11, a12, a13, a14, a15, a16⟩ := s
    have H0 := H
    unfold cq_H at H
    have hn16 : n ≤ 16 := H.1.2.2.1
    have hx : ¬ (t = 4 ∨ min n (2 * (t - 9)) < n) := by omega
    rw [if_neg hx, if_neg hx, if_neg (show ¬ min n (2 * (t - 6)) < n by omega)] at H
    obtain ⟨⟨hk, hu, hn16, hfb, hbn, hf3, hb3, ht'⟩, ⟨rfl, rfl, rfl, rfl, rfl, rfl, rfl⟩, P, hA, hz, ⟨h8u, h83, h8o⟩, ⟨h9, h10, h12, h13⟩, ⟨h93, h103, h123, h133⟩, Qu, Q3⟩ := H
    have h8 : ∀ j, j < 4 → a8 j = 0 := by
      intro j hj
      by_cases e : j = u
      · rw [e]
        exact h8u
      · by_cases e3 : j = 3
        · rw [e3]
          exact h83
        · exact h8o j hj e e3
    refine pk_le 1000 t (fun q => absurd q (by omega)) (fun _ => cq_idleY (nI_le (by omega) (by omega)) (h8 0 (by omega)) (h8 1 (by omega)) (h8 2 (by omega)) (h8 3 (by omega)) (br_f (by decide) (hp _ ⟨?_, hz⟩)))
    rw [show min n (2 * (t - 6)) = n by omega] at hA
    exact hA
  | succ m ih =>
    intro t s hm ht H
    obtain ⟨l, d, len, pl, nx, now, sm, a1, a2, a3, a4, a5, a6, a7, a8, a9, a10, a11, a12, a13, a14, a15, a16⟩ := s
    by_cases hi : t = 4 ∨ min n (2 * (t - 9)) < n
    · have H0 := H
      unfold cq_H at H
      rw [if_pos hi, if_pos hi] at H
      have h83 : a8 3 = nI 1 := H.2.2.2.2.2.1.2.1
      have hnow : now = nI t := H.2.1.2.2.2.2.2.1
      refine pk_le 1000 t (fun q => absurd q (by omega)) (fun _ => cq_idleN (fun q => ?_) (br_t rfl ⟨5, cq_step ht (by omega) H0 hi (fun s' H' => ih (t + 1) s' (by omega) (by omega) H')⟩)) rfl hnow
      rw [h83] at q
      exact nI_ne0 (by omega) (by omega) q.2.2.2.2
    · unfold cq_H at H
      have hn16 : n ≤ 16 := H.1.2.2.1
      rw [if_neg hi, if_neg hi, if_neg (show ¬ min n (2 * (t - 6)) < n by omega)] at H
      obtain ⟨⟨hk, hu, hn16, hfb, hbn, hf3, hb3, ht'⟩, ⟨rfl, rfl, rfl, rfl, rfl, rfl, rfl⟩, P, hA, hz, ⟨h8u, h83, h8o⟩, ⟨h9, h10, h12, h13⟩, ⟨h93, h103, h123, h133⟩, Qu, Q3⟩ := H
      have h8 : ∀ j, j < 4 → a8 j = 0 := by
        intro j hj
        by_cases e : j = u
        · rw [e]
          exact h8u
        · by_cases e3 : j = 3
          · rw [e3]
            exact h83
          · exact h8o j hj e e3
      refine pk_le 1000 t (fun q => absurd q (by omega)) (fun _ => cq_idleY (nI_le (by omega) (by omega)) (h8 0 (by omega)) (h8 1 (by omega)) (h8 2 (by omega)) (h8 3 (by omega)) (br_f (by decide) (hp _ ⟨?_, hz⟩)))
      rw [show min n (2 * (t - 6)) = n by omega] at hA
      exact hA
/-- cycle 3: the sum is issued behind it -/
theorem cq_cyc3 {post : Int32 → St2 → Prop} {m k u n : Nat} {A : Nat → Int32} {s : St2} (I : cq_I k u n A 0 3 3 1 0 0 0 0 0 s) (hT : ∀ s', cq_H k u n A 4 s' → cq_T post m s') : cq_T post (m + 1) s := by
  obtain ⟨l, d, len, pl, nx, now, sm, a1, a2, a3, a4, a5, a6, a7, a8, a9, a10, a11, a12, a13, a14, a15, a16⟩ := s
  have hnow : now = nI 3 := I.2.1.2.2.2.2.2.1
  have hnx : nx = nI 3 := I.2.1.2.2.2.2.1
  have hpl : pl = nI 4 := I.2.1.2.2.2.1
  refine pk_le 1000 3 (fun q => absurd q (by omega)) (fun _ => cq_idleN (fun q => ?_) (br_t rfl ⟨5, ?_⟩)) rfl hnow
  · rw [hpl, hnx] at q
    exact nI_ge (by omega) (by omega) q.1
  · refine cq_fin I (fun q => absurd q (by omega)) (by omega) (by omega) (zz' := 0) (w3' := 0) (f3' := 0) (fun Q s1 I1 hQ => ?_) (fun s1 I1 => ?_)
    · have g := hQ s1 I1
      obtain ⟨l, d, len, pl, nx, now, sm, a1, a2, a3, a4, a5, a6, a7, a8, a9, a10, a11, a12, a13, a14, a15, a16⟩ := s1
      exact cq_finO (by omega) I1.2.2.2.2.2.1.2.1 g
    · rw [show min (min 0 (2 * (3 - 5))) (0 + 2) = 0 by omega] at I1
      refine cq_sec (G := cq_I k u n A 0 4 3 (if 0 < n then 1 else 0) 1 (min n 2) 0 0 0) I1 (fun q => by split at q <;> omega) (by split <;> omega) (by omega) (fun _ => by omega) (fun _ => ⟨by omega, by omega⟩) (fun q => absurd q (by omega)) (fun Q s2 I2 hQ => ?_) (fun s2 I2 => cq_now I2 (by omega) (fun s3 I3 => hT s3 ?_))
      · rw [show min 0 (0 + 2) = 0 by omega, show min n (0 + 2) = min n 2 by omega] at I2
        exact cq_iss3 I2 hQ
      · unfold cq_H
        rw [if_pos (Or.inl rfl), if_pos (Or.inl rfl), show min n (2 * (4 - 6)) = 0 by omega, show min n (2 * (4 - 3)) = min n 2 by omega]
        exact I3
theorem cq_t0 {post : Int32 → St2 → Prop} {G : St2 → Prop} {m c t : Nat} {l d len pl nx now sm : Int32} {a1 a2 a3 a4 a5 a6 a7 a8 a9 a10 a11 a12 a13 a14 a15 a16 : Nat → Int32} (hnow : now = nI t) (ht : t < 1000) (hpl : pl = nI 4) (hnx : nx = nI c) (hc : c < 4) (h8 : ∀ j, j < 4 → a8 j = nI 0) (h : ∀ Q : St2 → Prop, (∀ s', G s' → Q s') → wpX_issue Q (l, d, len, pl, nx, now, sm, a1, a2, a3, a4, a5, a6, a7, a8, a9, a10, a11, a12, a13, a14, a15, a16))
    (hJ : ∀ s', G s' → cq_K (wX_run_10 post m) s') : wX_run_10 post (m + 1) l d len pl nx now sm a1 a2 a3 a4 a5 a6 a7 a8 a9 a10 a11 a12 a13 a14 a15 a16 := by
  refine pk_le 1000 t (fun q => absurd q (by omega)) (fun _ => cq_idleN (fun q => ?_) (br_t rfl ⟨5, cq_cyc0 h8 h hJ⟩)) rfl hnow
  rw [hpl, hnx] at q
  exact nI_ge (by omega) (by omega) q.1
end
section
/-! the calls that the law makes -/
theorem cq_set {post : Int32 → St2 → Prop} {v i : Nat} {x : Int32} {l d len pl nx now sm : Int32} {a1 a2 a3 a4 a5 a6 a7 a8 a9 a10 a11 a12 a13 a14 a15 a16 : Nat → Int32} (hv : v < 4) (hi : i < 16) (h : post 1 (l, d, len, pl, nx, now, sm, upd a1 (16 * v + i) x, a2, a3, a4, a5, a6, a7, a8, a9, a10, a11, a12, a13, a14, a15, a16)) : wpX_setElement post (l, d, len, pl, nx, now, sm, a1, a2, a3, a4, a5, a6, a7, a8, a9, a10, a11, a12, a13, a14, a15, a16) (nI v) (nI i) x := by
  unfold wpX_setElement
  exact cq_reg hv (br_f (by decide) (pk_lt i 0 (fun q => absurd q (by omega)) (fun _ => pk_le i 15 (fun _ => ⟨pk_in (16 * v + i) 64 (by omega) (cq_ij v i), nm_r (cq_up (by omega) (cq_ij v i) rfl) h⟩) (fun q => absurd q (by omega)))))
theorem cq_elem {post : Int32 → Prop} {v i : Nat} {l d len pl nx now sm : Int32} {a1 a2 a3 a4 a5 a6 a7 a8 a9 a10 a11 a12 a13 a14 a15 a16 : Nat → Int32} (hv : v < 4) (hi : i < 16) (h : post (a1 (16 * v + i))) : wpX_element post (l, d, len, pl, nx, now, sm, a1, a2, a3, a4, a5, a6, a7, a8, a9, a10, a11, a12, a13, a14, a15, a16) (nI v) (nI i) := by
  unfold wpX_element
  refine cq_reg hv (br_f (by decide) (pk_lt i 0 (fun q => absurd q (by omega)) (fun _ => pk_lt 15 i (fun q => absurd q (by omega)) (fun _ => ⟨pk_in (16 * v + i) 64 (by omega) (cq_ij v i), ?_⟩))))
  rw [cq_at (f := a1) (x := a1 (16 * v + i)) (by omega) (cq_ij v i) rfl]
  exact h
theorem cq_scal {post : Int32 → Prop} {l d len pl nx now sm : Int32} {a1 a2 a3 a4 a5 a6 a7 a8 a9 a10 a11 a12 a13 a14 a15 a16 : Nat → Int32} (h : post (a2 0)) : wpX_scalar post (l, d, len, pl, nx, now, sm, a1, a2, a3, a4, a5, a6, a7, a8, a9, a10, a11, a12, a13, a14, a15, a16) (nI 0) := by
  unfold wpX_scalar
  exact cq_reg (r := 0) (by omega) (br_f (by decide) ⟨pk_in 0 4 (by omega), h⟩)
theorem cq_e76 {post : Int32 → St2 → Prop} {c o x : Nat} {y z : Int32} {l d len nx now sm : Int32} {a1 a2 a3 a4 a5 a6 a7 a8 a9 a10 a11 a12 a13 a14 a15 a16 : Nat → Int32} (hc : c < 16) (ho : o < 17) (hx : x < 17)
    (h : post (nI (c + 1)) (l, d, len, nI (c + 1), nx, now, sm, a1, a2, a3, upd a4 c (nI o), upd a5 c (nI x), upd a6 c y, upd a7 c z, a8, a9, a10, a11, a12, a13, a14, a15, a16)) :
    wX_emit_76 post (nI o) (nI x) y z l d len (nI c) nx now sm a1 a2 a3 a4 a5 a6 a7 a8 a9 a10 a11 a12 a13 a14 a15 a16 :=
  ⟨pk_in c 16 hc, nm_r (cq_up (by omega) rfl (cq_nb o ho)) ⟨pk_in c 16 hc, nm_r (cq_up (by omega) rfl (cq_nb x hx)) ⟨pk_in c 16 hc, nm_r (cq_up (by omega) rfl rfl) ⟨pk_in c 16 hc, nm_r (cq_up (by omega) rfl rfl) (nm_r (nI_1 c) h)⟩⟩⟩⟩
theorem cq_emit {post : Int32 → St2 → Prop} {c o x : Nat} {y z : Int32} {l d len nx now sm : Int32} {a1 a2 a3 a4 a5 a6 a7 a8 a9 a10 a11 a12 a13 a14 a15 a16 : Nat → Int32} (hc : c < 16) (ho : o ≤ 12) (hx : x < 4) (hy : o = 10 ∨ o = 12 ∨ ∃ j, j < 4 ∧ y = nI j) (hz : o ≤ 5 ∨ o = 11 → ∃ j, j < 4 ∧ z = nI j)
    (h : post (nI (c + 1)) (l, d, len, nI (c + 1), nx, now, sm, a1, a2, a3, upd a4 c (nI o), upd a5 c (nI x), upd a6 c y, upd a7 c z, a8, a9, a10, a11, a12, a13, a14, a15, a16)) :
    wpX_emit post (l, d, len, nI c, nx, now, sm, a1, a2, a3, a4, a5, a6, a7, a8, a9, a10, a11, a12, a13, a14, a15, a16) (nI o) (nI x) y z := by
  have e76 := cq_e76 (post := post) hc (by omega) (by omega) h
  have e65 : (o ≤ 5 ∨ o = 11) → wX_emit_65 post (nI o) (nI x) y z l d len (nI c) nx now sm a1 a2 a3 a4 a5 a6 a7 a8 a9 a10 a11 a12 a13 a14 a15 a16 := by
    intro g
    obtain ⟨j, hj, rfl⟩ := hz g
    unfold wX_emit_65
    exact cq_reg hj (br_f (by decide) e76)
  have e54 : wX_emit_54 post (nI o) (nI x) y z l d len (nI c) nx now sm a1 a2 a3 a4 a5 a6 a7 a8 a9 a10 a11 a12 a13 a14 a15 a16 :=
    pk_le o 5 (fun g => e65 (Or.inl g)) (fun _ => pk_eq o 11 (fun g => e65 (Or.inr g)) (fun _ => e76))
  refine pk_lt c 16 (fun _ => pk_lt o 0 (fun q => absurd q (by omega)) (fun _ => pk_lt 12 o (fun q => absurd q (by omega)) (fun _ => cq_reg hx (br_f (by decide) (pk_eq o 10 (fun _ => e54) (fun g0 => pk_eq o 12 (fun _ => e54) (fun g2 => ?_))))))) (fun q => absurd q (by omega))
  rcases hy with g | g | ⟨j, hj, rfl⟩
  · exact absurd g g0
  · exact absurd g g2
  · exact cq_reg hj (br_f (by decide) e54)
theorem cq_all {post : Int32 → St2 → Prop} {k u n : Nat} {x : Int32} {len nx now : Int32} {a1 a2 a3 a4 a5 a6 a7 a8 a9 a10 a11 a12 a13 a14 a15 a16 : Nat → Int32} (hk : k ≤ 3) (h2 : k = 2 → u = 1) (h0 : k ≠ 2 → u = 0) (hn : n ≤ 16) (hc : cq_cl x n)
    (p40 : a4 0 = nI 10) (p41 : a4 1 = nI 12) (p50 : a5 0 = nI 3) (p51 : a5 1 = nI 3) (p60 : a6 0 = x) (P : cq_P k a4 a5 a6 a7) (h20 : a2 0 = 0) (h8 : ∀ j, j < 4 → a8 j = nI 0) (h12 : a12 3 = nI 0) (h13 : a13 3 = nI 0)
    (hp : ∀ s', cq_E k n a1 s' → post (nI 4) s') : wpX_run post (nI 2, nI 3, len, nI 4, nx, now, 0, a1, a2, a3, a4, a5, a6, a7, a8, a9, a10, a11, a12, a13, a14, a15, a16) := by
  have g2 : wX_run_10 post 16 (nI 2) (nI 3) (nI n) (nI 4) (nI 2) (nI 2) 0 a1 (upd a2 3 x) a3 a4 a5 a6 a7 a8 a9 a10 a11 a12 a13 a14 a15 a16 := by
    refine cq_t0 (t := 2) (c := 2) (G := cq_I k u n a1 0 3 2 1 0 0 0 0 0) rfl (by omega) rfl rfl (by omega) h8 (fun Q hQ => cq_iss2 hk h2 h0 hn (by omega) P ⟨fun i _ => rfl, fun i q => absurd q (by omega), fun i _ _ => rfl⟩ h8 h12 h13 ?_) (fun s' I => cq_now I (by omega) (fun s1 I1 => cq_cyc3 I1 (fun s2 H => cq_run hp 13 4 s2 rfl (by omega) H)))
    rw [pk_un (by omega), h20]
    exact hQ
  have g1 : wX_run_10 post 17 (nI 2) (nI 3) len (nI 4) (nI 1) (nI 1) 0 a1 (upd a2 3 x) a3 a4 a5 a6 a7 a8 a9 a10 a11 a12 a13 a14 a15 a16 := by
    refine cq_t0 (t := 1) (c := 1) (G := fun s' => s' = (nI 2, nI 3, nI n, nI 4, nI 2, nI 1, 0, a1, upd a2 3 x, a3, a4, a5, a6, a7, a8, a9, a10, a11, a12, a13, a14, a15, a16)) rfl (by omega) rfl rfl (by omega) h8 (fun Q hQ => cq_iss1 p41 p51 pk_us hc (h8 3 (by omega)) (fun y e => hQ _ (by rw [e]))) (fun s' e => ?_)
    subst e
    exact g2
  refine ⟨18, ?_⟩
  refine cq_t0 (t := 0) (c := 0) (G := fun s' => s' = (nI 2, nI 3, len, nI 4, nI 1, nI 0, 0, a1, upd a2 3 x, a3, a4, a5, a6, a7, a8, a9, a10, a11, a12, a13, a14, a15, a16)) rfl (by omega) rfl rfl (by omega) h8 (fun Q hQ => cq_iss0 p40 p50 p60 (h8 3 (by omega)) (hQ _ rfl)) (fun s' e => ?_)
  subst e
  exact g1
end
section
/-! plain: one element alone may differ from zero, so the sum is its answer -/
def cq_0 (j : Nat) (p q : Int32) : Nat → Int32 := upd (upd (upd (fun _ => 0) (16 * 0 + j) p) (16 * 1 + j) q) (16 * 2 + j) 77
theorem cq_V0 {j k i : Nat} {p q : Int32} (hk : k ≤ 3) (hj : j < 16) (hi : i < 16) (h : i ≠ j) : cq_V k (cq_0 j p q) i = 0 := by
  have e1 : cq_0 j p q i = 0 := by
    unfold cq_0
    rw [pk_un (by omega), pk_un (by omega), pk_un (by omega)]
  have e2 : cq_0 j p q (16 + i) = 0 := by
    unfold cq_0
    rw [pk_un (by omega), pk_un (by omega), pk_un (by omega)]
  unfold cq_V
  rw [e1, e2]
  rcases (show k = 0 ∨ k = 1 ∨ k = 2 ∨ k = 3 by omega) with e | e | e | e <;> subst e <;> decide
theorem cq_Vj {j k : Nat} {p q : Int32} (hj : j < 16) : cq_V k (cq_0 j p q) j = cq_op k p q := by
  have e1 : cq_0 j p q j = p := by
    unfold cq_0
    rw [pk_un (by omega), pk_un (by omega)]
    exact cq_rd (fun _ => rfl) (fun e => absurd (by omega) e)
  have e2 : cq_0 j p q (16 + j) = q := by
    unfold cq_0
    rw [pk_un (by omega)]
    exact cq_rd (fun _ => rfl) (fun e => absurd (by omega) e)
  unfold cq_V
  rw [e1, e2]
theorem cq_77 {j : Nat} {p q : Int32} : cq_0 j p q (32 + j) = 77 := cq_rd (fun _ => rfl) (fun e => absurd (by omega) e)
theorem cq_sum {V : Nat → Int32} {j : Nat} (h0 : ∀ i, i < 16 → i ≠ j → V i = 0) : ∀ m, m ≤ 16 → bx_sum V m = if j < m then V j else 0 := by
  intro m
  induction m with
  | zero =>
    intro _
    rw [if_neg (by omega)]
    rfl
  | succ m ih =>
    intro hm
    show bx_sum V m + V m = _
    rw [ih (by omega)]
    by_cases e : m = j
    · subst e
      rw [if_neg (by omega), if_pos (by omega), Int32.zero_add]
    · rw [h0 m (by omega) e, Int32.add_zero]
      by_cases e2 : j < m
      · rw [if_pos e2, if_pos (by omega)]
      · rw [if_neg e2, if_neg (by omega)]
/-! the law -/
theorem cq_init {post : St2 → Prop} (h : post (nI 2, nI 3, 16, nI 0, 0, 0, 0, (fun _ => 0), (fun _ => 0), (fun _ => 0), (fun _ => 0), (fun _ => 0), (fun _ => 0), (fun _ => 0), (fun _ => 0), (fun _ => 0), (fun _ => 0), (fun _ => 0), (fun _ => 0), (fun _ => 0), (fun _ => 0), (fun _ => 0), (fun _ => 0))) : wpX_init post 16 412 (0, 0, 0, 0, 0, 0, 0) 2 3 :=
  ⟨by omega, by omega, by omega, by omega, by omega, by omega, by omega, by omega, by omega, by omega, by omega, by omega, by omega, by omega, by omega, by omega, by omega, by omega, by omega, by omega, by omega, by omega, by omega, by omega, by omega, by omega, by omega, by omega, by omega, by omega, by omega, by omega, br_t (by decide) (br_t (by decide) (br_t (by decide) (br_t (by decide) h)))⟩
theorem cq_79 {post : Int32 → St0 → Prop} {k j n : Nat} {p q x due : Int32} (hk : k ≤ 3) (hj : j < 16) (hn : n ≤ 16) (hc : cq_cl x n) (hd : cq_op k p q = due) (hp : post 1 ()) :
    wL_lawOf_79 post 17 435 p q x (nI k) (nI j) (nI n) due 0 0 := by
  refine ⟨by omega, by omega, 16, 412, by omega, by omega, cq_init ?_⟩
  refine cq_set (v := 0) (by omega) hj (br_f (by decide) ?_)
  refine cq_set (v := 1) (by omega) hj (br_f (by decide) ?_)
  refine cq_set (v := 2) (by omega) hj (br_f (by decide) ?_)
  refine cq_emit (c := 0) (o := 10) (x := 3) (by omega) (by omega) (by omega) (Or.inl rfl) (fun g => absurd g (by omega)) (br_t rfl ?_)
  refine cq_emit (c := 1) (o := 12) (x := 3) (by omega) (by omega) (by omega) (Or.inr (Or.inl rfl)) (fun g => absurd g (by omega)) (br_t rfl ?_)
  refine cq_emit (c := 2) (o := k) (x := 2) (by omega) (by omega) (by omega) (Or.inr (Or.inr ⟨0, by omega, rfl⟩)) (fun _ => ⟨1, by omega, rfl⟩) (br_t rfl ?_)
  refine cq_emit (c := 3) (o := 9) (x := 0) (by omega) (by omega) (by omega) (Or.inr (Or.inr ⟨2, by omega, rfl⟩)) (fun g => absurd g (by omega)) (br_t rfl ?_)
  refine cq_all (k := k) (u := if k = 2 then 1 else 0) (n := n) (x := x) (a1 := cq_0 j p q) hk (fun e => if_pos e) (fun e => if_neg e) hn hc rfl rfl rfl rfl rfl ⟨rfl, rfl, rfl, rfl, rfl, rfl, rfl⟩ rfl (fun _ _ => rfl) rfl rfl (fun s' E => ?_)
  obtain ⟨l, d, len, pl, nx, now, sm, a1, a2, a3, a4, a5, a6, a7, a8, a9, a10, a11, a12, a13, a14, a15, a16⟩ := s'
  obtain ⟨hA, hS⟩ := E
  rw [cq_sum (fun i hi e => cq_V0 hk hj hi e) n hn] at hS
  refine br_t rfl (cq_elem (v := 2) (by omega) hj (pk_le n j (fun h => ?_) (fun h => ?_)))
  · rw [if_neg (by omega)] at hS
    exact br_t ((hA.2.2 j h hj).trans cq_77) (cq_scal (pk_le n j (fun _ => br_t hS hp) (fun g => absurd g (by omega))))
  · rw [if_pos h, cq_Vj hj, hd] at hS
    exact br_t ((hA.2.1 j h).trans ((cq_Vj hj).trans hd)) (cq_scal (pk_le n j (fun g => absurd g (by omega)) (fun _ => br_t hS hp)))
theorem cq_lawOf {post : Int32 → St0 → Prop} (hp : post 1 ()) (p0 p1 p2 p3 p4 : Int32) : wpL_lawOf post 17 435 () p0 p1 p2 p3 p4 := by
  obtain ⟨k, hk, ek⟩ := pk_andE p0 (m := 3) 2 (by decide)
  obtain ⟨j, hj, ej⟩ := pk_andE p4 (m := 15) 4 (by decide)
  have h32 : ∀ n, n ≤ 16 → cq_cl p3 n → wL_lawOf_32 post 17 435 p1 p2 p3 (nI k) (nI j) (nI n) 0 0 := by
    intro n hn hc
    refine pk_eq k 0 (fun e => cq_79 (by omega) (by omega) hn hc ?_ hp) (fun e0 => pk_eq k 1 (fun e => cq_79 (by omega) (by omega) hn hc ?_ hp) (fun e1 => pk_eq k 2 (fun e => cq_79 (by omega) (by omega) hn hc ?_ hp) (fun e2 => br_c (fun g => cq_79 (by omega) (by omega) hn hc ?_ hp) (fun g => cq_79 (by omega) (by omega) hn hc ?_ hp))))
    · subst e
      rfl
    · subst e
      rfl
    · subst e
      rfl
    · have e3 : k = 3 := by omega
      subst e3
      exact if_pos g
    · have e3 : k = 3 := by omega
      subst e3
      exact if_neg g
  refine nm_r ek (nm_r ej (br_c (fun g0 => br_c (fun g1 => ?_) (fun g1 => ?_)) (fun g0 => ?_)))
  · obtain ⟨n, hn, e⟩ := nI_of2 (x := p3) (M := 16) (n := 16) (by decide) (Int32.not_lt.mpr g0) g1
    have h := h32 n hn ⟨fun _ _ => e, fun _ g => absurd g1 g, fun g => absurd g0 g⟩
    rw [← e] at h
    exact h
  · exact h32 16 (by omega) ⟨fun _ g => absurd g g1, fun _ _ => rfl, fun g => absurd g0 g⟩
  · exact h32 0 (by omega) ⟨fun g => absurd g g0, fun g => absurd g g0, fun _ => rfl⟩
theorem cq_cell {post : Int32 → Prop} {L : Nat} {xs : Nat → Int32} (hL : L ≤ 5) (i : Nat) (hi : i < 5) (h : ∀ r, post r) : wpL_cellAt post L xs () (nI i) :=
  pk_le L i (fun _ => h _) (fun q => ⟨pk_in i L q, h _⟩)
theorem i_vc (xs : Nat → Int32) (L : Nat) (hL : L ≤ 5) : wpL_law (fun r => r = 1) L xs := by
  unfold wpL_law
  refine cq_cell hL 0 (by omega) (fun r1 => ?_)
  refine cq_cell hL 1 (by omega) (fun r2 => ?_)
  refine cq_cell hL 2 (by omega) (fun r3 => ?_)
  refine cq_cell hL 3 (by omega) (fun r4 => ?_)
  refine cq_cell hL 4 (by omega) (fun r5 => ?_)
  exact ⟨17, 435, by omega, by omega, cq_lawOf rfl r1 r2 r3 r4 r5⟩
end
