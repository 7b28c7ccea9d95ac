section
/-- an int of the machine, out of an int -/
def gd_z (x : Int) : Int32 := Int32.ofInt x
theorem gd_za (a b : Int) : gd_z a + gd_z b = gd_z (a + b) := (Int32.ofInt_add a b).symm
theorem gd_zs (a b : Int) : gd_z a - gd_z b = gd_z (a - b) := (Int32.ofInt_sub a b).symm
theorem gd_zm (a b : Int) : gd_z a * gd_z b = gd_z (a * b) := (Int32.ofInt_mul a b).symm
theorem gd_zg (a : Int) : -gd_z a = gd_z (-a) := (Int32.ofInt_neg a).symm
theorem gd_zn (n : Nat) : nI n = gd_z n := Int32.ofInt_eq_ofNat.symm
theorem gd_zt {a : Int} (h1 : -2147483648 ≤ a) (h2 : a < 2147483648) : (gd_z a).toInt = a := Int32.toInt_ofInt_of_le (by omega) (by omega)
theorem gd_zle {a b : Int} (ha : -2147483648 ≤ a) (ha2 : a < 2147483648) (hb : -2147483648 ≤ b) (hb2 : b < 2147483648) : gd_z a ≤ gd_z b ↔ a ≤ b := by
  rw [Int32.le_iff_toInt_le, gd_zt ha ha2, gd_zt hb hb2]
theorem gd_zlt {a b : Int} (ha : -2147483648 ≤ a) (ha2 : a < 2147483648) (hb : -2147483648 ≤ b) (hb2 : b < 2147483648) : gd_z a < gd_z b ↔ a < b := by
  rw [Int32.lt_iff_toInt_lt, gd_zt ha ha2, gd_zt hb hb2]
theorem gd_zeq {a b : Int} (ha : -2147483648 ≤ a) (ha2 : a < 2147483648) (hb : -2147483648 ≤ b) (hb2 : b < 2147483648) : gd_z a = gd_z b ↔ a = b := by
  constructor
  · intro h
    have := congrArg Int32.toInt h
    rw [gd_zt ha ha2, gd_zt hb hb2] at this
    exact this
  · intro h
    rw [h]
theorem gd_far : (1048576 : Int32) = gd_z 1048576 := by decide
theorem gd_z0 : (0 : Int32) = gd_z 0 := by decide
theorem gd_z1 : (1 : Int32) = gd_z 1 := by decide
theorem gd_us (f : Nat → Int32) (k : Nat) : upd f k (f k) = f := by
  funext j
  unfold upd
  split
  · next h => rw [h]
  · rfl
theorem gd_or0 (x : Int32) : x ||| 0 = x := Int32.or_zero
theorem gd_ix (s t : Nat) : nI s * 7 + nI t = nI (s * 7 + t) := by
  rw [show (7 : Int32) = nI 7 from rfl, pk_mul, nI_add]
theorem gd_byte : ∀ n, n < 128 → (nI n).toInt8.toInt32 = nI n := by decide +kernel
theorem gd_fill {f s : Nat → Int32} {i k : Nat} {x : Int32} (hk : k = i) (h : ∀ j, j < i → s j = f j) (hx : x = f i) : ∀ j, j < i + 1 → upd s k x j = f j := by
  intro j hj
  rw [hk]
  by_cases e : j = i
  · rw [e, pk_us, hx]
  · rw [pk_un e]
    exact h j (by omega)
theorem gd_rest {f s : Nat → Int32} {i k : Nat} {x : Int32} (hk : k = i) (h : ∀ j, i ≤ j → s j = f j) : ∀ j, i + 1 ≤ j → upd s k x j = f j := by
  intro j hj
  rw [pk_un (by omega)]
  exact h j (by omega)

/-- the three arcs: 0 to 1, 1 to 2, 2 to 0, and their weights -/
def gd_a : Nat → Int32 := fun k => if k = 1 then 1 else if k = 2 then 2 else 0
def gd_b : Nat → Int32 := fun k => if k = 0 then 1 else if k = 1 then 2 else 0
def gd_w (P Q R : Int) : Nat → Int32 := fun k => if k = 0 then gd_z P else if k = 1 then gd_z Q else if k = 2 then gd_z R else 0
theorem gd_a3 : ∀ k, k < 3 → gd_a k = nI k := by decide
theorem gd_b3 : ∀ k, k < 3 → gd_b k = nI ((k + 1) % 3) := by decide
theorem gd_a0 {k : Nat} (h : 3 ≤ k) : gd_a k = 0 := by
  unfold gd_a
  rw [if_neg (by omega), if_neg (by omega)]
theorem gd_b0 {k : Nat} (h : 3 ≤ k) : gd_b k = 0 := by
  unfold gd_b
  rw [if_neg (by omega), if_neg (by omega)]

theorem gd_bit : ∀ k, k < 20 → ((((7 : Int32) >>> (nI k &&& 31)) &&& 1) = 0 ↔ 3 ≤ k) := by decide +kernel
theorem gd_has1 {post : Int32 → Prop} {P Q R : Int} {hs tp bt : Int32} {a4 a5 a6 a7 a8 a9 a10 a11 a12 a13 a14 a15 a16 a17 a18 a19 : Nat → Int32} {k : Nat} (hk : k < 3) (h : post 1) : wpX_has post (7, hs, tp, bt, gd_a, gd_b, (gd_w P Q R), a4, a5, a6, a7, a8, a9, a10, a11, a12, a13, a14, a15, a16, a17, a18, a19) (nI k) :=
  br_f (nI_pos (by omega)) (br_f (nI_ge (b := 20) (by omega) (by decide)) (br_f (fun e => absurd ((gd_bit k (by omega)).mp e) (by omega)) h))
theorem gd_has0 {post : Int32 → Prop} {P Q R : Int} {hs tp bt : Int32} {a4 a5 a6 a7 a8 a9 a10 a11 a12 a13 a14 a15 a16 a17 a18 a19 : Nat → Int32} {k : Nat} (h3 : 3 ≤ k) (hk : k < 20) (h : post 0) : wpX_has post (7, hs, tp, bt, gd_a, gd_b, (gd_w P Q R), a4, a5, a6, a7, a8, a9, a10, a11, a12, a13, a14, a15, a16, a17, a18, a19) (nI k) :=
  br_f (nI_pos (by omega)) (br_f (nI_ge (b := 20) (by omega) (by decide)) (br_t ((gd_bit k hk).mpr h3) h))

theorem gd_point {post : Int32 → Prop} {u : St0} {s : Nat} (h : s < 7) (hp : post 1) : wpX_isPoint post u (nI s) :=
  br_f (nI_pos (by omega)) (br_f (nI_ge (b := 7) h (by decide)) hp)
theorem gd_engine {post : Int32 → Prop} {u : St0} {s : Nat} (h : s < 5) (hp : post 1) : wpX_isEngine post u (nI s) :=
  br_f (nI_pos (by omega)) (br_f (nI_ge (b := 5) h (by decide)) hp)

theorem gd_start {post : St2 → Prop} {P Q R : Int} {hs tp bt : Int32} {a4 a5 a6 a7 a8 a9 a10 a11 a12 a13 a14 a15 a16 a17 a18 a19 : Nat → Int32} {s : Nat} (h7 : s < 7)
    (H : ∀ b6 b7 : Nat → Int32, (∀ i, i < 7 → b6 i = if i = s then 0 else 1048576) → (∀ i, i < 7 → b7 i = 0) → post (7, hs, tp, bt, gd_a, gd_b, (gd_w P Q R), a4, a5, b6, b7, a8, a9, a10, a11, a12, a13, a14, a15, a16, a17, a18, a19)) :
    wpX_startFrom post (7, hs, tp, bt, gd_a, gd_b, (gd_w P Q R), a4, a5, a6, a7, a8, a9, a10, a11, a12, a13, a14, a15, a16, a17, a18, a19) (nI s) :=
  pk_loop (fun n i (u : (Nat → Int32) × (Nat → Int32)) => wX_startFrom_2 post (nI s) 7 hs tp bt n (nI i) gd_a gd_b (gd_w P Q R) a4 a5 u.1 u.2 a8 a9 a10 a11 a12 a13 a14 a15 a16 a17 a18 a19)
    (fun i u => (∀ j, j < i → u.1 j = if j = s then 0 else 1048576) ∧ (∀ j, j < i → u.2 j = 0)) 7 0 (a6, a7) (by omega) ⟨fun j h => absurd h (by omega), fun j h => absurd h (by omega)⟩
    (fun n u h => pk_le 7 7 (fun _ => H u.1 u.2 h.1 h.2) (fun z => absurd z (by omega)))
    (fun n i u hi h hw => pk_le 7 i (fun z => absurd z (by omega)) (fun _ =>
      pk_eq i s
        (fun e => ⟨pk_in i 7 hi, nm_e ⟨pk_in i 7 hi, nm_e (nm_r (nI_1 i) (hw (_, _) ⟨gd_fill (f := fun j => if j = s then 0 else 1048576) (nI_clamp (by omega)) h.1 (if_pos e).symm, gd_fill (f := fun _ => 0) (nI_clamp (by omega)) h.2 rfl⟩))⟩⟩)
        (fun e => ⟨pk_in i 7 hi, nm_e ⟨pk_in i 7 hi, nm_e (nm_r (nI_1 i) (hw (_, _) ⟨gd_fill (f := fun j => if j = s then 0 else 1048576) (nI_clamp (by omega)) h.1 (if_neg e).symm, gd_fill (f := fun _ => 0) (nI_clamp (by omega)) h.2 rfl⟩))⟩⟩)))

/-- spread, one arc; all arcs; the rounds -/
def gd_sk (x : Int32) (k : Nat) : Int32 := if ((x >>> (gd_a k &&& 31)) &&& 1) = 0 then x else x ||| ((1 : Int32) <<< (gd_b k &&& 31))
def gd_sx (x : Int32) : Nat → Int32
  | 0 => x
  | k + 1 => if k < 3 then gd_sk (gd_sx x k) k else gd_sx x k
def gd_sy (x : Int32) : Nat → Int32
  | 0 => x
  | n + 1 => gd_sx (gd_sy x n) 20
theorem gd_spread_in {post : Int32 → Prop} {J : Int32 → Int32 → Prop} {P Q R : Int} {hs tp bt : Int32} {a4 a5 a6 a7 a8 a9 a10 a11 a12 a13 a14 a15 a16 a17 a18 a19 : Nat → Int32} {i : Nat} {x : Int32} (h : J (gd_sx x 20) (nI (i + 1))) :
    ∃ n, wX_spread_13 post J (nI i) 7 hs tp bt gd_a gd_b (gd_w P Q R) a4 a5 a6 a7 a8 a9 a10 a11 a12 a13 a14 a15 a16 a17 a18 a19 n x 0 :=
  pk_loop (fun n k (u : Int32) => wX_spread_13 post J (nI i) 7 hs tp bt gd_a gd_b (gd_w P Q R) a4 a5 a6 a7 a8 a9 a10 a11 a12 a13 a14 a15 a16 a17 a18 a19 n u (nI k)) (fun k u => u = gd_sx x k) 20 0 x (by omega) rfl
    (fun n u hu => pk_le 20 20 (fun _ => nm_r (nI_1 i) (by rw [hu]; exact h)) (fun z => absurd z (by omega)))
    (fun n k u hk hu hw => pk_le 20 k (fun z => absurd z (by omega)) (fun _ => by
      by_cases h3 : k < 3
      · refine gd_has1 h3 (br_f (by decide) ⟨pk_in k 20 hk, ?_⟩)
        rw [nI_clamp (show k < 2 ^ 31 by omega)]
        refine br_c (fun g => nm_r (gd_or0 _) (nm_r (nI_1 k) (hw _ ?_))) (fun g => ⟨pk_in k 20 hk, nm_e (nm_r (nI_1 k) (hw _ ?_))⟩)
        · rw [gd_sx, if_pos h3, ← hu, gd_sk, if_pos g]
        · rw [gd_sx, if_pos h3, ← hu, gd_sk, if_neg g]
      · refine gd_has0 (by omega) hk (br_t rfl (nm_r (gd_or0 _) (nm_r (nI_1 k) (hw _ ?_))))
        rw [gd_sx, if_neg h3, ← hu]))
theorem gd_spread {post : Int32 → Prop} {P Q R : Int} {hs tp bt : Int32} {a4 a5 a6 a7 a8 a9 a10 a11 a12 a13 a14 a15 a16 a17 a18 a19 : Nat → Int32} {x : Int32} (h : post (gd_sy x 7)) : wpX_spread post (7, hs, tp, bt, gd_a, gd_b, (gd_w P Q R), a4, a5, a6, a7, a8, a9, a10, a11, a12, a13, a14, a15, a16, a17, a18, a19) x :=
  pk_loop (fun n i (u : Int32) => wX_spread_4 post 7 hs tp bt gd_a gd_b (gd_w P Q R) a4 a5 a6 a7 a8 a9 a10 a11 a12 a13 a14 a15 a16 a17 a18 a19 n u (nI i)) (fun i u => u = gd_sy x i) 7 0 x (by omega) rfl
    (fun n u hu => pk_le 7 7 (fun _ => by rw [hu]; exact h) (fun z => absurd z (by omega)))
    (fun n i u hi hu hw => pk_le 7 i (fun z => absurd z (by omega)) (fun _ => gd_spread_in (hw _ (by rw [hu]; rfl))))

theorem gd_low16 {post : St2 → Prop} {P Q R : Int} {hs tp bt : Int32} {a4 a5 a6 a7 a8 a9 a10 a11 a12 a13 a14 a15 a16 a17 a18 a19 : Nat → Int32} {y : Int32}
    (H : ∀ b7 : Nat → Int32, (∀ i, i < 7 → b7 i = if a7 i = 0 ∧ ((y >>> (nI i &&& 31)) &&& 1) = 0 then 0 else 1) → post (7, hs, tp, bt, gd_a, gd_b, (gd_w P Q R), a4, a5, a6, b7, a8, a9, a10, a11, a12, a13, a14, a15, a16, a17, a18, a19)) :
    ∃ n, wX_lowerFrom_16 post y 7 hs tp bt n 0 gd_a gd_b (gd_w P Q R) a4 a5 a6 a7 a8 a9 a10 a11 a12 a13 a14 a15 a16 a17 a18 a19 :=
  pk_loop (fun n i (u : Nat → Int32) => wX_lowerFrom_16 post y 7 hs tp bt n (nI i) gd_a gd_b (gd_w P Q R) a4 a5 a6 u a8 a9 a10 a11 a12 a13 a14 a15 a16 a17 a18 a19)
    (fun i u => (∀ j, j < i → u j = if a7 j = 0 ∧ ((y >>> (nI j &&& 31)) &&& 1) = 0 then 0 else 1) ∧ (∀ j, i ≤ j → u j = a7 j)) 7 0 a7 (by omega) ⟨fun j h => absurd h (by omega), fun j _ => rfl⟩
    (fun n u h => pk_le 7 7 (fun _ => H u h.1) (fun z => absurd z (by omega)))
    (fun n i u hi h hw => pk_le 7 i (fun z => absurd z (by omega)) (fun _ => ⟨pk_in i 7 hi, by
      have hc : (nI i).toNatClampNeg = i := nI_clamp (by omega)
      have hu : u i = a7 i := h.2 i (Nat.le_refl i)
      rw [hc]
      refine br_c (fun g => br_c (fun g2 => ⟨pk_in i 7 hi, nm_e (nm_r (nI_1 i) (hw _ ⟨?_, ?_⟩))⟩) (fun g2 => ⟨pk_in i 7 hi, nm_e (nm_r (nI_1 i) (hw _ ⟨?_, ?_⟩))⟩)) (fun g => ⟨pk_in i 7 hi, nm_e (nm_r (nI_1 i) (hw _ ⟨?_, ?_⟩))⟩)
      · exact gd_fill (f := fun j => if a7 j = 0 ∧ ((y >>> (nI j &&& 31)) &&& 1) = 0 then 0 else 1) rfl h.1 (if_pos ⟨hu ▸ g, g2⟩).symm
      · exact gd_rest rfl h.2
      · exact gd_fill (f := fun j => if a7 j = 0 ∧ ((y >>> (nI j &&& 31)) &&& 1) = 0 then 0 else 1) rfl h.1 (if_neg (fun t => g2 t.2)).symm
      · exact gd_rest rfl h.2
      · exact gd_fill (f := fun j => if a7 j = 0 ∧ ((y >>> (nI j &&& 31)) &&& 1) = 0 then 0 else 1) rfl h.1 (if_neg (fun t => g (hu.trans t.1))).symm
      · exact gd_rest rfl h.2⟩))
theorem gd_lower0 {post : St2 → Prop} {P Q R : Int} {hs tp bt : Int32} {a4 a5 a6 a7 a8 a9 a10 a11 a12 a13 a14 a15 a16 a17 a18 a19 : Nat → Int32} (h7 : ∀ i, i < 7 → a7 i = 0)
    (H : ∀ b7 : Nat → Int32, (∀ i, i < 7 → b7 i = 0) → post (7, hs, tp, bt, gd_a, gd_b, (gd_w P Q R), a4, a5, a6, b7, a8, a9, a10, a11, a12, a13, a14, a15, a16, a17, a18, a19)) : wpX_lowerFrom post (7, hs, tp, bt, gd_a, gd_b, (gd_w P Q R), a4, a5, a6, a7, a8, a9, a10, a11, a12, a13, a14, a15, a16, a17, a18, a19) 0 :=
  br_t rfl (gd_low16 (fun b7 hb => H b7 (fun i hi => by
    rw [hb i hi, if_pos ⟨h7 i hi, (by decide : ∀ i, i < 7 → (((0 : Int32) >>> (nI i &&& 31)) &&& 1) = 0) i hi⟩])))
theorem gd_lower7 {post : St2 → Prop} {P Q R : Int} {hs tp bt : Int32} {a4 a5 a6 a7 a8 a9 a10 a11 a12 a13 a14 a15 a16 a17 a18 a19 : Nat → Int32} {x : Int32} (hx : ¬ x = 0) (hy : gd_sy x 7 = 7) (h7 : ∀ i, i < 7 → a7 i = 0)
    (H : ∀ b7 : Nat → Int32, (∀ i, i < 7 → b7 i = if i < 3 then 1 else 0) → post (7, hs, tp, bt, gd_a, gd_b, (gd_w P Q R), a4, a5, a6, b7, a8, a9, a10, a11, a12, a13, a14, a15, a16, a17, a18, a19)) : wpX_lowerFrom post (7, hs, tp, bt, gd_a, gd_b, (gd_w P Q R), a4, a5, a6, a7, a8, a9, a10, a11, a12, a13, a14, a15, a16, a17, a18, a19) x :=
  br_f hx (gd_spread (by
    rw [hy]
    refine gd_low16 (fun b7 hb => H b7 (fun i hi => ?_))
    rw [hb i hi]
    by_cases h3 : i < 3
    · rw [if_pos h3, if_neg (fun t => absurd ((gd_bit i (by omega)).mp t.2) (by omega))]
    · rw [if_neg h3, if_pos ⟨h7 i hi, (gd_bit i (by omega)).mpr (by omega)⟩]))

theorem gd_write {post : St2 → Prop} {P Q R : Int} {hs tp bt : Int32} {a4 a5 a6 a7 a8 a9 a10 a11 a12 a13 a14 a15 a16 a17 a18 a19 : Nat → Int32} {s : Nat} (h7 : s < 7)
    (H : ∀ b4 : Nat → Int32, (∀ t, t < 7 → b4 (s * 7 + t) = if a7 t = 0 then a6 t else (-4000)) → (∀ j, (j < s * 7 ∨ s * 7 + 7 ≤ j) → b4 j = a4 j) → post (7, hs, tp, bt, gd_a, gd_b, (gd_w P Q R), b4, a5, a6, a7, a8, a9, a10, a11, a12, a13, a14, a15, a16, a17, a18, a19)) :
    wpX_writeFrom post (7, hs, tp, bt, gd_a, gd_b, (gd_w P Q R), a4, a5, a6, a7, a8, a9, a10, a11, a12, a13, a14, a15, a16, a17, a18, a19) (nI s) :=
  pk_loop (fun n i (u : Nat → Int32) => wX_writeFrom_2 post (nI s) 7 hs tp bt n (nI i) gd_a gd_b (gd_w P Q R) u a5 a6 a7 a8 a9 a10 a11 a12 a13 a14 a15 a16 a17 a18 a19)
    (fun i u => (∀ t, t < i → u (s * 7 + t) = if a7 t = 0 then a6 t else (-4000)) ∧ (∀ j, (j < s * 7 ∨ s * 7 + 7 ≤ j) → u j = a4 j)) 7 0 a4 (by omega) ⟨fun j h => absurd h (by omega), fun j _ => rfl⟩
    (fun n u h => pk_le 7 7 (fun _ => H u h.1 h.2) (fun z => absurd z (by omega)))
    (fun n i u hi h hw => pk_le 7 i (fun z => absurd z (by omega)) (fun _ => ⟨pk_in i 7 hi, by
      have hc : (nI i).toNatClampNeg = i := nI_clamp (by omega)
      have hd : (nI (s * 7 + i)).toNatClampNeg = s * 7 + i := nI_clamp (by omega)
      have key : ∀ x : Int32, x = (if a7 i = 0 then a6 i else (-4000)) → (∀ t, t < i + 1 → upd u (s * 7 + i) x (s * 7 + t) = if a7 t = 0 then a6 t else (-4000)) ∧ (∀ j, (j < s * 7 ∨ s * 7 + 7 ≤ j) → upd u (s * 7 + i) x j = a4 j) := by
        intro x hx
        refine ⟨fun t ht => ?_, fun j hj => ?_⟩
        · by_cases e : t = i
          · rw [e, pk_us, hx]
          · rw [pk_un (by omega)]
            exact h.1 t (by omega)
        · rw [pk_un (by omega)]
          exact h.2 j hj
      rw [hc, gd_ix, hd]
      refine br_c (fun g => ⟨pk_in i 7 hi, pk_in (s * 7 + i) 49 (by omega), nm_e (nm_r (nI_1 i) (hw _ (key _ (if_pos g).symm)))⟩) (fun g => ⟨pk_in (s * 7 + i) 49 (by omega), nm_e (nm_r (nI_1 i) (hw _ (key _ (if_neg g).symm)))⟩)⟩))

theorem gd_good1 {post : Int32 → Prop} {P Q R : Int} {hs tp bt : Int32} {a4 a5 a6 a7 a8 a9 a10 a11 a12 a13 a14 a15 a16 a17 a18 a19 : Nat → Int32} {p g : Nat} (hp : p < 7) (hg : a14 p = nI g) (g7 : g < 7) (h0 : a15 g = 0) (h : post 1) : wpX_isGood post (7, hs, tp, bt, gd_a, gd_b, (gd_w P Q R), a4, a5, a6, a7, a8, a9, a10, a11, a12, a13, a14, a15, a16, a17, a18, a19) (nI p) := by
  refine ⟨pk_in p 7 hp, ?_⟩
  rw [nI_clamp (show p < 2 ^ 31 by omega), hg, nI_clamp (show g < 2 ^ 31 by omega)]
  exact ⟨pk_in g 7 g7, br_t h0 h⟩
theorem gd_good0 {post : Int32 → Prop} {P Q R : Int} {hs tp bt : Int32} {a4 a5 a6 a7 a8 a9 a10 a11 a12 a13 a14 a15 a16 a17 a18 a19 : Nat → Int32} {p g : Nat} (hp : p < 7) (hg : a14 p = nI g) (g7 : g < 7) (h0 : ¬ a15 g = 0) (h : post 0) : wpX_isGood post (7, hs, tp, bt, gd_a, gd_b, (gd_w P Q R), a4, a5, a6, a7, a8, a9, a10, a11, a12, a13, a14, a15, a16, a17, a18, a19) (nI p) := by
  refine ⟨pk_in p 7 hp, ?_⟩
  rw [nI_clamp (show p < 2 ^ 31 by omega), hg, nI_clamp (show g < 2 ^ 31 by omega)]
  exact ⟨pk_in g 7 g7, br_f h0 h⟩
theorem gd_place {post : St2 → Prop} {P Q R : Int} {hs tp bt : Int32} {a4 a5 a6 a7 a8 a9 a10 a11 a12 a13 a14 a15 a16 a17 a18 a19 : Nat → Int32} {i p : Nat} (hi : i < 8) (hp : p < 7) (h : post (7, hs, tp, bt, gd_a, gd_b, (gd_w P Q R), a4, a5, a6, a7, a8, a9, a10, a11, upd a12 i (nI p), upd a13 p (nI i), a14, a15, a16, a17, a18, a19)) : wpX_setPlace post (7, hs, tp, bt, gd_a, gd_b, (gd_w P Q R), a4, a5, a6, a7, a8, a9, a10, a11, a12, a13, a14, a15, a16, a17, a18, a19) (nI i) (nI p) := by
  refine ⟨pk_in i 8 hi, nm_r (e' := upd a12 i (nI p)) (by rw [nI_clamp (by omega), gd_byte p (by omega)]) ⟨pk_in p 7 hp, nm_r (e' := upd a13 p (nI i)) (by rw [nI_clamp (by omega), gd_byte i (by omega)]) h⟩⟩

theorem gd_rx0 {post : Int32 → St2 → Prop} {P Q R : Int} {hs tp bt : Int32} {a4 a5 a6 a7 a8 a9 a10 a11 a12 a13 a14 a15 a16 a17 a18 a19 : Nat → Int32} {k i j : Nat} (j7 : j < 7) (h : post 0 (7, hs, tp, bt, gd_a, gd_b, (gd_w P Q R), a4, a5, a6, a7, a8, a9, a10, a11, a12, a13, a14, a15, a16, a17, a18, a19)) : wX_relax_52 post (nI k) (nI i) (nI j) 0 7 hs tp bt gd_a gd_b (gd_w P Q R) a4 a5 a6 a7 a8 a9 a10 a11 a12 a13 a14 a15 a16 a17 a18 a19 :=
  br_t rfl ⟨pk_in j 7 j7, pk_in j 7 j7, nm_r (e' := a6) (by rw [nI_clamp (by omega), gd_us]) ⟨rfl, h⟩⟩
theorem gd_rx1 {post : Int32 → St2 → Prop} {P Q R : Int} {hs tp bt : Int32} {a4 a5 a6 a7 a8 a9 a10 a11 a12 a13 a14 a15 a16 a17 a18 a19 : Nat → Int32} {k i j : Nat} (hk : k < 20) (i7 : i < 7) (j7 : j < 7) (h : post 1 (7, hs, tp, bt, gd_a, gd_b, (gd_w P Q R), a4, a5, upd a6 j (a6 i + gd_w P Q R k), a7, a8, a9, a10, a11, a12, a13, a14, a15, a16, a17, a18, a19)) : wX_relax_52 post (nI k) (nI i) (nI j) 1 7 hs tp bt gd_a gd_b (gd_w P Q R) a4 a5 a6 a7 a8 a9 a10 a11 a12 a13 a14 a15 a16 a17 a18 a19 :=
  br_f (by decide) ⟨pk_in i 7 i7, pk_in k 20 hk, pk_in j 7 j7, nm_r (e' := upd a6 j (a6 i + gd_w P Q R k)) (by rw [nI_clamp (by omega), nI_clamp (by omega), nI_clamp (by omega)]) ⟨rfl, h⟩⟩
theorem gd_relax {post : Int32 → St2 → Prop} {P Q R : Int} {hs tp bt : Int32} {a4 a5 a6 a7 a8 a9 a10 a11 a12 a13 a14 a15 a16 a17 a18 a19 : Nat → Int32} {k i j : Nat} (hk : k < 20) (hi : gd_a k = nI i) (hj : gd_b k = nI j) (i7 : i < 7) (j7 : j < 7)
    (H1 : ¬ 1048576 ≤ a6 i → ¬ a6 j ≤ a6 i + gd_w P Q R k → post 1 (7, hs, tp, bt, gd_a, gd_b, (gd_w P Q R), a4, a5, upd a6 j (a6 i + gd_w P Q R k), a7, a8, a9, a10, a11, a12, a13, a14, a15, a16, a17, a18, a19))
    (H0 : (1048576 ≤ a6 i ∨ a6 j ≤ a6 i + gd_w P Q R k) → post 0 (7, hs, tp, bt, gd_a, gd_b, (gd_w P Q R), a4, a5, a6, a7, a8, a9, a10, a11, a12, a13, a14, a15, a16, a17, a18, a19)) : wpX_relax post (7, hs, tp, bt, gd_a, gd_b, (gd_w P Q R), a4, a5, a6, a7, a8, a9, a10, a11, a12, a13, a14, a15, a16, a17, a18, a19) (nI k) := by
  refine ⟨pk_in k 20 hk, nm_r (e' := nI i) (by rw [nI_clamp (by omega), hi]) ⟨pk_in k 20 hk, nm_r (e' := nI j) (by rw [nI_clamp (by omega), hj]) ⟨pk_in i 7 i7, ?_⟩⟩⟩
  rw [nI_clamp (show i < 2 ^ 31 by omega), nI_clamp (show j < 2 ^ 31 by omega), nI_clamp (show k < 2 ^ 31 by omega)]
  exact br_c (fun g => gd_rx0 j7 (H0 (Or.inl g))) (fun g => ⟨pk_in i 7 i7, pk_in k 20 hk, pk_in j 7 j7, br_c (fun g2 => gd_rx0 j7 (H0 (Or.inr g2))) (fun g2 => gd_rx1 hk i7 j7 (H1 g g2))⟩)
end
section
/-- relax, as a function of the array of ways; a round; the rounds -/
def gd_rl (P Q R : Int) (a : Nat → Int32) (k : Nat) : Nat → Int32 :=
  if ¬ 1048576 ≤ a k ∧ ¬ a ((k + 1) % 3) ≤ a k + gd_w P Q R k then upd a ((k + 1) % 3) (a k + gd_w P Q R k) else a
def gd_rb (P Q R : Int) (a : Nat → Int32) (k : Nat) : Int32 :=
  if ¬ 1048576 ≤ a k ∧ ¬ a ((k + 1) % 3) ≤ a k + gd_w P Q R k then 1 else 0
def gd_rk (P Q R : Int) (a : Nat → Int32) : Nat → (Nat → Int32)
  | 0 => a
  | k + 1 => if k < 3 then gd_rl P Q R (gd_rk P Q R a k) k else gd_rk P Q R a k
def gd_ri (P Q R : Int) (a : Nat → Int32) : Nat → (Nat → Int32)
  | 0 => a
  | n + 1 => gd_rk P Q R (gd_ri P Q R a n) 20
/-- the set of the points that got better in one more round -/
def gd_rs (P Q R : Int) (a : Nat → Int32) : Nat → Int32
  | 0 => 0
  | k + 1 => if k < 3 then (if gd_rb P Q R (gd_rk P Q R a k) k = 0 then gd_rs P Q R a k else gd_rs P Q R a k ||| ((1 : Int32) <<< (gd_b k &&& 31))) else gd_rs P Q R a k
theorem gd_relaxF {post : Int32 → St2 → Prop} {P Q R : Int} {hs tp bt : Int32} {a4 a5 a6 a7 a8 a9 a10 a11 a12 a13 a14 a15 a16 a17 a18 a19 : Nat → Int32} {k : Nat} (hk : k < 3) (h : post (gd_rb P Q R a6 k) (7, hs, tp, bt, gd_a, gd_b, (gd_w P Q R), a4, a5, gd_rl P Q R a6 k, a7, a8, a9, a10, a11, a12, a13, a14, a15, a16, a17, a18, a19)) : wpX_relax post (7, hs, tp, bt, gd_a, gd_b, (gd_w P Q R), a4, a5, a6, a7, a8, a9, a10, a11, a12, a13, a14, a15, a16, a17, a18, a19) (nI k) := by
  refine gd_relax (i := k) (j := (k + 1) % 3) (by omega) (gd_a3 k hk) (gd_b3 k hk) (by omega) (by omega) (fun g g2 => ?_) (fun g => ?_)
  · rw [gd_rb, gd_rl, if_pos ⟨g, g2⟩, if_pos ⟨g, g2⟩] at h
    exact h
  · have t : ¬ (¬ 1048576 ≤ a6 k ∧ ¬ a6 ((k + 1) % 3) ≤ a6 k + gd_w P Q R k) := fun t => g.elim t.1 t.2
    rw [gd_rb, gd_rl, if_neg t, if_neg t] at h
    exact h
theorem gd_r15 {post : St2 → Prop} {J : Int32 → Int32 → Int32 → Int32 → Int32 → (Nat → Int32) → (Nat → Int32) → (Nat → Int32) → (Nat → Int32) → (Nat → Int32) → (Nat → Int32) → (Nat → Int32) → (Nat → Int32) → (Nat → Int32) → (Nat → Int32) → (Nat → Int32) → (Nat → Int32) → (Nat → Int32) → (Nat → Int32) → (Nat → Int32) → (Nat → Int32) → (Nat → Int32) → (Nat → Int32) → (Nat → Int32) → Prop} {P Q R : Int} {hs tp bt : Int32} {a4 a5 a6 a7 a8 a9 a10 a11 a12 a13 a14 a15 a16 a17 a18 a19 : Nat → Int32} {x1 : Int32} {i : Nat}
    (h : J (nI (i + 1)) 7 hs tp bt gd_a gd_b (gd_w P Q R) a4 a5 (gd_rk P Q R a6 20) a7 a8 a9 a10 a11 a12 a13 a14 a15 a16 a17 a18 a19) : ∃ n, wX_goByRounds_15 post J x1 (nI i) n 0 7 hs tp bt gd_a gd_b (gd_w P Q R) a4 a5 a6 a7 a8 a9 a10 a11 a12 a13 a14 a15 a16 a17 a18 a19 :=
  pk_loop (fun n k (u : Nat → Int32) => wX_goByRounds_15 post J x1 (nI i) n (nI k) 7 hs tp bt gd_a gd_b (gd_w P Q R) a4 a5 u a7 a8 a9 a10 a11 a12 a13 a14 a15 a16 a17 a18 a19) (fun k u => u = gd_rk P Q R a6 k) 20 0 a6 (by omega) rfl
    (fun n u hu => pk_le 20 20 (fun _ => nm_r (nI_1 i) (by rw [hu]; exact h)) (fun z => absurd z (by omega)))
    (fun n k u hk hu hw => pk_le 20 k (fun z => absurd z (by omega)) (fun _ => by
      by_cases h3 : k < 3
      · exact gd_has1 h3 (br_f (by decide) (gd_relaxF h3 (nm_r (nI_1 k) (hw _ (by rw [gd_rk, if_pos h3, ← hu])))))
      · exact gd_has0 (by omega) hk (br_t rfl (nm_r (nI_1 k) (hw _ (by rw [gd_rk, if_neg h3, ← hu]))))))
theorem gd_r7 {post : St2 → Prop} {P Q R : Int} {hs tp bt : Int32} {a4 a5 a6 a7 a8 a9 a10 a11 a12 a13 a14 a15 a16 a17 a18 a19 : Nat → Int32} {x1 : Int32} (h : ∃ n, wX_goByRounds_51 post x1 n 0 0 7 hs tp bt gd_a gd_b (gd_w P Q R) a4 a5 (gd_ri P Q R a6 7) a7 a8 a9 a10 a11 a12 a13 a14 a15 a16 a17 a18 a19) : ∃ n, wX_goByRounds_7 post x1 n 0 7 hs tp bt gd_a gd_b (gd_w P Q R) a4 a5 a6 a7 a8 a9 a10 a11 a12 a13 a14 a15 a16 a17 a18 a19 :=
  pk_loop (fun n i (u : Nat → Int32) => wX_goByRounds_7 post x1 n (nI i) 7 hs tp bt gd_a gd_b (gd_w P Q R) a4 a5 u a7 a8 a9 a10 a11 a12 a13 a14 a15 a16 a17 a18 a19) (fun i u => u = gd_ri P Q R a6 i) 7 0 a6 (by omega) rfl
    (fun n u hu => pk_le 7 7 (fun _ => by rw [hu]; exact h) (fun z => absurd z (by omega)))
    (fun n i u hi hu hw => pk_le 7 i (fun z => absurd z (by omega)) (fun _ => gd_r15 (hw _ (by rw [hu]; rfl))))
theorem gd_r51 {post : St2 → Prop} {P Q R : Int} {hs tp bt : Int32} {a4 a5 a6 a7 a8 a9 a10 a11 a12 a13 a14 a15 a16 a17 a18 a19 : Nat → Int32} {s : Nat} (h7 : s < 7) (ha : ∀ i, i < 7 → a7 i = 0)
    (hc : (gd_rs P Q R a6 20 = 0 ∨ gd_rs P Q R a6 20 = 7))
    (H : ∀ b4 b7 : Nat → Int32, (gd_rs P Q R a6 20 = 0 → ∀ i, i < 7 → b7 i = 0) → (gd_rs P Q R a6 20 = 7 → ∀ i, i < 7 → b7 i = if i < 3 then 1 else 0) →
      (∀ t, t < 7 → b4 (s * 7 + t) = if b7 t = 0 then gd_rk P Q R a6 20 t else (-4000)) → (∀ j, (j < s * 7 ∨ s * 7 + 7 ≤ j) → b4 j = a4 j) → post (7, hs, tp, bt, gd_a, gd_b, (gd_w P Q R), b4, a5, gd_rk P Q R a6 20, b7, a8, a9, a10, a11, a12, a13, a14, a15, a16, a17, a18, a19)) :
    ∃ n, wX_goByRounds_51 post (nI s) n 0 0 7 hs tp bt gd_a gd_b (gd_w P Q R) a4 a5 a6 a7 a8 a9 a10 a11 a12 a13 a14 a15 a16 a17 a18 a19 :=
  pk_loop (fun n k (u : Int32 × (Nat → Int32)) => wX_goByRounds_51 post (nI s) n u.1 (nI k) 7 hs tp bt gd_a gd_b (gd_w P Q R) a4 a5 u.2 a7 a8 a9 a10 a11 a12 a13 a14 a15 a16 a17 a18 a19) (fun k u => u.1 = gd_rs P Q R a6 k ∧ u.2 = gd_rk P Q R a6 k) 20 0 (0, a6) (by omega) ⟨rfl, rfl⟩
    (fun n u hu => pk_le 20 20 (fun _ => by
      rw [hu.1, hu.2]
      rcases hc with hc | hc
      · rw [hc]
        refine gd_lower0 ha (fun b7 hb => gd_write h7 (fun b4 h1 h2 => H b4 b7 (fun _ => hb) (fun z => ?_) h1 h2))
        rw [hc] at z
        exact absurd z (by decide)
      · rw [hc]
        refine gd_lower7 (by decide) (by decide) ha (fun b7 hb => gd_write h7 (fun b4 h1 h2 => H b4 b7 (fun z => ?_) (fun _ => hb) h1 h2))
        rw [hc] at z
        exact absurd z (by decide)) (fun z => absurd z (by omega)))
    (fun n k u hk hu hw => pk_le 20 k (fun z => absurd z (by omega)) (fun _ => by
      by_cases h3 : k < 3
      · refine gd_has1 h3 (br_f (by decide) (gd_relaxF h3 (br_c (fun g => nm_r (gd_or0 _) (nm_r (nI_1 k) (hw (u.1, gd_rl P Q R u.2 k) ⟨?_, ?_⟩))) (fun g => ⟨pk_in k 20 hk, nm_e (nm_r (nI_1 k) (hw (u.1 ||| ((1 : Int32) <<< (gd_b (nI k).toNatClampNeg &&& 31)), gd_rl P Q R u.2 k) ⟨?_, ?_⟩))⟩))))
        · rw [gd_rs, if_pos h3, ← hu.2, if_pos g, ← hu.1]
        · rw [gd_rk, if_pos h3, ← hu.2]
        · rw [gd_rs, if_pos h3, ← hu.2, if_neg g, ← hu.1, nI_clamp (show k < 2 ^ 31 by omega)]
        · rw [gd_rk, if_pos h3, ← hu.2]
      · refine gd_has0 (by omega) hk (br_t rfl (nm_r (gd_or0 _) (nm_r (nI_1 k) (hw u ⟨?_, ?_⟩))))
        · rw [gd_rs, if_neg h3, ← hu.1]
        · rw [gd_rk, if_neg h3, ← hu.2]))

/-- three ways as ints -/
def gd_T (a : Nat → Int32) (x y z : Int) : Prop := a 0 = gd_z x ∧ a 1 = gd_z y ∧ a 2 = gd_z z
def gd_bd (x : Int) : Prop := -1000000 ≤ x ∧ x ≤ 1048576
def gd_m (x w y : Int) : Int := if x < 1048576 ∧ x + w < y then x + w else y
def gd_wt (P Q R : Int) : Prop := (-20 ≤ P ∧ P ≤ 20) ∧ (-20 ≤ Q ∧ Q ≤ 20) ∧ (-20 ≤ R ∧ R ≤ 20)
theorem gd_cmp {u v w : Int32} {x y p : Int} (hu : u = gd_z x) (hv : v = gd_z y) (hw : w = gd_z p) (hx : gd_bd x) (hy : gd_bd y) (hp : -1000 ≤ p ∧ p ≤ 1000) :
    (¬ 1048576 ≤ u ∧ ¬ v ≤ u + w) ↔ (x < 1048576 ∧ x + p < y) := by
  unfold gd_bd at hx hy
  rw [hu, hv, hw, gd_far, gd_za, gd_zle (by omega) (by omega) (by omega) (by omega), gd_zle (by omega) (by omega) (by omega) (by omega)]
  omega
theorem gd_rl0 {P Q R x y z : Int} {a : Nat → Int32} (h : gd_T a x y z) (hw : gd_wt P Q R) (hx : gd_bd x) (hy : gd_bd y) :
    gd_T (gd_rl P Q R a 0) x (gd_m x P y) z ∧ gd_rb P Q R a 0 = (if x < 1048576 ∧ x + P < y then 1 else 0) := by
  obtain ⟨h0, h1, h2⟩ := h
  have c : (¬ 1048576 ≤ a 0 ∧ ¬ a ((0 + 1) % 3) ≤ a 0 + gd_w P Q R 0) ↔ (x < 1048576 ∧ x + P < y) := gd_cmp h0 h1 rfl hx hy (by have := hw.1; omega)
  unfold gd_rl gd_rb gd_m
  by_cases g : x < 1048576 ∧ x + P < y
  · rw [if_pos (c.mpr g), if_pos (c.mpr g), if_pos g, if_pos g]
    refine ⟨⟨?_, ?_, ?_⟩, rfl⟩
    · show upd a 1 _ 0 = _
      rw [pk_un (by decide), h0]
    · show upd a 1 (a 0 + gd_z P) 1 = _
      rw [pk_us, h0, gd_za]
    · show upd a 1 _ 2 = _
      rw [pk_un (by decide), h2]
  · rw [if_neg (fun t => g (c.mp t)), if_neg (fun t => g (c.mp t)), if_neg g, if_neg g]
    exact ⟨⟨h0, h1, h2⟩, rfl⟩
theorem gd_rl1 {P Q R x y z : Int} {a : Nat → Int32} (h : gd_T a x y z) (hw : gd_wt P Q R) (hy : gd_bd y) (hz : gd_bd z) :
    gd_T (gd_rl P Q R a 1) x y (gd_m y Q z) ∧ gd_rb P Q R a 1 = (if y < 1048576 ∧ y + Q < z then 1 else 0) := by
  obtain ⟨h0, h1, h2⟩ := h
  have c : (¬ 1048576 ≤ a 1 ∧ ¬ a ((1 + 1) % 3) ≤ a 1 + gd_w P Q R 1) ↔ (y < 1048576 ∧ y + Q < z) := gd_cmp h1 h2 rfl hy hz (by have := hw.2.1; omega)
  unfold gd_rl gd_rb gd_m
  by_cases g : y < 1048576 ∧ y + Q < z
  · rw [if_pos (c.mpr g), if_pos (c.mpr g), if_pos g, if_pos g]
    refine ⟨⟨?_, ?_, ?_⟩, rfl⟩
    · show upd a 2 _ 0 = _
      rw [pk_un (by decide), h0]
    · show upd a 2 _ 1 = _
      rw [pk_un (by decide), h1]
    · show upd a 2 (a 1 + gd_z Q) 2 = _
      rw [pk_us, h1, gd_za]
  · rw [if_neg (fun t => g (c.mp t)), if_neg (fun t => g (c.mp t)), if_neg g, if_neg g]
    exact ⟨⟨h0, h1, h2⟩, rfl⟩
theorem gd_rl2 {P Q R x y z : Int} {a : Nat → Int32} (h : gd_T a x y z) (hw : gd_wt P Q R) (hz : gd_bd z) (hx : gd_bd x) :
    gd_T (gd_rl P Q R a 2) (gd_m z R x) y z ∧ gd_rb P Q R a 2 = (if z < 1048576 ∧ z + R < x then 1 else 0) := by
  obtain ⟨h0, h1, h2⟩ := h
  have c : (¬ 1048576 ≤ a 2 ∧ ¬ a ((2 + 1) % 3) ≤ a 2 + gd_w P Q R 2) ↔ (z < 1048576 ∧ z + R < x) := gd_cmp h2 h0 rfl hz hx (by have := hw.2.2; omega)
  unfold gd_rl gd_rb gd_m
  by_cases g : z < 1048576 ∧ z + R < x
  · rw [if_pos (c.mpr g), if_pos (c.mpr g), if_pos g, if_pos g]
    refine ⟨⟨?_, ?_, ?_⟩, rfl⟩
    · show upd a 0 (a 2 + gd_z R) 0 = _
      rw [pk_us, h2, gd_za]
    · show upd a 0 _ 1 = _
      rw [pk_un (by decide), h1]
    · show upd a 0 _ 2 = _
      rw [pk_un (by decide), h2]
  · rw [if_neg (fun t => g (c.mp t)), if_neg (fun t => g (c.mp t)), if_neg g, if_neg g]
    exact ⟨⟨h0, h1, h2⟩, rfl⟩
theorem gd_rk_ge (P Q R : Int) (a : Nat → Int32) (d : Nat) : gd_rk P Q R a (3 + d) = gd_rk P Q R a 3 := by
  induction d with
  | zero => rfl
  | succ d ih =>
    show gd_rk P Q R a (3 + d + 1) = _
    rw [gd_rk, if_neg (by omega), ih]
theorem gd_rs_ge (P Q R : Int) (a : Nat → Int32) (d : Nat) : gd_rs P Q R a (3 + d) = gd_rs P Q R a 3 := by
  induction d with
  | zero => rfl
  | succ d ih =>
    show gd_rs P Q R a (3 + d + 1) = _
    rw [gd_rs, if_neg (by omega), ih]
theorem gd_rk1 (P Q R : Int) (a : Nat → Int32) : gd_rk P Q R a 1 = gd_rl P Q R a 0 := by
  rw [gd_rk, if_pos (by decide), gd_rk]
theorem gd_rk2 (P Q R : Int) (a : Nat → Int32) : gd_rk P Q R a 2 = gd_rl P Q R (gd_rl P Q R a 0) 1 := by
  rw [gd_rk, if_pos (by decide), gd_rk1]
theorem gd_rk3 (P Q R : Int) (a : Nat → Int32) : gd_rk P Q R a 3 = gd_rl P Q R (gd_rl P Q R (gd_rl P Q R a 0) 1) 2 := by
  rw [gd_rk, if_pos (by decide), gd_rk2]
theorem gd_rk20 (P Q R : Int) (a : Nat → Int32) : gd_rk P Q R a 20 = gd_rl P Q R (gd_rl P Q R (gd_rl P Q R a 0) 1) 2 := (gd_rk_ge P Q R a 17).trans (gd_rk3 P Q R a)
theorem gd_rs20 (P Q R : Int) (a : Nat → Int32) : gd_rs P Q R a 20 = gd_rs P Q R a 3 := gd_rs_ge P Q R a 17
/-- three points -/
theorem gd_3 {p : Nat → Prop} (h0 : p 0) (h1 : p 1) (h2 : p 2) : ∀ t, t < 3 → p t := fun _ ht => co_3 h0 h1 h2 ht
/-- one round over all arcs -/
theorem gd_rT {P Q R x y z x' y' z' : Int} {a : Nat → Int32} (h : gd_T a x y z) (hw : gd_wt P Q R) (hx : gd_bd x) (hy : gd_bd y) (hz : gd_bd z) (by' : gd_bd y') (bz' : gd_bd z')
    (ey : gd_m x P y = y') (ez : gd_m y' Q z = z') (ex : gd_m z' R x = x') :
    gd_T (gd_rk P Q R a 20) x' y' z' ∧
    ((x < 1048576 ∧ x + P < y) → (y' < 1048576 ∧ y' + Q < z) → (z' < 1048576 ∧ z' + R < x) → gd_rs P Q R a 20 = 7) ∧
    (¬ (x < 1048576 ∧ x + P < y) → ¬ (y' < 1048576 ∧ y' + Q < z) → ¬ (z' < 1048576 ∧ z' + R < x) → gd_rs P Q R a 20 = 0) := by
  obtain ⟨t0, b0⟩ := gd_rl0 h hw hx hy
  rw [ey] at t0
  obtain ⟨t1, b1⟩ := gd_rl1 t0 hw by' hz
  rw [ez] at t1
  obtain ⟨t2, b2⟩ := gd_rl2 t1 hw bz' hx
  rw [ex] at t2
  rw [gd_rk20, gd_rs20]
  have e : ∀ c0 c1 c2 : Int32, gd_rb P Q R a 0 = c0 → gd_rb P Q R (gd_rl P Q R a 0) 1 = c1 → gd_rb P Q R (gd_rl P Q R (gd_rl P Q R a 0) 1) 2 = c2 →
      gd_rs P Q R a 3 = (if c2 = 0 then (if c1 = 0 then (if c0 = 0 then 0 else 0 ||| ((1 : Int32) <<< (gd_b 0 &&& 31))) else (if c0 = 0 then 0 else 0 ||| ((1 : Int32) <<< (gd_b 0 &&& 31))) ||| ((1 : Int32) <<< (gd_b 1 &&& 31)))
     else (if c1 = 0 then (if c0 = 0 then 0 else 0 ||| ((1 : Int32) <<< (gd_b 0 &&& 31))) else (if c0 = 0 then 0 else 0 ||| ((1 : Int32) <<< (gd_b 0 &&& 31))) ||| ((1 : Int32) <<< (gd_b 1 &&& 31))) ||| ((1 : Int32) <<< (gd_b 2 &&& 31))) := by
    intro c0 c1 c2 q0 q1 q2
    have s0 : gd_rs P Q R a 0 = 0 := by rw [gd_rs]
    have s1 : gd_rs P Q R a 1 = (if c0 = 0 then 0 else 0 ||| ((1 : Int32) <<< (gd_b 0 &&& 31))) := by
      rw [gd_rs, if_pos (by decide), s0, gd_rk, q0]
    have s2 : gd_rs P Q R a 2 = (if c1 = 0 then (if c0 = 0 then 0 else 0 ||| ((1 : Int32) <<< (gd_b 0 &&& 31))) else (if c0 = 0 then 0 else 0 ||| ((1 : Int32) <<< (gd_b 0 &&& 31))) ||| ((1 : Int32) <<< (gd_b 1 &&& 31))) := by
      rw [gd_rs, if_pos (by decide), gd_rk1, q1, s1]
    rw [gd_rs, if_pos (by decide), gd_rk2, q2, s2]
  refine ⟨t2, fun g0 g1 g2 => ?_, fun g0 g1 g2 => ?_⟩
  · rw [if_pos g0] at b0
    rw [if_pos g1] at b1
    rw [if_pos g2] at b2
    rw [e 1 1 1 b0 b1 b2]
    decide
  · rw [if_neg g0] at b0
    rw [if_neg g1] at b1
    rw [if_neg g2] at b2
    rw [e 0 0 0 b0 b1 b2]
    decide

/-- the least way from s to t on the ring -/
def gd_D (P Q R : Int) (s t : Nat) : Int :=
  if s = 0 then (if t = 0 then 0 else if t = 1 then P else P + Q)
  else if s = 1 then (if t = 0 then Q + R else if t = 1 then 0 else Q)
  else (if t = 0 then R else if t = 1 then R + P else 0)
/-- what an engine finds from s to t -/
def gd_fd (P Q R : Int) (s t : Nat) : Int32 := if P + Q + R < 0 then (-4000) else gd_z (gd_D P Q R s t)
/-- the state of the ways behind n rounds (n at least 2) -/
def gd_In (P Q R : Int) (s : Nat) (X M : Int) (a : Nat → Int32) : Prop :=
  if s = 0 then gd_T a (X + M) (P + X) (P + Q + X) else if s = 1 then gd_T a (Q + R + X) X (Q + X) else gd_T a (R + X + M) (R + P + X) (X + M)
theorem gd_In_step {P Q R : Int} {s : Nat} {X M : Int} {a : Nat → Int32} (hw : gd_wt P Q R) (hM : (P + Q + R < 0 ∧ M = P + Q + R) ∨ (0 ≤ P + Q + R ∧ M = 0)) (hX : -100000 ≤ X ∧ X ≤ 0) (h : gd_In P Q R s X M a) :
    gd_In P Q R s (X + M) M (gd_rk P Q R a 20) ∧ (P + Q + R < 0 → gd_rs P Q R a 20 = 7) ∧ (0 ≤ P + Q + R → gd_rs P Q R a 20 = 0) := by
  have hw' := hw
  unfold gd_wt at hw'
  unfold gd_In at h ⊢
  by_cases h0 : s = 0
  · rw [if_pos h0] at h ⊢
    obtain ⟨t, u, v⟩ := gd_rT (x' := X + M + M) (y' := P + (X + M)) (z' := P + Q + (X + M)) h hw (by unfold gd_bd; omega) (by unfold gd_bd; omega) (by unfold gd_bd; omega) (by unfold gd_bd; omega) (by unfold gd_bd; omega)
      (by unfold gd_m; split <;> omega) (by unfold gd_m; split <;> omega) (by unfold gd_m; split <;> omega)
    exact ⟨t, fun g => u (by omega) (by omega) (by omega), fun g => v (by omega) (by omega) (by omega)⟩
  · rw [if_neg h0] at h ⊢
    by_cases h1 : s = 1
    · rw [if_pos h1] at h ⊢
      obtain ⟨t, u, v⟩ := gd_rT (x' := Q + R + (X + M)) (y' := X + M) (z' := Q + (X + M)) h hw (by unfold gd_bd; omega) (by unfold gd_bd; omega) (by unfold gd_bd; omega) (by unfold gd_bd; omega) (by unfold gd_bd; omega)
        (by unfold gd_m; split <;> omega) (by unfold gd_m; split <;> omega) (by unfold gd_m; split <;> omega)
      exact ⟨t, fun g => u (by omega) (by omega) (by omega), fun g => v (by omega) (by omega) (by omega)⟩
    · rw [if_neg h1] at h ⊢
      obtain ⟨t, u, v⟩ := gd_rT (x' := R + (X + M) + M) (y' := R + P + (X + M)) (z' := X + M + M) h hw (by unfold gd_bd; omega) (by unfold gd_bd; omega) (by unfold gd_bd; omega) (by unfold gd_bd; omega) (by unfold gd_bd; omega)
        (by unfold gd_m; split <;> omega) (by unfold gd_m; split <;> omega) (by unfold gd_m; split <;> omega)
      exact ⟨t, fun g => u (by omega) (by omega) (by omega), fun g => v (by omega) (by omega) (by omega)⟩
theorem gd_rk_T {P Q R x y z x' y' z' : Int} {a : Nat → Int32} (h : gd_T a x y z) (hw : gd_wt P Q R) (hx : gd_bd x) (hy : gd_bd y) (hz : gd_bd z) (by' : gd_bd y') (bz' : gd_bd z')
    (ey : gd_m x P y = y') (ez : gd_m y' Q z = z') (ex : gd_m z' R x = x') : gd_T (gd_rk P Q R a 20) x' y' z' := (gd_rT h hw hx hy hz by' bz' ey ez ex).1
/-- behind two rounds the state is of that form -/
theorem gd_In_2 {P Q R : Int} {s : Nat} {M : Int} {a : Nat → Int32} (hs : s < 3) (hw : gd_wt P Q R) (hM : (P + Q + R < 0 ∧ M = P + Q + R) ∨ (0 ≤ P + Q + R ∧ M = 0)) (h : ∀ i, i < 7 → a i = if i = s then 0 else 1048576) :
    ∃ X, -60 ≤ X ∧ X ≤ 0 ∧ (M = 0 → X = 0) ∧ gd_In P Q R s X M (gd_ri P Q R a 2) := by
  have hw' := hw
  unfold gd_wt at hw'
  have e : gd_ri P Q R a 2 = gd_rk P Q R (gd_rk P Q R a 20) 20 := rfl
  rw [e]
  have c : s = 0 ∨ s = 1 ∨ s = 2 := by omega
  rcases c with c | c | c
  · subst c
    have t0 : gd_T a 0 1048576 1048576 := ⟨h 0 (by omega), h 1 (by omega), h 2 (by omega)⟩
    have t1 := gd_rk_T (x' := M) (y' := P) (z' := P + Q) t0 hw (by unfold gd_bd; omega) (by unfold gd_bd; omega) (by unfold gd_bd; omega) (by unfold gd_bd; omega) (by unfold gd_bd; omega)
      (by unfold gd_m; split <;> omega) (by unfold gd_m; split <;> omega) (by unfold gd_m; split <;> omega)
    have t2 := gd_rk_T (x' := M + M) (y' := P + M) (z' := P + Q + M) t1 hw (by unfold gd_bd; omega) (by unfold gd_bd; omega) (by unfold gd_bd; omega) (by unfold gd_bd; omega) (by unfold gd_bd; omega)
      (by unfold gd_m; split <;> omega) (by unfold gd_m; split <;> omega) (by unfold gd_m; split <;> omega)
    exact ⟨M, by omega, by omega, fun z => z, t2⟩
  · subst c
    have t0 : gd_T a 1048576 0 1048576 := ⟨h 0 (by omega), h 1 (by omega), h 2 (by omega)⟩
    have t1 := gd_rk_T (x' := Q + R) (y' := 0) (z' := Q) t0 hw (by unfold gd_bd; omega) (by unfold gd_bd; omega) (by unfold gd_bd; omega) (by unfold gd_bd; omega) (by unfold gd_bd; omega)
      (by unfold gd_m; split <;> omega) (by unfold gd_m; split <;> omega) (by unfold gd_m; split <;> omega)
    have t2 := gd_rk_T (x' := Q + R + M) (y' := M) (z' := Q + M) t1 hw (by unfold gd_bd; omega) (by unfold gd_bd; omega) (by unfold gd_bd; omega) (by unfold gd_bd; omega) (by unfold gd_bd; omega)
      (by unfold gd_m; split <;> omega) (by unfold gd_m; split <;> omega) (by unfold gd_m; split <;> omega)
    exact ⟨M, by omega, by omega, fun z => z, t2⟩
  · subst c
    have t0 : gd_T a 1048576 1048576 0 := ⟨h 0 (by omega), h 1 (by omega), h 2 (by omega)⟩
    have t1 := gd_rk_T (x' := R) (y' := 1048576) (z' := 0) t0 hw (by unfold gd_bd; omega) (by unfold gd_bd; omega) (by unfold gd_bd; omega) (by unfold gd_bd; omega) (by unfold gd_bd; omega)
      (by unfold gd_m; split <;> omega) (by unfold gd_m; split <;> omega) (by unfold gd_m; split <;> omega)
    have t2 := gd_rk_T (x' := R + M) (y' := R + P) (z' := M) t1 hw (by unfold gd_bd; omega) (by unfold gd_bd; omega) (by unfold gd_bd; omega) (by unfold gd_bd; omega) (by unfold gd_bd; omega)
      (by unfold gd_m; split <;> omega) (by unfold gd_m; split <;> omega) (by unfold gd_m; split <;> omega)
    refine ⟨0, by omega, by omega, fun _ => rfl, ?_⟩
    show gd_T _ (R + 0 + M) (R + P + 0) (0 + M)
    rw [Int.add_zero, Int.add_zero, Int.zero_add]
    exact t2
theorem gd_In_n {P Q R : Int} {s : Nat} {M : Int} {a : Nat → Int32} (hs : s < 3) (hw : gd_wt P Q R) (hM : (P + Q + R < 0 ∧ M = P + Q + R) ∨ (0 ≤ P + Q + R ∧ M = 0)) (h : ∀ i, i < 7 → a i = if i = s then 0 else 1048576) (n : Nat) (hn : n ≤ 20) :
    ∃ X : Int, -60 * (n + 1) ≤ X ∧ X ≤ 0 ∧ (M = 0 → X = 0) ∧ gd_In P Q R s X M (gd_ri P Q R a (n + 2)) := by
  have hw' := hw
  unfold gd_wt at hw'
  induction n with
  | zero =>
    obtain ⟨X, h1, h2, h3, h4⟩ := gd_In_2 hs hw hM h
    exact ⟨X, by omega, h2, h3, h4⟩
  | succ n ih =>
    obtain ⟨X, h1, h2, h3, h4⟩ := ih (by omega)
    clear ih
    exact ⟨X + M, by omega, by omega, by omega, (gd_In_step hw hM (by omega) h4).1⟩
/-- what the rounds find -/
theorem gd_r_law {P Q R : Int} {s : Nat} {a : Nat → Int32} (hs : s < 3) (hw : gd_wt P Q R) (h : ∀ i, i < 7 → a i = if i = s then 0 else 1048576) :
    (P + Q + R < 0 → gd_rs P Q R (gd_ri P Q R a 7) 20 = 7) ∧ (0 ≤ P + Q + R → gd_rs P Q R (gd_ri P Q R a 7) 20 = 0 ∧ ∀ t, t < 3 → gd_rk P Q R (gd_ri P Q R a 7) 20 t = gd_z (gd_D P Q R s t)) := by
  by_cases g : P + Q + R < 0
  · obtain ⟨X, h1, h2, h3, h4⟩ := gd_In_n (M := P + Q + R) hs hw (Or.inl ⟨g, rfl⟩) h 5 (by omega)
    exact ⟨(gd_In_step hw (Or.inl ⟨g, rfl⟩) (by omega) h4).2.1, fun z => absurd z (by omega)⟩
  · obtain ⟨X, h1, h2, h3, h4⟩ := gd_In_n (M := 0) hs hw (Or.inr ⟨by omega, rfl⟩) h 5 (by omega)
    obtain ⟨k1, k2, k3⟩ := gd_In_step hw (Or.inr ⟨by omega, rfl⟩) (by omega) h4
    refine ⟨fun z => absurd z g, fun z => ⟨k3 z, ?_⟩⟩
    rw [h3 rfl] at k1
    have c : s = 0 ∨ s = 1 ∨ s = 2 := by omega
    rcases c with c | c | c
    · subst c
      obtain ⟨x, y, z⟩ := k1
      exact gd_3 (p := fun t => gd_rk P Q R (gd_ri P Q R a 7) 20 t = gd_z (gd_D P Q R 0 t)) x (y.trans (by show gd_z (P + (0 + 0)) = gd_z P; rw [Int.add_zero, Int.add_zero])) (z.trans (by show gd_z (P + Q + (0 + 0)) = gd_z (P + Q); rw [Int.add_zero, Int.add_zero]))
    · subst c
      obtain ⟨x, y, z⟩ := k1
      exact gd_3 (p := fun t => gd_rk P Q R (gd_ri P Q R a 7) 20 t = gd_z (gd_D P Q R 1 t)) (x.trans (by show gd_z (Q + R + (0 + 0)) = gd_z (Q + R); rw [Int.add_zero, Int.add_zero])) y (z.trans (by show gd_z (Q + (0 + 0)) = gd_z Q; rw [Int.add_zero, Int.add_zero]))
    · subst c
      obtain ⟨x, y, z⟩ := k1
      exact gd_3 (p := fun t => gd_rk P Q R (gd_ri P Q R a 7) 20 t = gd_z (gd_D P Q R 2 t)) (x.trans (by show gd_z (R + (0 + 0) + 0) = gd_z R; rw [Int.add_zero, Int.add_zero, Int.add_zero])) (y.trans (by show gd_z (R + P + (0 + 0)) = gd_z (R + P); rw [Int.add_zero, Int.add_zero])) z
theorem gd_r_far {P Q R : Int} {a : Nat → Int32} (hw : gd_wt P Q R) (h : gd_T a 1048576 1048576 1048576) (n : Nat) :
    gd_T (gd_ri P Q R a n) 1048576 1048576 1048576 ∧ gd_rs P Q R (gd_ri P Q R a n) 20 = 0 := by
  have step : ∀ b : Nat → Int32, gd_T b 1048576 1048576 1048576 → gd_T (gd_rk P Q R b 20) 1048576 1048576 1048576 ∧ gd_rs P Q R b 20 = 0 := by
    intro b hb
    obtain ⟨t, u, v⟩ := gd_rT (x' := 1048576) (y' := 1048576) (z' := 1048576) hb hw (by unfold gd_bd; omega) (by unfold gd_bd; omega) (by unfold gd_bd; omega) (by unfold gd_bd; omega) (by unfold gd_bd; omega)
      (by unfold gd_m; split <;> omega) (by unfold gd_m; split <;> omega) (by unfold gd_m; split <;> omega)
    exact ⟨t, v (by omega) (by omega) (by omega)⟩
  have all : ∀ n, gd_T (gd_ri P Q R a n) 1048576 1048576 1048576 := by
    intro n
    induction n with
    | zero => exact h
    | succ n ih => exact (step _ ih).1
  exact ⟨all n, (step _ (all n)).2⟩

/-- rows of found: row s as it must be, the others as they were -/
def gd_row (P Q R : Int) (s : Nat) (a b : Nat → Int32) : Prop :=
  (s < 3 → ∀ t, t < 3 → b (s * 7 + t) = gd_fd P Q R s t) ∧ (∀ j, (j < s * 7 ∨ s * 7 + 7 ≤ j) → b j = a j)
theorem gd_rounds {post : St2 → Prop} {P Q R : Int} {hs tp bt : Int32} {a4 a5 a6 a7 a8 a9 a10 a11 a12 a13 a14 a15 a16 a17 a18 a19 : Nat → Int32} {s : Nat} (h7 : s < 7) (hw : gd_wt P Q R)
    (H : ∀ b4 b6 b7 : Nat → Int32, gd_row P Q R s a4 b4 → post (7, hs, tp, bt, gd_a, gd_b, (gd_w P Q R), b4, a5, b6, b7, a8, a9, a10, a11, a12, a13, a14, a15, a16, a17, a18, a19)) : wpX_goByRounds post (7, hs, tp, bt, gd_a, gd_b, (gd_w P Q R), a4, a5, a6, a7, a8, a9, a10, a11, a12, a13, a14, a15, a16, a17, a18, a19) (nI s) := by
  refine gd_start h7 (fun b6 b7 h6 hb7 => gd_r7 (gd_r51 h7 hb7 ?_ ?_))
  · by_cases h3 : s < 3
    · obtain ⟨l1, l2⟩ := gd_r_law h3 hw h6
      by_cases g : P + Q + R < 0
      · exact Or.inr (l1 g)
      · exact Or.inl (l2 (by omega)).1
    · refine Or.inl (gd_r_far hw ⟨?_, ?_, ?_⟩ 7).2
      · rw [h6 0 (by omega), if_neg (by omega), gd_far]
      · rw [h6 1 (by omega), if_neg (by omega), gd_far]
      · rw [h6 2 (by omega), if_neg (by omega), gd_far]
  · intro b4 c7 e0 e1 r1 r2
    refine H b4 _ c7 ⟨fun h3 t ht => ?_, r2⟩
    obtain ⟨l1, l2⟩ := gd_r_law h3 hw h6
    rw [r1 t (by omega), gd_fd]
    by_cases g : P + Q + R < 0
    · rw [if_pos g, e1 (l1 g) t (by omega), if_pos ht, if_neg (by decide)]
    · rw [if_neg g, e0 (l2 (by omega)).1 t (by omega), if_pos rfl, (l2 (by omega)).2 t ht]
end
section
theorem gd_div7 {i : Nat} (h : i < 100) : nI i / 7 = nI (i / 7) := pk_div (d := 7) (by omega) (by omega) (by omega)
theorem gd_rem7 {i : Nat} (h : i < 100) : nI i - nI i / 7 * 7 = nI (i % 7) := pk_rem (d := 7) (by omega) (by omega) (by omega)
/-- the cell of an arc -/
def gd_cl (k : Nat) : Nat := if k < 3 then k * 7 + (k + 1) % 3 else 0
theorem gd_cell {k : Nat} (_h : k < 20) : gd_a k * 7 + gd_b k = nI (gd_cl k) := by
  unfold gd_cl
  by_cases h3 : k < 3
  · rw [if_pos h3, gd_a3 k h3, gd_b3 k h3, gd_ix]
  · rw [if_neg h3, gd_a0 (by omega), gd_b0 (by omega)]
    decide
theorem gd_cl49 (k : Nat) : gd_cl k < 49 := by
  unfold gd_cl
  split <;> omega
def gd_fk (P Q R : Int) (t : Nat → Int32) : Nat → (Nat → Int32)
  | 0 => t
  | k + 1 => if k < 3 then (if gd_fk P Q R t k (gd_cl k) ≤ gd_w P Q R k then gd_fk P Q R t k else upd (gd_fk P Q R t k) (gd_cl k) (gd_w P Q R k)) else gd_fk P Q R t k
theorem gd_fill39 {post : St2 → Prop} {P Q R : Int} {hs tp bt : Int32} {a4 a5 a6 a7 a8 a9 a10 a11 a12 a13 a14 a15 a16 a17 a18 a19 : Nat → Int32} (H : post (7, hs, tp, bt, gd_a, gd_b, (gd_w P Q R), a4, a5, a6, a7, a8, a9, a10, a11, a12, a13, a14, a15, a16, gd_fk P Q R a17 20, a18, a19)) : ∃ n, wX_fillTable_39 post 7 hs tp bt n 0 gd_a gd_b (gd_w P Q R) a4 a5 a6 a7 a8 a9 a10 a11 a12 a13 a14 a15 a16 a17 a18 a19 :=
  pk_loop (fun n k (u : Nat → Int32) => wX_fillTable_39 post 7 hs tp bt n (nI k) gd_a gd_b (gd_w P Q R) a4 a5 a6 a7 a8 a9 a10 a11 a12 a13 a14 a15 a16 u a18 a19) (fun k u => u = gd_fk P Q R a17 k) 20 0 a17 (by omega) rfl
    (fun n u hu => pk_le 20 20 (fun _ => by rw [hu]; exact H) (fun z => absurd z (by omega)))
    (fun n k u hk hu hw => pk_le 20 k (fun z => absurd z (by omega)) (fun _ => ⟨pk_in k 20 hk, pk_in k 20 hk, nm_r (e' := nI (gd_cl k)) (by rw [nI_clamp (by omega), gd_cell hk]) (by
      have hc := gd_cl49 k
      by_cases h3 : k < 3
      · refine gd_has1 h3 (br_f (by decide) ⟨pk_in k 20 hk, pk_in (gd_cl k) 49 hc, ?_⟩)
        rw [nI_clamp (show gd_cl k < 2 ^ 31 by omega), nI_clamp (show k < 2 ^ 31 by omega)]
        refine br_c (fun g => ⟨pk_in (gd_cl k) 49 hc, pk_in (gd_cl k) 49 hc, nm_r (gd_us _ _) (nm_r (nI_1 k) (hw _ ?_))⟩) (fun g => ⟨pk_in k 20 hk, pk_in (gd_cl k) 49 hc, nm_e (nm_r (nI_1 k) (hw _ ?_))⟩)
        · rw [gd_fk, if_pos h3, ← hu, if_pos g]
        · rw [gd_fk, if_pos h3, ← hu, if_neg g]
      · refine gd_has0 (by omega) hk (br_t rfl ⟨pk_in (gd_cl k) 49 hc, pk_in (gd_cl k) 49 hc, ?_⟩)
        rw [nI_clamp (show gd_cl k < 2 ^ 31 by omega)]
        refine nm_r (gd_us _ _) (nm_r (nI_1 k) (hw _ ?_))
        rw [gd_fk, if_neg h3, ← hu])⟩))
theorem gd_fill2 {post : St2 → Prop} {P Q R : Int} {hs tp bt : Int32} {a4 a5 a6 a7 a8 a9 a10 a11 a12 a13 a14 a15 a16 a17 a18 a19 : Nat → Int32} (H : ∀ b17 : Nat → Int32, (∀ i, i < 49 → b17 i = if i / 7 = i % 7 then 0 else 1048576) → post (7, hs, tp, bt, gd_a, gd_b, (gd_w P Q R), a4, a5, a6, a7, a8, a9, a10, a11, a12, a13, a14, a15, a16, gd_fk P Q R b17 20, a18, a19)) : wpX_fillTable post (7, hs, tp, bt, gd_a, gd_b, (gd_w P Q R), a4, a5, a6, a7, a8, a9, a10, a11, a12, a13, a14, a15, a16, a17, a18, a19) :=
  pk_loop (fun n i (u : Nat → Int32) => wX_fillTable_2 post 7 hs tp bt n (nI i) gd_a gd_b (gd_w P Q R) a4 a5 a6 a7 a8 a9 a10 a11 a12 a13 a14 a15 a16 u a18 a19) (fun i u => ∀ j, j < i → u j = if j / 7 = j % 7 then 0 else 1048576) 49 0 a17 (by omega) (fun j h => absurd h (by omega))
    (fun n u hu => pk_le 49 49 (fun _ => gd_fill39 (H u hu)) (fun z => absurd z (by omega)))
    (fun n i u hi hu hw => pk_le 49 i (fun z => absurd z (by omega)) (fun _ => ⟨by decide, by decide,
      pk_eq (i / 7) (i % 7) (fun e => ⟨pk_in i 49 hi, nm_e (nm_r (nI_1 i) (hw _ (gd_fill (f := fun j => if j / 7 = j % 7 then 0 else 1048576) (nI_clamp (by omega)) hu (if_pos e).symm)))⟩)
        (fun e => ⟨pk_in i 49 hi, nm_e (nm_r (nI_1 i) (hw _ (gd_fill (f := fun j => if j / 7 = j % 7 then 0 else 1048576) (nI_clamp (by omega)) hu (if_neg e).symm)))⟩)
        (gd_div7 (by omega)) (gd_rem7 (by omega))⟩))

/-- the table: a block of nine ints in the corner -/
def gd_g (l : List Int) (i j : Nat) : Int := l.getD (i * 3 + j) 0
def gd_at (l : List Int) (i j : Nat) : Int := if i < 3 ∧ j < 3 then gd_g l i j else if i = j then 0 else 1048576
def gd_M (t : Nat → Int32) (l : List Int) : Prop := ∀ i, i < 7 → ∀ j, j < 7 → t (i * 7 + j) = gd_z (gd_at l i j)
def gd_lb (l : List Int) : Prop := ∀ n, -200000 ≤ l.getD n 0 ∧ l.getD n 0 ≤ 1048576
def gd_L0 (P Q R : Int) : List Int := [0, P, 1048576, 1048576, 0, Q, R, 1048576, 0]
theorem gd_lb_at {l : List Int} (h : gd_lb l) (i j : Nat) : -200000 ≤ gd_at l i j ∧ gd_at l i j ≤ 1048576 := by
  unfold gd_at gd_g
  split
  · exact h _
  · split <;> omega
theorem gd_lb9 {a b c d e f g h i : Int} (k : ∀ x, x = a ∨ x = b ∨ x = c ∨ x = d ∨ x = e ∨ x = f ∨ x = g ∨ x = h ∨ x = i → -200000 ≤ x ∧ x ≤ 1048576) : gd_lb [a, b, c, d, e, f, g, h, i] := by
  intro n
  match n with
  | 0 => exact k a (by simp)
  | 1 => exact k b (by simp)
  | 2 => exact k c (by simp)
  | 3 => exact k d (by simp)
  | 4 => exact k e (by simp)
  | 5 => exact k f (by simp)
  | 6 => exact k g (by simp)
  | 7 => exact k h (by simp)
  | 8 => exact k i (by simp)
  | n + 9 =>
    show -200000 ≤ ([] : List Int).getD n 0 ∧ ([] : List Int).getD n 0 ≤ 1048576
    rw [List.getD_nil]
    omega
theorem gd_at_out {l : List Int} {i j : Nat} (h : ¬ (i < 3 ∧ j < 3)) : gd_at l i j = if i = j then 0 else 1048576 := by
  unfold gd_at
  rw [if_neg h]
theorem gd_at_in {l : List Int} {i j : Nat} (h : i < 3) (h' : j < 3) : gd_at l i j = gd_g l i j := by
  unfold gd_at
  rw [if_pos ⟨h, h'⟩]
theorem gd_wz (P Q R : Int) (hw : gd_wt P Q R) : ¬ (1048576 : Int32) ≤ gd_z P ∧ ¬ (1048576 : Int32) ≤ gd_z Q ∧ ¬ (1048576 : Int32) ≤ gd_z R := by
  unfold gd_wt at hw
  rw [gd_far, gd_zle (by omega) (by omega) (by omega) (by omega), gd_zle (by omega) (by omega) (by omega) (by omega), gd_zle (by omega) (by omega) (by omega) (by omega)]
  omega
theorem gd_fk_ge (P Q R : Int) (t : Nat → Int32) (d : Nat) : gd_fk P Q R t (3 + d) = gd_fk P Q R t 3 := by
  induction d with
  | zero => rfl
  | succ d ih =>
    show gd_fk P Q R t (3 + d + 1) = _
    rw [gd_fk, if_neg (by omega), ih]
theorem gd_fk20 {P Q R : Int} {t : Nat → Int32} (hw : gd_wt P Q R) (h : ∀ i, i < 49 → t i = if i / 7 = i % 7 then 0 else 1048576) :
    gd_fk P Q R t 20 = upd (upd (upd t 1 (gd_z P)) 9 (gd_z Q)) 14 (gd_z R) := by
  obtain ⟨p, q, r⟩ := gd_wz P Q R hw
  have e1 : gd_fk P Q R t 1 = upd t 1 (gd_z P) := by
    show (if t 1 ≤ gd_z P then t else upd t 1 (gd_z P)) = _
    rw [if_neg (by rw [h 1 (by omega)]; exact p)]
  have e2 : gd_fk P Q R t 2 = upd (upd t 1 (gd_z P)) 9 (gd_z Q) := by
    show (if gd_fk P Q R t 1 9 ≤ gd_z Q then gd_fk P Q R t 1 else upd (gd_fk P Q R t 1) 9 (gd_z Q)) = _
    rw [e1, if_neg (by rw [pk_un (by decide), h 9 (by omega)]; exact q)]
  have e3 : gd_fk P Q R t 3 = upd (upd (upd t 1 (gd_z P)) 9 (gd_z Q)) 14 (gd_z R) := by
    show (if gd_fk P Q R t 2 14 ≤ gd_z R then gd_fk P Q R t 2 else upd (gd_fk P Q R t 2) 14 (gd_z R)) = _
    rw [e2, if_neg (by rw [pk_un (by decide), pk_un (by decide), h 14 (by omega)]; exact r)]
  exact (gd_fk_ge P Q R t 17).trans e3
theorem gd_M0 {P Q R : Int} {t : Nat → Int32} (hw : gd_wt P Q R) (h : ∀ i, i < 49 → t i = if i / 7 = i % 7 then 0 else 1048576) : gd_M (gd_fk P Q R t 20) (gd_L0 P Q R) := by
  rw [gd_fk20 hw h]
  have h' : ∀ i, i < 7 → ∀ j, j < 7 → t (i * 7 + j) = gd_z (if i = j then 0 else 1048576) := by
    intro i hi j hj
    rw [h _ (by omega), show (i * 7 + j) / 7 = i by omega, show (i * 7 + j) % 7 = j by omega]
    split
    · exact gd_z0
    · exact gd_far
  intro i hi j hj
  by_cases c : i < 3 ∧ j < 3
  · rw [gd_at_in c.1 c.2]
    obtain ⟨ci, cj⟩ := c
    have : (i = 0 ∨ i = 1 ∨ i = 2) ∧ (j = 0 ∨ j = 1 ∨ j = 2) := by omega
    rcases this with ⟨a | a | a, b | b | b⟩ <;> subst a <;> subst b
    · rw [pk_un (by decide), pk_un (by decide), pk_un (by decide)]; exact h' 0 (by decide) 0 (by decide)
    · rw [pk_un (by decide), pk_un (by decide)]; exact pk_us
    · rw [pk_un (by decide), pk_un (by decide), pk_un (by decide)]; exact h' 0 (by decide) 2 (by decide)
    · rw [pk_un (by decide), pk_un (by decide), pk_un (by decide)]; exact h' 1 (by decide) 0 (by decide)
    · rw [pk_un (by decide), pk_un (by decide), pk_un (by decide)]; exact h' 1 (by decide) 1 (by decide)
    · rw [pk_un (by decide)]; exact pk_us
    · exact pk_us
    · rw [pk_un (by decide), pk_un (by decide), pk_un (by decide)]; exact h' 2 (by decide) 1 (by decide)
    · rw [pk_un (by decide), pk_un (by decide), pk_un (by decide)]; exact h' 2 (by decide) 2 (by decide)
  · rw [gd_at_out c, pk_un (by omega), pk_un (by omega), pk_un (by omega)]
    exact h' i hi j hj
theorem gd_fillT {post : St2 → Prop} {P Q R : Int} {hs tp bt : Int32} {a4 a5 a6 a7 a8 a9 a10 a11 a12 a13 a14 a15 a16 a17 a18 a19 : Nat → Int32} (hw : gd_wt P Q R) (H : ∀ b17 : Nat → Int32, gd_M b17 (gd_L0 P Q R) → post (7, hs, tp, bt, gd_a, gd_b, (gd_w P Q R), a4, a5, a6, a7, a8, a9, a10, a11, a12, a13, a14, a15, a16, b17, a18, a19)) : wpX_fillTable post (7, hs, tp, bt, gd_a, gd_b, (gd_w P Q R), a4, a5, a6, a7, a8, a9, a10, a11, a12, a13, a14, a15, a16, a17, a18, a19) :=
  gd_fill2 (fun b17 hb => H _ (gd_M0 hw hb))

/-- the sum of two ways -/
def gd_sumI (x y : Int32) : Int32 := if 1048576 ≤ x then 1048576 else if y < 1048576 then (if (-200000) ≤ x + y then x + y else (-200000)) else 1048576
def gd_sum (x y : Int) : Int := if 1048576 ≤ x ∨ 1048576 ≤ y then 1048576 else if -200000 ≤ x + y then x + y else -200000
theorem gd_sumOf {post : Int32 → Prop} {u : St0} {x y : Int32} (h : post (gd_sumI x y)) : wpX_sumOf post u x y := by
  unfold gd_sumI at h
  refine br_c (fun g => ?_) (fun g => br_c (fun g2 => nm_e (br_c (fun g3 => ?_) (fun g3 => ?_))) (fun g2 => ?_))
  · rw [if_pos g] at h; exact h
  · rw [if_neg g, if_pos g2, if_pos g3] at h; exact h
  · rw [if_neg g, if_pos g2, if_neg g3] at h; exact h
  · rw [if_neg g, if_neg g2] at h; exact h
theorem gd_sumZ {x y : Int} (hx : -200000 ≤ x ∧ x ≤ 1048576) (hy : -200000 ≤ y ∧ y ≤ 1048576) : gd_sumI (gd_z x) (gd_z y) = gd_z (gd_sum x y) := by
  have e1 : (1048576 : Int32) ≤ gd_z x ↔ 1048576 ≤ x := by rw [gd_far, gd_zle (by omega) (by omega) (by omega) (by omega)]
  have e2 : gd_z y < (1048576 : Int32) ↔ y < 1048576 := by rw [gd_far, gd_zlt (by omega) (by omega) (by omega) (by omega)]
  have e3 : (-200000 : Int32) ≤ gd_z (x + y) ↔ -200000 ≤ x + y := by rw [show (-200000 : Int32) = gd_z (-200000) by decide, gd_zle (by omega) (by omega) (by omega) (by omega)]
  unfold gd_sumI gd_sum
  rw [gd_za]
  by_cases g1 : 1048576 ≤ x
  · rw [if_pos (e1.mpr g1), if_pos (Or.inl g1), gd_far]
  · rw [if_neg (fun t => g1 (e1.mp t))]
    by_cases g2 : y < 1048576
    · rw [if_pos (e2.mpr g2), if_neg (show ¬ (1048576 ≤ x ∨ 1048576 ≤ y) by omega)]
      by_cases g3 : -200000 ≤ x + y
      · rw [if_pos (e3.mpr g3), if_pos g3]
      · rw [if_neg (fun t => g3 (e3.mp t)), if_neg g3]
        decide
    · rw [if_neg (fun t => g2 (e2.mp t)), if_pos (Or.inr (by omega)), gd_far]
theorem gd_sum_b {x y : Int} (hx : x ≤ 1048576) (hy : y ≤ 1048576) : -200000 ≤ gd_sum x y ∧ gd_sum x y ≤ 2097152 := by
  unfold gd_sum
  split
  · omega
  · split <;> omega
def gd_mn (x y : Int) : Int := if x ≤ y then x else y
end
section
/-- one cell over a middle point; a row; the table -/
def gd_om (t : Nat → Int32) (m a b : Nat) : Nat → Int32 := if t (a * 7 + b) ≤ gd_sumI (t (a * 7 + m)) (t (m * 7 + b)) then t else upd t (a * 7 + b) (gd_sumI (t (a * 7 + m)) (t (m * 7 + b)))
def gd_omb (t : Nat → Int32) (m a : Nat) : Nat → (Nat → Int32)
  | 0 => t
  | b + 1 => gd_om (gd_omb t m a b) m a b
def gd_oma (t : Nat → Int32) (m : Nat) : Nat → (Nat → Int32)
  | 0 => t
  | a + 1 => gd_omb (gd_oma t m a) m a 7
theorem gd_om10 {post : St2 → Prop} {J : Int32 → (Nat → Int32) → (Nat → Int32) → (Nat → Int32) → (Nat → Int32) → (Nat → Int32) → (Nat → Int32) → (Nat → Int32) → (Nat → Int32) → (Nat → Int32) → (Nat → Int32) → (Nat → Int32) → (Nat → Int32) → (Nat → Int32) → (Nat → Int32) → (Nat → Int32) → (Nat → Int32) → (Nat → Int32) → (Nat → Int32) → (Nat → Int32) → Prop} {P Q R : Int} {hs tp bt : Int32} {a4 a5 a6 a7 a8 a9 a10 a11 a12 a13 a14 a15 a16 a17 a18 a19 : Nat → Int32} {m a : Nat} (hm : m < 7) (ha : a < 7) (h : J (nI (a + 1)) gd_a gd_b (gd_w P Q R) a4 a5 a6 a7 a8 a9 a10 a11 a12 a13 a14 a15 a16 (gd_omb a17 m a 7) a18 a19) : ∃ n, wX_overMiddle_10 post J (nI m) (nI a) 7 hs tp bt n 0 gd_a gd_b (gd_w P Q R) a4 a5 a6 a7 a8 a9 a10 a11 a12 a13 a14 a15 a16 a17 a18 a19 :=
  pk_loop (fun n b (u : Nat → Int32) => wX_overMiddle_10 post J (nI m) (nI a) 7 hs tp bt n (nI b) gd_a gd_b (gd_w P Q R) a4 a5 a6 a7 a8 a9 a10 a11 a12 a13 a14 a15 a16 u a18 a19) (fun b u => u = gd_omb a17 m a b) 7 0 a17 (by omega) rfl
    (fun n u hu => pk_le 7 7 (fun _ => nm_r (nI_1 a) (by rw [hu]; exact h)) (fun z => absurd z (by omega)))
    (fun n b u hb hu hw => pk_le 7 b (fun z => absurd z (by omega)) (fun _ => by
      rw [gd_ix, gd_ix, gd_ix, nI_clamp (show a * 7 + m < 2 ^ 31 by omega), nI_clamp (show m * 7 + b < 2 ^ 31 by omega), nI_clamp (show a * 7 + b < 2 ^ 31 by omega)]
      refine ⟨pk_in (a * 7 + m) 49 (by omega), pk_in (m * 7 + b) 49 (by omega), gd_sumOf ⟨pk_in (a * 7 + b) 49 (by omega), br_c (fun g => ⟨pk_in (a * 7 + b) 49 (by omega), pk_in (a * 7 + b) 49 (by omega), nm_r (gd_us _ _) (nm_r (nI_1 b) (hw _ ?_))⟩) (fun g => ⟨pk_in (a * 7 + b) 49 (by omega), nm_e (nm_r (nI_1 b) (hw _ ?_))⟩)⟩⟩
      · rw [gd_omb, ← hu, gd_om, if_pos g]
      · rw [gd_omb, ← hu, gd_om, if_neg g]))
theorem gd_over {post : St2 → Prop} {P Q R : Int} {hs tp bt : Int32} {a4 a5 a6 a7 a8 a9 a10 a11 a12 a13 a14 a15 a16 a17 a18 a19 : Nat → Int32} {m : Nat} (hm : m < 7) (h : post (7, hs, tp, bt, gd_a, gd_b, (gd_w P Q R), a4, a5, a6, a7, a8, a9, a10, a11, a12, a13, a14, a15, a16, gd_oma a17 m 7, a18, a19)) : wpX_overMiddle post (7, hs, tp, bt, gd_a, gd_b, (gd_w P Q R), a4, a5, a6, a7, a8, a9, a10, a11, a12, a13, a14, a15, a16, a17, a18, a19) (nI m) :=
  pk_loop (fun n a (u : Nat → Int32) => wX_overMiddle_2 post (nI m) 7 hs tp bt n (nI a) gd_a gd_b (gd_w P Q R) a4 a5 a6 a7 a8 a9 a10 a11 a12 a13 a14 a15 a16 u a18 a19) (fun a u => u = gd_oma a17 m a) 7 0 a17 (by omega) rfl
    (fun n u hu => pk_le 7 7 (fun _ => by rw [hu]; exact h) (fun z => absurd z (by omega)))
    (fun n a u ha hu hw => pk_le 7 a (fun z => absurd z (by omega)) (fun _ => gd_om10 hm ha (hw _ (by rw [hu]; rfl))))

theorem gd_om_le {l : List Int} {k i j : Nat} (hb : gd_lb l) (c : ¬ (k < 3 ∧ i < 3 ∧ j < 3)) : gd_at l i j ≤ gd_sum (gd_at l i k) (gd_at l k j) := by
  have b1 := gd_lb_at hb i j
  have b2 := gd_lb_at hb k j
  have b3 := gd_lb_at hb i k
  by_cases c1 : i < 3 ∧ k < 3
  · have e := gd_at_out (l := l) (i := k) (j := j) (by omega)
    rw [if_neg (by omega)] at e
    unfold gd_sum
    rw [if_pos (Or.inr (by omega))]
    omega
  · have e := gd_at_out (l := l) c1
    by_cases c2 : i = k
    · subst c2
      rw [if_pos rfl] at e
      unfold gd_sum
      rw [e]
      split
      · omega
      · split <;> omega
    · rw [if_neg c2] at e
      unfold gd_sum
      rw [if_pos (Or.inl (by omega))]
      omega
theorem gd_om_iff {t : Nat → Int32} {l : List Int} {k i j : Nat} (h : gd_M t l) (hb : gd_lb l) (hk : k < 7) (hi : i < 7) (hj : j < 7) :
    gd_sumI (t (i * 7 + k)) (t (k * 7 + j)) = gd_z (gd_sum (gd_at l i k) (gd_at l k j)) ∧ (t (i * 7 + j) ≤ gd_sumI (t (i * 7 + k)) (t (k * 7 + j)) ↔ gd_at l i j ≤ gd_sum (gd_at l i k) (gd_at l k j)) := by
  have b1 := gd_lb_at hb i j
  have b2 := gd_lb_at hb k j
  have b3 := gd_lb_at hb i k
  have b4 := gd_sum_b b3.2 b2.2
  rw [h i hi j hj, h i hi k hk, h k hk j hj, gd_sumZ b3 b2, gd_zle (by omega) (by omega) (by omega) (by omega)]
  exact ⟨rfl, Iff.rfl⟩
theorem gd_om_out {t : Nat → Int32} {l : List Int} {k i j : Nat} (h : gd_M t l) (hb : gd_lb l) (hk : k < 7) (hi : i < 7) (hj : j < 7) (c : ¬ (k < 3 ∧ i < 3 ∧ j < 3)) : gd_om t k i j = t := by
  unfold gd_om
  rw [if_pos ((gd_om_iff h hb hk hi hj).2.mpr (gd_om_le hb c))]
/-- the block: one cell -/
def gd_se (l : List Int) (k i j : Nat) : List Int := l.set (i * 3 + j) (gd_mn (gd_g l i j) (gd_sum (gd_g l i k) (gd_g l k j)))
theorem gd_set {l : List Int} {n m : Nat} {v : Int} (hn : n < l.length) : (l.set n v).getD m 0 = if m = n then v else l.getD m 0 := by
  rw [List.getD_eq_getElem?_getD, List.getD_eq_getElem?_getD, List.getElem?_set]
  by_cases h : m = n
  · rw [if_pos h.symm, if_pos hn, if_pos h]
    rfl
  · rw [if_neg (fun t => h t.symm), if_neg h]
theorem gd_at_set {l : List Int} (hl : l.length = 9) {i j i' j' : Nat} {v : Int} (hi : i < 3) (hj : j < 3) : gd_at (l.set (i * 3 + j) v) i' j' = if i' = i ∧ j' = j then v else gd_at l i' j' := by
  unfold gd_at gd_g
  by_cases c : i' < 3 ∧ j' < 3
  · rw [if_pos c, if_pos c, gd_set (by omega)]
    by_cases e : i' = i ∧ j' = j
    · rw [if_pos e, if_pos (by omega)]
    · rw [if_neg e, if_neg (by omega)]
  · rw [if_neg c, if_neg c, if_neg (show ¬ (i' = i ∧ j' = j) by omega)]
theorem gd_se_lb {l : List Int} (hl : l.length = 9) (hb : gd_lb l) {k i j : Nat} (hi : i < 3) (hj : j < 3) : gd_lb (gd_se l k i j) := by
  intro n
  unfold gd_se
  rw [gd_set (by omega)]
  split
  · have b1 := hb (i * 3 + j)
    have b4 := gd_sum_b (hb (i * 3 + k)).2 (hb (k * 3 + j)).2
    unfold gd_mn gd_g
    split <;> omega
  · exact hb n
theorem gd_se_len {l : List Int} (hl : l.length = 9) (k i j : Nat) : (gd_se l k i j).length = 9 := by
  unfold gd_se
  rw [List.length_set, hl]
/-- a table and its block -/
def gd_K (t : Nat → Int32) (l : List Int) : Prop := gd_M t l ∧ gd_lb l ∧ l.length = 9
theorem gd_om_in {t : Nat → Int32} {l : List Int} {k i j : Nat} (h : gd_K t l) (hk : k < 3) (hi : i < 3) (hj : j < 3) : gd_K (gd_om t k i j) (gd_se l k i j) := by
  obtain ⟨h, hb, hl⟩ := h
  refine ⟨?_, gd_se_lb hl hb hi hj, gd_se_len hl k i j⟩
  obtain ⟨e1, e2⟩ := gd_om_iff h hb (show k < 7 by omega) (show i < 7 by omega) (show j < 7 by omega)
  intro i' hi' j' hj'
  unfold gd_om gd_se
  rw [gd_at_set hl hi hj, gd_mn]
  rw [e1] at e2 ⊢
  rw [← gd_at_in hi hj, ← gd_at_in hi hk, ← gd_at_in hk hj]
  by_cases g : gd_at l i j ≤ gd_sum (gd_at l i k) (gd_at l k j)
  · rw [if_pos (e2.mpr g), if_pos g, h i' hi' j' hj']
    split
    · next c => rw [c.1, c.2]
    · rfl
  · rw [if_neg (fun t => g (e2.mp t)), if_neg g]
    by_cases c : i' = i ∧ j' = j
    · rw [if_pos c, c.1, c.2, pk_us]
    · rw [if_neg c, pk_un (by omega), h i' hi' j' hj']
def gd_rw (l : List Int) (k i : Nat) : List Int := gd_se (gd_se (gd_se l k i 0) k i 1) k i 2
def gd_md (l : List Int) (k : Nat) : List Int := gd_rw (gd_rw (gd_rw l k 0) k 1) k 2
theorem gd_omb_out {t : Nat → Int32} {l : List Int} {k i : Nat} (h : gd_K t l) (hk : k < 7) (hi : i < 7) (c : ¬ (k < 3 ∧ i < 3)) : ∀ b, b ≤ 7 → gd_omb t k i b = t := by
  intro b
  induction b with
  | zero => exact fun _ => rfl
  | succ b ih =>
    intro hb
    rw [gd_omb, ih (by omega), gd_om_out h.1 h.2.1 hk hi (by omega) (by omega)]
theorem gd_omb_in {t : Nat → Int32} {l : List Int} {k i : Nat} (h : gd_K t l) (hk : k < 3) (hi : i < 3) : gd_K (gd_omb t k i 7) (gd_rw l k i) := by
  have h3 : gd_K (gd_omb t k i 3) (gd_rw l k i) := gd_om_in (gd_om_in (gd_om_in h hk hi (by decide)) hk hi (by decide)) hk hi (by decide)
  have all : ∀ d, d ≤ 4 → gd_omb t k i (3 + d) = gd_omb t k i 3 := by
    intro d
    induction d with
    | zero => exact fun _ => rfl
    | succ d ih =>
      intro hd
      show gd_omb t k i (3 + d + 1) = _
      rw [gd_omb, ih (by omega), gd_om_out h3.1 h3.2.1 (by omega) (by omega) (by omega) (by omega)]
  rw [all 4 (by omega)]
  exact h3
theorem gd_oma_out {t : Nat → Int32} {l : List Int} {k : Nat} (h : gd_K t l) (hk : k < 7) (c : ¬ k < 3) : ∀ a, a ≤ 7 → gd_oma t k a = t := by
  intro a
  induction a with
  | zero => exact fun _ => rfl
  | succ a ih =>
    intro ha
    rw [gd_oma, ih (by omega), gd_omb_out h hk (by omega) (by omega) 7 (by omega)]
theorem gd_oma_in {t : Nat → Int32} {l : List Int} {k : Nat} (h : gd_K t l) (hk : k < 3) : gd_K (gd_oma t k 7) (gd_md l k) := by
  have h3 : gd_K (gd_oma t k 3) (gd_md l k) := gd_omb_in (gd_omb_in (gd_omb_in h hk (by decide)) hk (by decide)) hk (by decide)
  have all : ∀ d, d ≤ 4 → gd_oma t k (3 + d) = gd_oma t k 3 := by
    intro d
    induction d with
    | zero => exact fun _ => rfl
    | succ d ih =>
      intro hd
      show gd_oma t k (3 + d + 1) = _
      rw [gd_oma, ih (by omega), gd_omb_out h3 (by omega) (by omega) (by omega) 7 (by omega)]
  rw [all 4 (by omega)]
  exact h3
/-- over all middle points -/
def gd_ms (l : List Int) : Nat → List Int
  | 0 => l
  | m + 1 => if m < 3 then gd_md (gd_ms l m) m else gd_ms l m
theorem gd_ms_ge (l : List Int) (d : Nat) : gd_ms l (3 + d) = gd_ms l 3 := by
  induction d with
  | zero => rfl
  | succ d ih =>
    show gd_ms l (3 + d + 1) = _
    rw [gd_ms, if_neg (by omega), ih]
theorem gd_ms7 (l : List Int) : gd_ms l 7 = gd_md (gd_md (gd_md l 0) 1) 2 := by
  rw [show gd_ms l 7 = gd_ms l 3 from gd_ms_ge l 4, gd_ms, if_pos (by decide), gd_ms, if_pos (show 1 < 3 by decide), gd_ms, if_pos (show 0 < 3 by decide), gd_ms]
theorem gd_m6 {post : St2 → Prop} {P Q R : Int} {hs tp bt : Int32} {a4 a5 a6 a7 a8 a9 a10 a11 a12 a13 a14 a15 a16 a17 a18 a19 : Nat → Int32} {l : List Int} (h : gd_K a17 l) (H : ∀ b17 : Nat → Int32, gd_K b17 (gd_ms l 7) → ∃ n, wX_solveOverMiddles_25 post 7 hs tp bt n 0 gd_a gd_b (gd_w P Q R) a4 a5 a6 a7 a8 a9 a10 a11 a12 a13 a14 a15 a16 b17 a18 a19) : ∃ n, wX_solveOverMiddles_6 post n 0 7 hs tp bt gd_a gd_b (gd_w P Q R) a4 a5 a6 a7 a8 a9 a10 a11 a12 a13 a14 a15 a16 a17 a18 a19 :=
  pk_loop (fun n m (u : Nat → Int32) => wX_solveOverMiddles_6 post n (nI m) 7 hs tp bt gd_a gd_b (gd_w P Q R) a4 a5 a6 a7 a8 a9 a10 a11 a12 a13 a14 a15 a16 u a18 a19) (fun m u => gd_K u (gd_ms l m)) 7 0 a17 (by omega) h
    (fun n u hu => pk_le 7 7 (fun _ => H u hu) (fun z => absurd z (by omega)))
    (fun n m u hm hu hw => pk_le 7 m (fun z => absurd z (by omega)) (fun _ => gd_over hm (nm_r (nI_1 m) (hw _ (by
      rw [gd_ms]
      by_cases h3 : m < 3
      · rw [if_pos h3]
        exact gd_oma_in hu h3
      · rw [if_neg h3, gd_oma_out hu hm h3 7 (by omega)]
        exact hu)))))
theorem gd_m25 {post : St2 → Prop} {P Q R : Int} {hs tp bt : Int32} {a4 a5 a6 a7 a8 a9 a10 a11 a12 a13 a14 a15 a16 a17 a18 a19 : Nat → Int32} (H : ∀ b4 : Nat → Int32, (∀ i, i < 49 → b4 i = a17 i) → ∃ n, wX_solveOverMiddles_51 post n 0 7 hs tp bt gd_a gd_b (gd_w P Q R) b4 a5 a6 a7 a8 a9 a10 a11 a12 a13 a14 a15 a16 a17 a18 a19) : ∃ n, wX_solveOverMiddles_25 post 7 hs tp bt n 0 gd_a gd_b (gd_w P Q R) a4 a5 a6 a7 a8 a9 a10 a11 a12 a13 a14 a15 a16 a17 a18 a19 :=
  pk_loop (fun n i (u : Nat → Int32) => wX_solveOverMiddles_25 post 7 hs tp bt n (nI i) gd_a gd_b (gd_w P Q R) u a5 a6 a7 a8 a9 a10 a11 a12 a13 a14 a15 a16 a17 a18 a19) (fun i u => ∀ j, j < i → u j = a17 j) 49 0 a4 (by omega) (fun j h => absurd h (by omega))
    (fun n u hu => pk_le 49 49 (fun _ => H u hu) (fun z => absurd z (by omega)))
    (fun n i u hi hu hw => pk_le 49 i (fun z => absurd z (by omega)) (fun _ => ⟨pk_in i 49 hi, pk_in i 49 hi, nm_e (nm_r (nI_1 i) (hw _ (gd_fill (nI_clamp (by omega)) hu (by rw [nI_clamp (by omega)]))))⟩))
theorem gd_lowO {post : St2 → Prop} {P Q R : Int} {hs tp bt : Int32} {a4 a5 a6 a7 a8 a9 a10 a11 a12 a13 a14 a15 a16 a17 a18 a19 : Nat → Int32} {m : Nat} (hm : m < 7)
    (H : ∀ b4 : Nat → Int32, (∀ i, i < 49 → b4 i = if 1048576 ≤ a17 (i / 7 * 7 + m) ∨ 1048576 ≤ a17 (m * 7 + i % 7) then a4 i else (-4000)) → post (7, hs, tp, bt, gd_a, gd_b, (gd_w P Q R), b4, a5, a6, a7, a8, a9, a10, a11, a12, a13, a14, a15, a16, a17, a18, a19)) : wpX_lowerOver post (7, hs, tp, bt, gd_a, gd_b, (gd_w P Q R), a4, a5, a6, a7, a8, a9, a10, a11, a12, a13, a14, a15, a16, a17, a18, a19) (nI m) :=
  pk_loop (fun n i (u : Nat → Int32) => wX_lowerOver_2 post (nI m) 7 hs tp bt n (nI i) gd_a gd_b (gd_w P Q R) u a5 a6 a7 a8 a9 a10 a11 a12 a13 a14 a15 a16 a17 a18 a19)
    (fun i u => (∀ j, j < i → u j = if 1048576 ≤ a17 (j / 7 * 7 + m) ∨ 1048576 ≤ a17 (m * 7 + j % 7) then a4 j else (-4000)) ∧ (∀ j, i ≤ j → u j = a4 j)) 49 0 a4 (by omega) ⟨fun j h => absurd h (by omega), fun j _ => rfl⟩
    (fun n u hu => pk_le 49 49 (fun _ => H u hu.1) (fun z => absurd z (by omega)))
    (fun n i u hi hu hw => pk_le 49 i (fun z => absurd z (by omega)) (fun _ => by
      have keep : (1048576 ≤ a17 (i / 7 * 7 + m) ∨ 1048576 ≤ a17 (m * 7 + i % 7)) → wX_lowerOver_51 post (wX_lowerOver_2 post (nI m) 7 hs tp bt n) (nI m) (nI i) 0 7 hs tp bt gd_a gd_b (gd_w P Q R) u a5 a6 a7 a8 a9 a10 a11 a12 a13 a14 a15 a16 a17 a18 a19 := fun g =>
        br_t rfl ⟨pk_in i 49 hi, pk_in i 49 hi, nm_e (nm_r (nI_1 i) (hw _ ⟨gd_fill (f := fun j => if 1048576 ≤ a17 (j / 7 * 7 + m) ∨ 1048576 ≤ a17 (m * 7 + j % 7) then a4 j else (-4000)) (nI_clamp (by omega)) hu.1 (by rw [nI_clamp (by omega), if_pos g]; exact hu.2 i (Nat.le_refl i)), gd_rest (nI_clamp (by omega)) hu.2⟩))⟩
      rw [gd_rem7 (show i < 100 by omega), gd_div7 (show i < 100 by omega), gd_ix, gd_ix, nI_clamp (show i / 7 * 7 + m < 2 ^ 31 by omega), nI_clamp (show m * 7 + i % 7 < 2 ^ 31 by omega)]
      exact ⟨by decide, pk_in (i / 7 * 7 + m) 49 (by omega), br_c (fun g => keep (Or.inl g)) (fun g => ⟨by decide, pk_in (m * 7 + i % 7) 49 (by omega), br_c (fun g2 => keep (Or.inr g2))
        (fun g2 => br_f (by decide) ⟨pk_in i 49 hi, nm_e (nm_r (nI_1 i) (hw _ ⟨gd_fill (f := fun j => if 1048576 ≤ a17 (j / 7 * 7 + m) ∨ 1048576 ≤ a17 (m * 7 + j % 7) then a4 j else (-4000)) (nI_clamp (by omega)) hu.1 (by rw [if_neg (fun t => t.elim g g2)]), gd_rest (nI_clamp (by omega)) hu.2⟩))⟩)⟩)⟩))
/-- what the walk over the middles needs of the block at its end -/
def gd_fin (P Q R : Int) (l : List Int) : Prop :=
  (∀ i, i < 3 → ∀ j, j < 3 → gd_at l i j < 1048576) ∧ (P + Q + R < 0 → ∀ i, i < 3 → gd_at l i i < 0) ∧ (0 ≤ P + Q + R → ∀ i, i < 3 → ∀ j, j < 3 → gd_at l i j = gd_D P Q R i j)
theorem gd_D0 (P Q R : Int) : ∀ i, i < 3 → gd_D P Q R i i = 0 := gd_3 rfl rfl rfl
theorem gd_m51 {post : St2 → Prop} {P Q R : Int} {hs tp bt : Int32} {a4 a5 a6 a7 a8 a9 a10 a11 a12 a13 a14 a15 a16 a17 a18 a19 : Nat → Int32} {l : List Int} (h : gd_K a17 l) (hf : gd_fin P Q R l) (h4 : ∀ i, i < 49 → a4 i = a17 i)
    (H : ∀ b4 : Nat → Int32, (∀ i, i < 7 → ∀ j, j < 7 → b4 (i * 7 + j) = if i < 3 ∧ j < 3 then gd_fd P Q R i j else gd_z (if i = j then 0 else 1048576)) → post (7, hs, tp, bt, gd_a, gd_b, (gd_w P Q R), b4, a5, a6, a7, a8, a9, a10, a11, a12, a13, a14, a15, a16, a17, a18, a19)) : ∃ n, wX_solveOverMiddles_51 post n 0 7 hs tp bt gd_a gd_b (gd_w P Q R) a4 a5 a6 a7 a8 a9 a10 a11 a12 a13 a14 a15 a16 a17 a18 a19 :=
  pk_loop (fun n m (u : Nat → Int32) => wX_solveOverMiddles_51 post n (nI m) 7 hs tp bt gd_a gd_b (gd_w P Q R) u a5 a6 a7 a8 a9 a10 a11 a12 a13 a14 a15 a16 a17 a18 a19) (fun m u => ∀ i, i < 7 → ∀ j, j < 7 → u (i * 7 + j) = if P + Q + R < 0 ∧ 0 < m ∧ i < 3 ∧ j < 3 then (-4000) else gd_z (gd_at l i j)) 7 0 a4 (by omega)
    (fun i hi j hj => by rw [if_neg (by omega), h4 _ (by omega)]; exact h.1 i hi j hj)
    (fun n u hu => pk_le 7 7 (fun _ => H u (fun i hi j hj => by
      rw [hu i hi j hj]
      by_cases c : i < 3 ∧ j < 3
      · rw [if_pos c, gd_fd]
        by_cases g : P + Q + R < 0
        · rw [if_pos g, if_pos ⟨g, by omega, c⟩]
        · rw [if_neg g, if_neg (fun t => g t.1), hf.2.2 (by omega) i c.1 j c.2]
      · rw [if_neg c, if_neg (fun t => c t.2.2), gd_at_out c])) (fun z => absurd z (by omega)))
    (fun n m u hm hu hw => pk_le 7 m (fun z => absurd z (by omega)) (fun _ => by
      rw [gd_ix, nI_clamp (show m * 7 + m < 2 ^ 31 by omega)]
      have bm := gd_lb_at h.2.1 m m
      have em : (0 : Int32) ≤ a17 (m * 7 + m) ↔ 0 ≤ gd_at l m m := by
        rw [h.1 m hm m hm, gd_z0, gd_zle (by omega) (by omega) (by omega) (by omega)]
      have eo : ¬ m < 3 → gd_at l m m = 0 := fun c => by rw [gd_at_out (by omega), if_pos rfl]
      refine ⟨pk_in (m * 7 + m) 49 (by omega), br_c (fun g => nm_r (nI_1 m) (hw _ (fun i hi j hj => ?_))) (fun g => gd_lowO hm (fun b4 hb => nm_r (nI_1 m) (hw _ (fun i hi j hj => ?_))))⟩
      · rw [hu i hi j hj]
        by_cases c : P + Q + R < 0 ∧ i < 3 ∧ j < 3
        · have h3 : ¬ m < 3 := fun c3 => absurd (em.mp g) (by have := hf.2.1 c.1 m c3; omega)
          rw [if_pos ⟨c.1, by omega, c.2⟩, if_pos ⟨c.1, by omega, c.2⟩]
        · rw [if_neg (fun t => c ⟨t.1, t.2.2⟩), if_neg (fun t => c ⟨t.1, t.2.2⟩)]
      · have g' : ¬ 0 ≤ gd_at l m m := fun t => g (em.mpr t)
        have h3 : m < 3 := Classical.byContradiction (fun c => g' (by rw [eo c]; omega))
        have hs : P + Q + R < 0 := Classical.byContradiction (fun c => g' (by rw [hf.2.2 (by omega) m h3 m h3, gd_D0 P Q R m h3]; omega))
        have b1 := gd_lb_at h.2.1 i m
        have b2 := gd_lb_at h.2.1 m j
        have e1 : (1048576 : Int32) ≤ a17 (i * 7 + m) ↔ 1048576 ≤ gd_at l i m := by
          rw [h.1 i hi m hm, gd_far, gd_zle (by omega) (by omega) (by omega) (by omega)]
        have e2 : (1048576 : Int32) ≤ a17 (m * 7 + j) ↔ 1048576 ≤ gd_at l m j := by
          rw [h.1 m hm j hj, gd_far, gd_zle (by omega) (by omega) (by omega) (by omega)]
        rw [hb _ (show i * 7 + j < 49 by omega), show (i * 7 + j) / 7 = i by omega, show (i * 7 + j) % 7 = j by omega]
        by_cases c : i < 3 ∧ j < 3
        · have f1 := hf.1 i c.1 m h3
          have f2 := hf.1 m h3 j c.2
          have no : ¬ ((1048576 : Int32) ≤ a17 (i * 7 + m) ∨ (1048576 : Int32) ≤ a17 (m * 7 + j)) := fun t => t.elim (fun t => absurd (e1.mp t) (by omega)) (fun t => absurd (e2.mp t) (by omega))
          rw [if_neg no, if_pos ⟨hs, by omega, c⟩]
        · have yes : (1048576 : Int32) ≤ a17 (i * 7 + m) ∨ (1048576 : Int32) ≤ a17 (m * 7 + j) := by
            by_cases ci : i < 3
            · refine Or.inr (e2.mpr ?_)
              rw [gd_at_out (by omega), if_neg (by omega)]
              omega
            · refine Or.inl (e1.mpr ?_)
              rw [gd_at_out (by omega), if_neg (by omega)]
              omega
          rw [if_pos yes, hu i hi j hj, if_neg (fun t => c t.2.2), if_neg (fun t => c t.2.2)]))
end
section
theorem gd_mnE {x y z v : Int} (h : ((1048576 ≤ y ∨ 1048576 ≤ z) ∧ x ≤ 1048576 ∧ v = x) ∨ (y < 1048576 ∧ z < 1048576 ∧ -200000 ≤ y + z ∧ ((x ≤ y + z ∧ v = x) ∨ (y + z < x ∧ v = y + z)))) : gd_mn x (gd_sum y z) = v := by
  rcases h with h | h
  · unfold gd_mn gd_sum
    rw [if_pos h.1, if_pos h.2.1, h.2.2]
  · have e : gd_sum y z = y + z := by
      unfold gd_sum
      rw [if_neg (show ¬ (1048576 ≤ y ∨ 1048576 ≤ z) by omega), if_pos h.2.2.1]
    rw [e]
    unfold gd_mn
    split <;> omega
theorem gd_seE {l l' : List Int} {k i j : Nat} {v : Int} (h : gd_mn (gd_g l i j) (gd_sum (gd_g l i k) (gd_g l k j)) = v) (h' : l.set (i * 3 + j) v = l') : gd_se l k i j = l' := by
  unfold gd_se
  rw [h, h']
theorem gd_floyd {P Q R M : Int} (hw : gd_wt P Q R) (hM : (P + Q + R < 0 ∧ M = P + Q + R) ∨ (0 ≤ P + Q + R ∧ M = 0)) :
    gd_ms (gd_L0 P Q R) 7 = [M, P + M, P + Q + M, Q + R, M, Q + M, R + M, R + P + M, M + M] := by
  unfold gd_wt at hw
  have s000 : gd_se [0, P, 1048576, 1048576, 0, Q, R, 1048576, 0] 0 0 0 = [0, P, 1048576, 1048576, 0, Q, R, 1048576, 0] := gd_seE (v := 0) (by show gd_mn (0) (gd_sum (0) (0)) = 0; exact gd_mnE (by omega)) rfl
  have s001 : gd_se [0, P, 1048576, 1048576, 0, Q, R, 1048576, 0] 0 0 1 = [0, P, 1048576, 1048576, 0, Q, R, 1048576, 0] := gd_seE (v := P) (by show gd_mn (P) (gd_sum (0) (P)) = P; exact gd_mnE (by omega)) rfl
  have s002 : gd_se [0, P, 1048576, 1048576, 0, Q, R, 1048576, 0] 0 0 2 = [0, P, 1048576, 1048576, 0, Q, R, 1048576, 0] := gd_seE (v := 1048576) (by show gd_mn (1048576) (gd_sum (0) (1048576)) = 1048576; exact gd_mnE (by omega)) rfl
  have s010 : gd_se [0, P, 1048576, 1048576, 0, Q, R, 1048576, 0] 0 1 0 = [0, P, 1048576, 1048576, 0, Q, R, 1048576, 0] := gd_seE (v := 1048576) (by show gd_mn (1048576) (gd_sum (1048576) (0)) = 1048576; exact gd_mnE (by omega)) rfl
  have s011 : gd_se [0, P, 1048576, 1048576, 0, Q, R, 1048576, 0] 0 1 1 = [0, P, 1048576, 1048576, 0, Q, R, 1048576, 0] := gd_seE (v := 0) (by show gd_mn (0) (gd_sum (1048576) (P)) = 0; exact gd_mnE (by omega)) rfl
  have s012 : gd_se [0, P, 1048576, 1048576, 0, Q, R, 1048576, 0] 0 1 2 = [0, P, 1048576, 1048576, 0, Q, R, 1048576, 0] := gd_seE (v := Q) (by show gd_mn (Q) (gd_sum (1048576) (1048576)) = Q; exact gd_mnE (by omega)) rfl
  have s020 : gd_se [0, P, 1048576, 1048576, 0, Q, R, 1048576, 0] 0 2 0 = [0, P, 1048576, 1048576, 0, Q, R, 1048576, 0] := gd_seE (v := R) (by show gd_mn (R) (gd_sum (R) (0)) = R; exact gd_mnE (by omega)) rfl
  have s021 : gd_se [0, P, 1048576, 1048576, 0, Q, R, 1048576, 0] 0 2 1 = [0, P, 1048576, 1048576, 0, Q, R, R + P, 0] := gd_seE (v := R + P) (by show gd_mn (1048576) (gd_sum (R) (P)) = R + P; exact gd_mnE (by omega)) rfl
  have s022 : gd_se [0, P, 1048576, 1048576, 0, Q, R, R + P, 0] 0 2 2 = [0, P, 1048576, 1048576, 0, Q, R, R + P, 0] := gd_seE (v := 0) (by show gd_mn (0) (gd_sum (R) (1048576)) = 0; exact gd_mnE (by omega)) rfl
  have s100 : gd_se [0, P, 1048576, 1048576, 0, Q, R, R + P, 0] 1 0 0 = [0, P, 1048576, 1048576, 0, Q, R, R + P, 0] := gd_seE (v := 0) (by show gd_mn (0) (gd_sum (P) (1048576)) = 0; exact gd_mnE (by omega)) rfl
  have s101 : gd_se [0, P, 1048576, 1048576, 0, Q, R, R + P, 0] 1 0 1 = [0, P, 1048576, 1048576, 0, Q, R, R + P, 0] := gd_seE (v := P) (by show gd_mn (P) (gd_sum (P) (0)) = P; exact gd_mnE (by omega)) rfl
  have s102 : gd_se [0, P, 1048576, 1048576, 0, Q, R, R + P, 0] 1 0 2 = [0, P, P + Q, 1048576, 0, Q, R, R + P, 0] := gd_seE (v := P + Q) (by show gd_mn (1048576) (gd_sum (P) (Q)) = P + Q; exact gd_mnE (by omega)) rfl
  have s110 : gd_se [0, P, P + Q, 1048576, 0, Q, R, R + P, 0] 1 1 0 = [0, P, P + Q, 1048576, 0, Q, R, R + P, 0] := gd_seE (v := 1048576) (by show gd_mn (1048576) (gd_sum (0) (1048576)) = 1048576; exact gd_mnE (by omega)) rfl
  have s111 : gd_se [0, P, P + Q, 1048576, 0, Q, R, R + P, 0] 1 1 1 = [0, P, P + Q, 1048576, 0, Q, R, R + P, 0] := gd_seE (v := 0) (by show gd_mn (0) (gd_sum (0) (0)) = 0; exact gd_mnE (by omega)) rfl
  have s112 : gd_se [0, P, P + Q, 1048576, 0, Q, R, R + P, 0] 1 1 2 = [0, P, P + Q, 1048576, 0, Q, R, R + P, 0] := gd_seE (v := Q) (by show gd_mn (Q) (gd_sum (0) (Q)) = Q; exact gd_mnE (by omega)) rfl
  have s120 : gd_se [0, P, P + Q, 1048576, 0, Q, R, R + P, 0] 1 2 0 = [0, P, P + Q, 1048576, 0, Q, R, R + P, 0] := gd_seE (v := R) (by show gd_mn (R) (gd_sum (R + P) (1048576)) = R; exact gd_mnE (by omega)) rfl
  have s121 : gd_se [0, P, P + Q, 1048576, 0, Q, R, R + P, 0] 1 2 1 = [0, P, P + Q, 1048576, 0, Q, R, R + P, 0] := gd_seE (v := R + P) (by show gd_mn (R + P) (gd_sum (R + P) (0)) = R + P; exact gd_mnE (by omega)) rfl
  have s122 : gd_se [0, P, P + Q, 1048576, 0, Q, R, R + P, 0] 1 2 2 = [0, P, P + Q, 1048576, 0, Q, R, R + P, M] := gd_seE (v := M) (by show gd_mn (0) (gd_sum (R + P) (Q)) = M; exact gd_mnE (by omega)) rfl
  have s200 : gd_se [0, P, P + Q, 1048576, 0, Q, R, R + P, M] 2 0 0 = [M, P, P + Q, 1048576, 0, Q, R, R + P, M] := gd_seE (v := M) (by show gd_mn (0) (gd_sum (P + Q) (R)) = M; exact gd_mnE (by omega)) rfl
  have s201 : gd_se [M, P, P + Q, 1048576, 0, Q, R, R + P, M] 2 0 1 = [M, P + M, P + Q, 1048576, 0, Q, R, R + P, M] := gd_seE (v := P + M) (by show gd_mn (P) (gd_sum (P + Q) (R + P)) = P + M; exact gd_mnE (by omega)) rfl
  have s202 : gd_se [M, P + M, P + Q, 1048576, 0, Q, R, R + P, M] 2 0 2 = [M, P + M, P + Q + M, 1048576, 0, Q, R, R + P, M] := gd_seE (v := P + Q + M) (by show gd_mn (P + Q) (gd_sum (P + Q) (M)) = P + Q + M; exact gd_mnE (by omega)) rfl
  have s210 : gd_se [M, P + M, P + Q + M, 1048576, 0, Q, R, R + P, M] 2 1 0 = [M, P + M, P + Q + M, Q + R, 0, Q, R, R + P, M] := gd_seE (v := Q + R) (by show gd_mn (1048576) (gd_sum (Q) (R)) = Q + R; exact gd_mnE (by omega)) rfl
  have s211 : gd_se [M, P + M, P + Q + M, Q + R, 0, Q, R, R + P, M] 2 1 1 = [M, P + M, P + Q + M, Q + R, M, Q, R, R + P, M] := gd_seE (v := M) (by show gd_mn (0) (gd_sum (Q) (R + P)) = M; exact gd_mnE (by omega)) rfl
  have s212 : gd_se [M, P + M, P + Q + M, Q + R, M, Q, R, R + P, M] 2 1 2 = [M, P + M, P + Q + M, Q + R, M, Q + M, R, R + P, M] := gd_seE (v := Q + M) (by show gd_mn (Q) (gd_sum (Q) (M)) = Q + M; exact gd_mnE (by omega)) rfl
  have s220 : gd_se [M, P + M, P + Q + M, Q + R, M, Q + M, R, R + P, M] 2 2 0 = [M, P + M, P + Q + M, Q + R, M, Q + M, R + M, R + P, M] := gd_seE (v := R + M) (by show gd_mn (R) (gd_sum (M) (R)) = R + M; exact gd_mnE (by omega)) rfl
  have s221 : gd_se [M, P + M, P + Q + M, Q + R, M, Q + M, R + M, R + P, M] 2 2 1 = [M, P + M, P + Q + M, Q + R, M, Q + M, R + M, R + P + M, M] := gd_seE (v := R + P + M) (by show gd_mn (R + P) (gd_sum (M) (R + P)) = R + P + M; exact gd_mnE (by omega)) rfl
  have s222 : gd_se [M, P + M, P + Q + M, Q + R, M, Q + M, R + M, R + P + M, M] 2 2 2 = [M, P + M, P + Q + M, Q + R, M, Q + M, R + M, R + P + M, M + M] := gd_seE (v := M + M) (by show gd_mn (M) (gd_sum (M) (M)) = M + M; exact gd_mnE (by omega)) rfl
  rw [gd_ms7, gd_L0, gd_md, gd_md, gd_md, gd_rw, gd_rw, gd_rw, gd_rw, gd_rw, gd_rw, gd_rw, gd_rw, gd_rw, s000, s001, s002, s010, s011, s012, s020, s021, s022, s100, s101, s102, s110, s111, s112, s120, s121, s122, s200, s201, s202, s210, s211, s212, s220, s221, s222]
theorem gd_ex_M (S : Int) : ∃ M : Int, (S < 0 ∧ M = S) ∨ (0 ≤ S ∧ M = 0) := by
  by_cases h : S < 0
  · exact ⟨S, Or.inl ⟨h, rfl⟩⟩
  · exact ⟨0, Or.inr ⟨by omega, rfl⟩⟩
theorem gd_floyd_fin {P Q R : Int} (hw : gd_wt P Q R) : gd_fin P Q R (gd_ms (gd_L0 P Q R) 7) := by
  obtain ⟨M, hM⟩ := gd_ex_M (P + Q + R)
  rw [gd_floyd hw hM]
  unfold gd_wt at hw
  refine ⟨?_, fun g => ?_, fun g => ?_⟩
  · refine gd_3 (p := fun i => ∀ j, j < 3 → gd_at [M, P + M, P + Q + M, Q + R, M, Q + M, R + M, R + P + M, M + M] i j < 1048576) ?_ ?_ ?_
    · refine gd_3 (p := fun j => gd_at [M, P + M, P + Q + M, Q + R, M, Q + M, R + M, R + P + M, M + M] 0 j < 1048576) ?_ ?_ ?_
      · show M < 1048576; omega
      · show P + M < 1048576; omega
      · show P + Q + M < 1048576; omega
    · refine gd_3 (p := fun j => gd_at [M, P + M, P + Q + M, Q + R, M, Q + M, R + M, R + P + M, M + M] 1 j < 1048576) ?_ ?_ ?_
      · show Q + R < 1048576; omega
      · show M < 1048576; omega
      · show Q + M < 1048576; omega
    · refine gd_3 (p := fun j => gd_at [M, P + M, P + Q + M, Q + R, M, Q + M, R + M, R + P + M, M + M] 2 j < 1048576) ?_ ?_ ?_
      · show R + M < 1048576; omega
      · show R + P + M < 1048576; omega
      · show M + M < 1048576; omega
  · refine gd_3 (p := fun i => gd_at [M, P + M, P + Q + M, Q + R, M, Q + M, R + M, R + P + M, M + M] i i < 0) ?_ ?_ ?_
    · show M < 0; omega
    · show M < 0; omega
    · show M + M < 0; omega
  · have hM0 : M = 0 := by omega
    refine gd_3 (p := fun i => ∀ j, j < 3 → gd_at [M, P + M, P + Q + M, Q + R, M, Q + M, R + M, R + P + M, M + M] i j = gd_D P Q R i j) ?_ ?_ ?_
    · refine gd_3 (p := fun j => gd_at [M, P + M, P + Q + M, Q + R, M, Q + M, R + M, R + P + M, M + M] 0 j = gd_D P Q R 0 j) ?_ ?_ ?_
      · show M = 0; omega
      · show P + M = P; omega
      · show P + Q + M = P + Q; omega
    · refine gd_3 (p := fun j => gd_at [M, P + M, P + Q + M, Q + R, M, Q + M, R + M, R + P + M, M + M] 1 j = gd_D P Q R 1 j) ?_ ?_ ?_
      · show Q + R = Q + R; omega
      · show M = 0; omega
      · show Q + M = Q; omega
    · refine gd_3 (p := fun j => gd_at [M, P + M, P + Q + M, Q + R, M, Q + M, R + M, R + P + M, M + M] 2 j = gd_D P Q R 2 j) ?_ ?_ ?_
      · show R + M = R; omega
      · show R + P + M = R + P; omega
      · show M + M = 0; omega
theorem gd_K0 {P Q R : Int} {t : Nat → Int32} (hw : gd_wt P Q R) (h : gd_M t (gd_L0 P Q R)) : gd_K t (gd_L0 P Q R) :=
  ⟨h, gd_lb9 (fun x hx => by unfold gd_wt at hw; omega), rfl⟩
/-- the whole of found, as the walk over the middles leaves it -/
def gd_all (P Q R : Int) (b4 : Nat → Int32) : Prop := ∀ i, i < 7 → ∀ j, j < 7 → b4 (i * 7 + j) = if i < 3 ∧ j < 3 then gd_fd P Q R i j else gd_z (if i = j then 0 else 1048576)
theorem gd_mids {post : St2 → Prop} {P Q R : Int} {hs tp bt : Int32} {a4 a5 a6 a7 a8 a9 a10 a11 a12 a13 a14 a15 a16 a17 a18 a19 : Nat → Int32} (hw : gd_wt P Q R) (H : ∀ b4 b17 : Nat → Int32, gd_all P Q R b4 → post (7, hs, tp, bt, gd_a, gd_b, (gd_w P Q R), b4, a5, a6, a7, a8, a9, a10, a11, a12, a13, a14, a15, a16, b17, a18, a19)) : wpX_solveOverMiddles post (7, hs, tp, bt, gd_a, gd_b, (gd_w P Q R), a4, a5, a6, a7, a8, a9, a10, a11, a12, a13, a14, a15, a16, a17, a18, a19) :=
  gd_fillT hw (fun b17 hb => gd_m6 (gd_K0 hw hb) (fun c17 hc => gd_m25 (fun b4 h4 => gd_m51 hc (gd_floyd_fin hw) h4 (fun d4 h => H d4 c17 h))))

/-- the least over all middle points -/
def gd_lo (t : Nat → Int32) (a b : Nat) : Nat → Int32
  | 0 => 1048576
  | m + 1 => if gd_lo t a b m ≤ gd_sumI (t (a * 7 + m)) (t (m * 7 + b)) then gd_lo t a b m else gd_sumI (t (a * 7 + m)) (t (m * 7 + b))
theorem gd_least {post : Int32 → Prop} {P Q R : Int} {hs tp bt : Int32} {a4 a5 a6 a7 a8 a9 a10 a11 a12 a13 a14 a15 a16 a17 a18 a19 : Nat → Int32} {a b : Nat} (ha : a < 7) (hb : b < 7) (h : post (gd_lo a17 a b 7)) : wpX_leastOverAll post (7, hs, tp, bt, gd_a, gd_b, (gd_w P Q R), a4, a5, a6, a7, a8, a9, a10, a11, a12, a13, a14, a15, a16, a17, a18, a19) (nI a) (nI b) :=
  pk_loop (fun n m (u : Int32) => wX_leastOverAll_6 post (nI a) (nI b) 7 hs tp bt gd_a gd_b (gd_w P Q R) a4 a5 a6 a7 a8 a9 a10 a11 a12 a13 a14 a15 a16 a17 a18 a19 n u (nI m)) (fun m u => u = gd_lo a17 a b m) 7 0 1048576 (by omega) rfl
    (fun n u hu => pk_le 7 7 (fun _ => by rw [hu]; exact h) (fun z => absurd z (by omega)))
    (fun n m u hm hu hw => pk_le 7 m (fun z => absurd z (by omega)) (fun _ => by
      rw [gd_ix, gd_ix, nI_clamp (show a * 7 + m < 2 ^ 31 by omega), nI_clamp (show m * 7 + b < 2 ^ 31 by omega)]
      refine ⟨pk_in (a * 7 + m) 49 (by omega), pk_in (m * 7 + b) 49 (by omega), gd_sumOf (br_c (fun g => nm_r (nI_1 m) (hw _ ?_)) (fun g => nm_r (nI_1 m) (hw _ ?_)))⟩
      · rw [gd_lo, ← hu, if_pos g]
      · rw [gd_lo, ← hu, if_neg g]))
theorem gd_d46 {post : St2 → Prop} {J : Int32 → (Nat → Int32) → (Nat → Int32) → (Nat → Int32) → (Nat → Int32) → (Nat → Int32) → (Nat → Int32) → (Nat → Int32) → (Nat → Int32) → (Nat → Int32) → (Nat → Int32) → (Nat → Int32) → (Nat → Int32) → (Nat → Int32) → (Nat → Int32) → (Nat → Int32) → (Nat → Int32) → (Nat → Int32) → (Nat → Int32) → (Nat → Int32) → Prop} {P Q R : Int} {hs tp bt : Int32} {a4 a5 a6 a7 a8 a9 a10 a11 a12 a13 a14 a15 a16 a17 a18 a19 : Nat → Int32} {r : Nat} (H : ∀ b17 : Nat → Int32, (∀ i, i < 49 → b17 i = a18 i) → J (nI (r + 1)) gd_a gd_b (gd_w P Q R) a4 a5 a6 a7 a8 a9 a10 a11 a12 a13 a14 a15 a16 b17 a18 a19) : ∃ n, wX_solveByDoubling_46 post J (nI r) 7 hs tp bt n 0 gd_a gd_b (gd_w P Q R) a4 a5 a6 a7 a8 a9 a10 a11 a12 a13 a14 a15 a16 a17 a18 a19 :=
  pk_loop (fun n i (u : Nat → Int32) => wX_solveByDoubling_46 post J (nI r) 7 hs tp bt n (nI i) gd_a gd_b (gd_w P Q R) a4 a5 a6 a7 a8 a9 a10 a11 a12 a13 a14 a15 a16 u a18 a19) (fun i u => ∀ j, j < i → u j = a18 j) 49 0 a17 (by omega) (fun j h => absurd h (by omega))
    (fun n u hu => pk_le 49 49 (fun _ => nm_r (nI_1 r) (H u hu)) (fun z => absurd z (by omega)))
    (fun n i u hi hu hw => pk_le 49 i (fun z => absurd z (by omega)) (fun _ => ⟨pk_in i 49 hi, pk_in i 49 hi, nm_e (nm_r (nI_1 i) (hw _ (gd_fill (nI_clamp (by omega)) hu (by rw [nI_clamp (by omega)]))))⟩))
theorem gd_d14 {post : St2 → Prop} {J : Int32 → (Nat → Int32) → (Nat → Int32) → (Nat → Int32) → (Nat → Int32) → (Nat → Int32) → (Nat → Int32) → (Nat → Int32) → (Nat → Int32) → (Nat → Int32) → (Nat → Int32) → (Nat → Int32) → (Nat → Int32) → (Nat → Int32) → (Nat → Int32) → (Nat → Int32) → (Nat → Int32) → (Nat → Int32) → (Nat → Int32) → (Nat → Int32) → Prop} {P Q R : Int} {hs tp bt : Int32} {a4 a5 a6 a7 a8 a9 a10 a11 a12 a13 a14 a15 a16 a17 a18 a19 : Nat → Int32} {r : Nat} (H : ∀ b17 b18 : Nat → Int32, (∀ i, i < 49 → b17 i = gd_lo a17 (i / 7) (i % 7) 7) → J (nI (r + 1)) gd_a gd_b (gd_w P Q R) a4 a5 a6 a7 a8 a9 a10 a11 a12 a13 a14 a15 a16 b17 b18 a19) : ∃ n, wX_solveByDoubling_14 post J (nI r) 7 hs tp bt n 0 gd_a gd_b (gd_w P Q R) a4 a5 a6 a7 a8 a9 a10 a11 a12 a13 a14 a15 a16 a17 a18 a19 :=
  pk_loop (fun n i (u : Nat → Int32) => wX_solveByDoubling_14 post J (nI r) 7 hs tp bt n (nI i) gd_a gd_b (gd_w P Q R) a4 a5 a6 a7 a8 a9 a10 a11 a12 a13 a14 a15 a16 a17 u a19) (fun i u => ∀ j, j < i → u j = gd_lo a17 (j / 7) (j % 7) 7) 49 0 a18 (by omega) (fun j h => absurd h (by omega))
    (fun n u hu => pk_le 49 49 (fun _ => gd_d46 (fun b17 hb => H b17 u (fun i hi => by rw [hb i hi, hu i hi]))) (fun z => absurd z (by omega)))
    (fun n i u hi hu hw => pk_le 49 i (fun z => absurd z (by omega)) (fun _ => by
      rw [gd_rem7 (show i < 100 by omega), gd_div7 (show i < 100 by omega)]
      exact ⟨by decide, by decide, gd_least (by omega) (by omega) ⟨pk_in i 49 hi, nm_e (nm_r (nI_1 i) (hw _ (gd_fill (f := fun j => gd_lo a17 (j / 7) (j % 7) 7) (nI_clamp (by omega)) hu rfl)))⟩⟩))
/-- the block, doubled -/
def gd_e (l : List Int) (i j : Nat) : Int := gd_mn (gd_mn (gd_mn 1048576 (gd_sum (gd_g l i 0) (gd_g l 0 j))) (gd_sum (gd_g l i 1) (gd_g l 1 j))) (gd_sum (gd_g l i 2) (gd_g l 2 j))
def gd_sq (l : List Int) : List Int := [gd_e l 0 0, gd_e l 0 1, gd_e l 0 2, gd_e l 1 0, gd_e l 1 1, gd_e l 1 2, gd_e l 2 0, gd_e l 2 1, gd_e l 2 2]
def gd_sqn (l : List Int) : Nat → List Int
  | 0 => l
  | n + 1 => gd_sq (gd_sqn l n)
theorem gd_mn_b {x y : Int} (hx : -200000 ≤ x ∧ x ≤ 1048576) (hy : -200000 ≤ y) : -200000 ≤ gd_mn x y ∧ gd_mn x y ≤ 1048576 := by
  unfold gd_mn
  split <;> omega
theorem gd_e_b {l : List Int} (hb : gd_lb l) (i j : Nat) : -200000 ≤ gd_e l i j ∧ gd_e l i j ≤ 1048576 :=
  gd_mn_b (gd_mn_b (gd_mn_b (by omega) (gd_sum_b (hb _).2 (hb _).2).1) (gd_sum_b (hb _).2 (hb _).2).1) (gd_sum_b (hb _).2 (hb _).2).1
theorem gd_sq_lb {l : List Int} (hb : gd_lb l) : gd_lb (gd_sq l) := by
  refine gd_lb9 (fun x hx => ?_)
  rcases hx with h | h | h | h | h | h | h | h | h <;> rw [h] <;> exact gd_e_b hb _ _
theorem gd_sq_g (l : List Int) : ∀ i, i < 3 → ∀ j, j < 3 → gd_g (gd_sq l) i j = gd_e l i j :=
  gd_3 (gd_3 rfl rfl rfl) (gd_3 rfl rfl rfl) (gd_3 rfl rfl rfl)
/-- the least over all middle points, as an int -/
def gd_lz (l : List Int) (a b : Nat) : Nat → Int
  | 0 => 1048576
  | m + 1 => gd_mn (gd_lz l a b m) (gd_sum (gd_at l a m) (gd_at l m b))
theorem gd_lz_b {l : List Int} (hb : gd_lb l) (a b m : Nat) : -200000 ≤ gd_lz l a b m ∧ gd_lz l a b m ≤ 1048576 := by
  induction m with
  | zero =>
    show -200000 ≤ (1048576 : Int) ∧ (1048576 : Int) ≤ 1048576
    omega
  | succ m ih => exact gd_mn_b ih (gd_sum_b (gd_lb_at hb _ _).2 (gd_lb_at hb _ _).2).1
theorem gd_loz {t : Nat → Int32} {l : List Int} (h : gd_M t l) (hb : gd_lb l) {a b : Nat} (ha : a < 7) (hb7 : b < 7) : ∀ m, m ≤ 7 → gd_lo t a b m = gd_z (gd_lz l a b m) := by
  intro m
  induction m with
  | zero => exact fun _ => gd_far
  | succ m ih =>
    intro hm
    have b1 := gd_lz_b hb a b m
    have b2 := gd_sum_b (gd_lb_at hb a m).2 (gd_lb_at hb m b).2
    rw [gd_lo, gd_lz, ih (by omega), h a ha m (by omega), h m (by omega) b hb7, gd_sumZ (gd_lb_at hb a m) (gd_lb_at hb m b), gd_mn]
    by_cases g : gd_lz l a b m ≤ gd_sum (gd_at l a m) (gd_at l m b)
    · rw [if_pos g, if_pos ((gd_zle (by omega) (by omega) (by omega) (by omega)).mpr g)]
    · rw [if_neg g, if_neg (fun t => g ((gd_zle (by omega) (by omega) (by omega) (by omega)).mp t))]
theorem gd_mn_ge {x y : Int} (h : x ≤ y) : gd_mn x y = x := by
  unfold gd_mn
  rw [if_pos h]
theorem gd_sum_far {x y : Int} (h : 1048576 ≤ x ∨ 1048576 ≤ y) : gd_sum x y = 1048576 := by
  unfold gd_sum
  rw [if_pos h]
theorem gd_lz_in {l : List Int} (hb : gd_lb l) {a b : Nat} (ha : a < 3) (hb3 : b < 3) : gd_lz l a b 7 = gd_e l a b := by
  have h3 : gd_lz l a b 3 = gd_e l a b := by
    rw [gd_lz, gd_lz, gd_lz, gd_lz, gd_at_in ha (by omega), gd_at_in (by omega) hb3, gd_at_in ha (by omega), gd_at_in (by omega) hb3, gd_at_in ha (by omega), gd_at_in (by omega) hb3]
    rfl
  have all : ∀ d, gd_lz l a b (3 + d) = gd_lz l a b 3 := by
    intro d
    induction d with
    | zero => rfl
    | succ d ih =>
      show gd_lz l a b (3 + d + 1) = _
      have := gd_lz_b hb a b 3
      rw [gd_lz, ih, gd_sum_far (Or.inl (by rw [gd_at_out (by omega), if_neg (by omega)]; omega)), gd_mn_ge this.2]
  rw [show gd_lz l a b 7 = gd_lz l a b 3 from all 4, h3]
theorem gd_lz_out {l : List Int} (hb : gd_lb l) {a b : Nat} (ha : a < 7) (hb7 : b < 7) (c : ¬ (a < 3 ∧ b < 3)) : gd_lz l a b 7 = if a = b then 0 else 1048576 := by
  have s : ∀ m, gd_sum (gd_at l a m) (gd_at l m b) = if m = a ∧ a = b then 0 else 1048576 := by
    intro m
    by_cases e : a = b
    · subst e
      have ea := gd_at_out (l := l) (i := a) (j := m) (by omega)
      have eb := gd_at_out (l := l) (i := m) (j := a) (by omega)
      by_cases e2 : m = a
      · subst e2
        rw [ea, if_pos rfl, if_pos ⟨rfl, rfl⟩]
        rfl
      · rw [if_neg (fun t => e2 t.1)]
        rw [if_neg (fun t => e2 t.symm)] at ea
        exact gd_sum_far (Or.inl (by omega))
    · rw [if_neg (fun t => e t.2)]
      by_cases c1 : a < 3 ∧ m < 3
      · have eb := gd_at_out (l := l) (i := m) (j := b) (by omega)
        rw [if_neg (by omega)] at eb
        exact gd_sum_far (Or.inr (by omega))
      · have ea := gd_at_out (l := l) c1
        by_cases e2 : a = m
        · subst e2
          have eb := gd_at_out (l := l) (i := a) (j := b) c
          rw [if_neg e] at eb
          exact gd_sum_far (Or.inr (by omega))
        · rw [if_neg e2] at ea
          exact gd_sum_far (Or.inl (by omega))
  have all : ∀ m, gd_lz l a b m = if a < m ∧ a = b then 0 else 1048576 := by
    intro m
    induction m with
    | zero => rfl
    | succ m ih =>
      rw [gd_lz, ih, s, gd_mn]
      (repeat' split) <;> omega
  rw [all 7]
  by_cases e : a = b
  · rw [if_pos e, if_pos ⟨ha, e⟩]
  · rw [if_neg e, if_neg (fun t => e t.2)]
theorem gd_K_sq {t t' : Nat → Int32} {l : List Int} (h : gd_K t l) (h' : ∀ i, i < 49 → t' i = gd_lo t (i / 7) (i % 7) 7) : gd_K t' (gd_sq l) := by
  refine ⟨fun i hi j hj => ?_, gd_sq_lb h.2.1, rfl⟩
  rw [h' _ (by omega), show (i * 7 + j) / 7 = i by omega, show (i * 7 + j) % 7 = j by omega, gd_loz h.1 h.2.1 hi hj 7 (by omega)]
  by_cases c : i < 3 ∧ j < 3
  · rw [gd_lz_in h.2.1 c.1 c.2, gd_at_in c.1 c.2, gd_sq_g l i c.1 j c.2]
  · rw [gd_lz_out h.2.1 hi hj c, gd_at_out c]
theorem gd_d78 {post : St2 → Prop} {P Q R : Int} {hs tp bt : Int32} {a4 a5 a6 a7 a8 a9 a10 a11 a12 a13 a14 a15 a16 a17 a18 a19 : Nat → Int32} (H : ∀ b4 : Nat → Int32, (∀ i, i < 49 → b4 i = if (-140) ≤ a17 i then a17 i else (-4000)) → post (7, hs, tp, bt, gd_a, gd_b, (gd_w P Q R), b4, a5, a6, a7, a8, a9, a10, a11, a12, a13, a14, a15, a16, a17, a18, a19)) : ∃ n, wX_solveByDoubling_78 post 7 hs tp bt n 0 gd_a gd_b (gd_w P Q R) a4 a5 a6 a7 a8 a9 a10 a11 a12 a13 a14 a15 a16 a17 a18 a19 :=
  pk_loop (fun n i (u : Nat → Int32) => wX_solveByDoubling_78 post 7 hs tp bt n (nI i) gd_a gd_b (gd_w P Q R) u a5 a6 a7 a8 a9 a10 a11 a12 a13 a14 a15 a16 a17 a18 a19) (fun i u => ∀ j, j < i → u j = if (-140) ≤ a17 j then a17 j else (-4000)) 49 0 a4 (by omega) (fun j h => absurd h (by omega))
    (fun n u hu => pk_le 49 49 (fun _ => H u hu) (fun z => absurd z (by omega)))
    (fun n i u hi hu hw => pk_le 49 i (fun z => absurd z (by omega)) (fun _ => by
      rw [nI_clamp (show i < 2 ^ 31 by omega)]
      exact ⟨pk_in i 49 hi, br_c (fun g => ⟨pk_in i 49 hi, pk_in i 49 hi, nm_e (nm_r (nI_1 i) (hw _ (gd_fill (f := fun j => if (-140) ≤ a17 j then a17 j else (-4000)) rfl hu (if_pos g).symm)))⟩)
        (fun g => ⟨pk_in i 49 hi, nm_e (nm_r (nI_1 i) (hw _ (gd_fill (f := fun j => if (-140) ≤ a17 j then a17 j else (-4000)) rfl hu (if_neg g).symm)))⟩)⟩))
theorem gd_d6 {post : St2 → Prop} {P Q R : Int} {hs tp bt : Int32} {a4 a5 a6 a7 a8 a9 a10 a11 a12 a13 a14 a15 a16 a17 a18 a19 : Nat → Int32} {l : List Int} (h : gd_K a17 l) (H : ∀ b4 b17 b18 : Nat → Int32, gd_K b17 (gd_sqn l 12) → (∀ i, i < 49 → b4 i = if (-140) ≤ b17 i then b17 i else (-4000)) → post (7, hs, tp, bt, gd_a, gd_b, (gd_w P Q R), b4, a5, a6, a7, a8, a9, a10, a11, a12, a13, a14, a15, a16, b17, b18, a19)) : ∃ n, wX_solveByDoubling_6 post 7 hs tp bt n 0 gd_a gd_b (gd_w P Q R) a4 a5 a6 a7 a8 a9 a10 a11 a12 a13 a14 a15 a16 a17 a18 a19 :=
  pk_loop (fun n r (u : (Nat → Int32) × (Nat → Int32)) => wX_solveByDoubling_6 post 7 hs tp bt n (nI r) gd_a gd_b (gd_w P Q R) a4 a5 a6 a7 a8 a9 a10 a11 a12 a13 a14 a15 a16 u.1 u.2 a19) (fun r u => gd_K u.1 (gd_sqn l r)) 12 0 (a17, a18) (by omega) h
    (fun n u hu => pk_le 12 12 (fun _ => gd_d78 (fun b4 hb => H b4 u.1 u.2 hu hb)) (fun z => absurd z (by omega)))
    (fun n r u hr hu hw => pk_le 12 r (fun z => absurd z (by omega)) (fun _ => gd_d14 (fun b17 b18 hb => hw (b17, b18) (gd_K_sq hu hb))))
end
section
theorem gd_mn_l (x y : Int) : gd_mn x y ≤ x := by
  unfold gd_mn
  split <;> omega
theorem gd_mn_r (x y : Int) : gd_mn x y ≤ y := by
  unfold gd_mn
  split <;> omega
theorem gd_mn_i {x y v : Int} (h : v ≤ x) (h' : v ≤ y) : v ≤ gd_mn x y := by
  unfold gd_mn
  split <;> omega
theorem gd_sum_le {x y x' y' v : Int} (hx : x ≤ x') (hy : y ≤ y') (hv : x' + y' ≤ v) (h2 : -200000 ≤ v) (fx : x' < 1048576) (fy : y' < 1048576) : gd_sum x y ≤ v := by
  unfold gd_sum
  rw [if_neg (show ¬ (1048576 ≤ x ∨ 1048576 ≤ y) by omega)]
  split <;> omega
theorem gd_sum_ge {x y x' y' v : Int} (hx : x' ≤ x) (hy : y' ≤ y) (hv : v ≤ x' + y') (h2 : v ≤ 1048576) : v ≤ gd_sum x y := by
  unfold gd_sum
  split
  · exact h2
  · split <;> omega
theorem gd_e0 (l : List Int) (i j : Nat) : gd_e l i j ≤ gd_sum (gd_g l i 0) (gd_g l 0 j) := Int.le_trans (gd_mn_l _ _) (Int.le_trans (gd_mn_l _ _) (gd_mn_r _ _))
theorem gd_e1 (l : List Int) (i j : Nat) : gd_e l i j ≤ gd_sum (gd_g l i 1) (gd_g l 1 j) := Int.le_trans (gd_mn_l _ _) (gd_mn_r _ _)
theorem gd_e2 (l : List Int) (i j : Nat) : gd_e l i j ≤ gd_sum (gd_g l i 2) (gd_g l 2 j) := gd_mn_r _ _
/-- bounds from above -/
def gd_up (P Q R : Int) (l : List Int) : Prop := gd_g l 0 0 ≤ 0 ∧ gd_g l 1 1 ≤ 0 ∧ gd_g l 2 2 ≤ 0 ∧ gd_g l 0 1 ≤ P ∧ gd_g l 1 2 ≤ Q ∧ gd_g l 2 0 ≤ R
theorem gd_up_sq {P Q R : Int} {l : List Int} (hw : gd_wt P Q R) (h : gd_up P Q R l) : gd_up P Q R (gd_sq l) ∧ gd_g (gd_sq l) 0 2 ≤ P + Q := by
  obtain ⟨h00, h11, h22, h01, h12, h20⟩ := h
  unfold gd_wt at hw
  refine ⟨⟨?_, ?_, ?_, ?_, ?_, ?_⟩, ?_⟩
  · exact Int.le_trans (gd_e0 l 0 0) (gd_sum_le h00 h00 (by omega) (by omega) (by omega) (by omega))
  · exact Int.le_trans (gd_e1 l 1 1) (gd_sum_le h11 h11 (by omega) (by omega) (by omega) (by omega))
  · exact Int.le_trans (gd_e2 l 2 2) (gd_sum_le h22 h22 (by omega) (by omega) (by omega) (by omega))
  · exact Int.le_trans (gd_e0 l 0 1) (gd_sum_le h00 h01 (by omega) (by omega) (by omega) (by omega))
  · exact Int.le_trans (gd_e1 l 1 2) (gd_sum_le h11 h12 (by omega) (by omega) (by omega) (by omega))
  · exact Int.le_trans (gd_e2 l 2 0) (gd_sum_le h22 h20 (by omega) (by omega) (by omega) (by omega))
  · exact Int.le_trans (gd_e1 l 0 2) (gd_sum_le h01 h12 (by omega) (by omega) (by omega) (by omega))
theorem gd_up_n {P Q R : Int} (hw : gd_wt P Q R) (n : Nat) : gd_up P Q R (gd_sqn (gd_L0 P Q R) n) := by
  induction n with
  | zero => exact ⟨Int.le_refl 0, Int.le_refl 0, Int.le_refl 0, Int.le_refl P, Int.le_refl Q, Int.le_refl R⟩
  | succ n ih => exact (gd_up_sq hw ih).1
theorem gd_tri {P Q R : Int} (hs : 0 ≤ P + Q + R) {i j m : Nat} (hi : i < 3) (hj : j < 3) (hm : m < 3) : gd_D P Q R i j ≤ gd_D P Q R i m + gd_D P Q R m j := by
  unfold gd_D
  (repeat' split) <;> omega
theorem gd_D_b {P Q R : Int} (hw : gd_wt P Q R) (i j : Nat) : -40 ≤ gd_D P Q R i j ∧ gd_D P Q R i j ≤ 40 := by
  unfold gd_wt at hw
  unfold gd_D
  (repeat' split) <;> omega
/-- bounds from below -/
def gd_dn (P Q R : Int) (l : List Int) : Prop := ∀ i, i < 3 → ∀ j, j < 3 → gd_D P Q R i j ≤ gd_g l i j
theorem gd_dn_sq {P Q R : Int} {l : List Int} (hw : gd_wt P Q R) (hs : 0 ≤ P + Q + R) (h : gd_dn P Q R l) : gd_dn P Q R (gd_sq l) := by
  intro i hi j hj
  have b := gd_D_b hw i j
  rw [gd_sq_g l i hi j hj, gd_e]
  exact gd_mn_i (gd_mn_i (gd_mn_i (by omega) (gd_sum_ge (h i hi 0 (by omega)) (h 0 (by omega) j hj) (gd_tri hs hi hj (by omega)) (by omega)))
    (gd_sum_ge (h i hi 1 (by omega)) (h 1 (by omega) j hj) (gd_tri hs hi hj (by omega)) (by omega))) (gd_sum_ge (h i hi 2 (by omega)) (h 2 (by omega) j hj) (gd_tri hs hi hj (by omega)) (by omega))
theorem gd_dn_n {P Q R : Int} (hw : gd_wt P Q R) (hs : 0 ≤ P + Q + R) (n : Nat) : gd_dn P Q R (gd_sqn (gd_L0 P Q R) n) := by
  induction n with
  | zero =>
    have b := gd_D_b hw
    refine gd_3 (p := fun i => ∀ j, j < 3 → gd_D P Q R i j ≤ gd_g (gd_L0 P Q R) i j) ?_ ?_ ?_
    · exact gd_3 (p := fun j => gd_D P Q R 0 j ≤ gd_g (gd_L0 P Q R) 0 j) (Int.le_refl 0) (Int.le_refl P) (by show gd_D P Q R 0 2 ≤ 1048576; have := b 0 2; omega)
    · exact gd_3 (p := fun j => gd_D P Q R 1 j ≤ gd_g (gd_L0 P Q R) 1 j) (by show gd_D P Q R 1 0 ≤ 1048576; have := b 1 0; omega) (Int.le_refl 0) (Int.le_refl Q)
    · exact gd_3 (p := fun j => gd_D P Q R 2 j ≤ gd_g (gd_L0 P Q R) 2 j) (Int.le_refl R) (by show gd_D P Q R 2 1 ≤ 1048576; have := b 2 1; omega) (Int.le_refl 0)
  | succ n ih => exact gd_dn_sq hw hs ih
theorem gd_dd {l : List Int} {c : Int} (h : gd_g l 0 0 ≤ c) (h1 : c ≤ 0) (h2 : -1000 ≤ c) : gd_g (gd_sq l) 0 0 ≤ c + c :=
  Int.le_trans (gd_e0 l 0 0) (gd_sum_le h h (by omega) (by omega) (by omega) (by omega))
theorem gd_sq_law {P Q R : Int} (hw : gd_wt P Q R) :
    (0 ≤ P + Q + R → gd_g (gd_sqn (gd_L0 P Q R) 12) 0 2 = P + Q) ∧ (P + Q + R < 0 → gd_g (gd_sqn (gd_L0 P Q R) 12) 0 2 < -140) := by
  have u := fun n => gd_up_sq hw (gd_up_n hw n)
  constructor
  · intro hs
    have a : gd_g (gd_sqn (gd_L0 P Q R) 12) 0 2 ≤ P + Q := (u 11).2
    have b : P + Q ≤ gd_g (gd_sqn (gd_L0 P Q R) 12) 0 2 := gd_dn_n hw hs 12 0 (by omega) 2 (by omega)
    omega
  · intro hs
    unfold gd_wt at hw
    have k1 : gd_g (gd_sqn (gd_L0 P Q R) 1) 0 2 ≤ P + Q := (u 0).2
    have k1' : gd_g (gd_sqn (gd_L0 P Q R) 1) 2 0 ≤ R := (u 0).1.2.2.2.2.2
    have k2 : gd_g (gd_sqn (gd_L0 P Q R) 2) 0 0 ≤ -1 := Int.le_trans (gd_e2 _ 0 0) (gd_sum_le k1 k1' (by omega) (by omega) (by omega) (by omega))
    have k3 : gd_g (gd_sqn (gd_L0 P Q R) 3) 0 0 ≤ -2 := gd_dd k2 (by omega) (by omega)
    have k4 : gd_g (gd_sqn (gd_L0 P Q R) 4) 0 0 ≤ -4 := gd_dd k3 (by omega) (by omega)
    have k5 : gd_g (gd_sqn (gd_L0 P Q R) 5) 0 0 ≤ -8 := gd_dd k4 (by omega) (by omega)
    have k6 : gd_g (gd_sqn (gd_L0 P Q R) 6) 0 0 ≤ -16 := gd_dd k5 (by omega) (by omega)
    have k7 : gd_g (gd_sqn (gd_L0 P Q R) 7) 0 0 ≤ -32 := gd_dd k6 (by omega) (by omega)
    have k8 : gd_g (gd_sqn (gd_L0 P Q R) 8) 0 0 ≤ -64 := gd_dd k7 (by omega) (by omega)
    have k9 : gd_g (gd_sqn (gd_L0 P Q R) 9) 0 0 ≤ -128 := gd_dd k8 (by omega) (by omega)
    have k10 : gd_g (gd_sqn (gd_L0 P Q R) 10) 0 0 ≤ -256 := gd_dd k9 (by omega) (by omega)
    have k11 : gd_g (gd_sqn (gd_L0 P Q R) 11) 0 0 ≤ -512 := gd_dd k10 (by omega) (by omega)
    have m11 : gd_g (gd_sqn (gd_L0 P Q R) 11) 0 2 ≤ P + Q := (u 10).2
    have f : gd_g (gd_sqn (gd_L0 P Q R) 12) 0 2 ≤ -472 := Int.le_trans (gd_e0 _ 0 2) (gd_sum_le k11 m11 (by omega) (by omega) (by omega) (by omega))
    omega
theorem gd_dbl {post : St2 → Prop} {P Q R : Int} {hs tp bt : Int32} {a4 a5 a6 a7 a8 a9 a10 a11 a12 a13 a14 a15 a16 a17 a18 a19 : Nat → Int32} (hw : gd_wt P Q R) (H : ∀ b4 b17 b18 : Nat → Int32, b4 2 = gd_fd P Q R 0 2 → post (7, hs, tp, bt, gd_a, gd_b, (gd_w P Q R), b4, a5, a6, a7, a8, a9, a10, a11, a12, a13, a14, a15, a16, b17, b18, a19)) : wpX_solveByDoubling post (7, hs, tp, bt, gd_a, gd_b, (gd_w P Q R), a4, a5, a6, a7, a8, a9, a10, a11, a12, a13, a14, a15, a16, a17, a18, a19) := by
  refine gd_fillT hw (fun b17 hb => gd_d6 (gd_K0 hw hb) (fun b4 c17 c18 hc h4 => H b4 c17 c18 ?_))
  have e : c17 2 = gd_z (gd_g (gd_sqn (gd_L0 P Q R) 12) 0 2) := hc.1 0 (by omega) 2 (by omega)
  have bb := gd_lb_at hc.2.1 0 2
  rw [gd_at_in (by omega) (by omega)] at bb
  have c : (-140 : Int32) ≤ c17 2 ↔ -140 ≤ gd_g (gd_sqn (gd_L0 P Q R) 12) 0 2 := by
    rw [e, show (-140 : Int32) = gd_z (-140) by decide, gd_zle (by omega) (by omega) (by omega) (by omega)]
  obtain ⟨l1, l2⟩ := gd_sq_law hw
  unfold gd_wt at hw
  rw [h4 2 (by omega), gd_fd]
  by_cases g : P + Q + R < 0
  · rw [if_pos g, if_neg (fun t => absurd (c.mp t) (by have := l2 g; omega))]
  · rw [if_neg g, if_pos (c.mpr (by rw [l1 (by omega)]; omega)), e, l1 (by omega)]
    rfl
end
section
/-- the weights by number -/
def gd_wi (P Q R : Int) (k : Nat) : Int := if k = 0 then P else if k = 1 then Q else R
theorem gd_w_wi {P Q R : Int} : ∀ k, k < 3 → gd_w P Q R k = gd_z (gd_wi P Q R k) := gd_3 rfl rfl rfl
theorem gd_wi_b {P Q R : Int} (hw : gd_wt P Q R) (k : Nat) : -20 ≤ gd_wi P Q R k ∧ gd_wi P Q R k ≤ 20 := by
  unfold gd_wt at hw
  unfold gd_wi
  (repeat' split) <;> omega
/-- what the walk of m arcs from s weighs -/
def gd_V (P Q R : Int) (s : Nat) : Nat → Int
  | 0 => 0
  | m + 1 => gd_V P Q R s m + gd_wi P Q R ((s + m) % 3)
theorem gd_wi_s (P Q R : Int) (n : Nat) : gd_wi P Q R (n % 3) + gd_wi P Q R ((n + 1) % 3) + gd_wi P Q R ((n + 2) % 3) = P + Q + R := by
  have c : n % 3 = 0 ∨ n % 3 = 1 ∨ n % 3 = 2 := by omega
  unfold gd_wi
  rcases c with c | c | c
  · rw [show (n + 1) % 3 = 1 by omega, show (n + 2) % 3 = 2 by omega, c]
    show P + Q + R = _
    omega
  · rw [show (n + 1) % 3 = 2 by omega, show (n + 2) % 3 = 0 by omega, c]
    show Q + R + P = _
    omega
  · rw [show (n + 1) % 3 = 0 by omega, show (n + 2) % 3 = 1 by omega, c]
    show R + P + Q = _
    omega
theorem gd_V3 (P Q R : Int) (s m : Nat) : gd_V P Q R s (m + 3) = gd_V P Q R s m + (P + Q + R) := by
  rw [gd_V, gd_V, gd_V, ← gd_wi_s P Q R (s + m), show s + (m + 1) = s + m + 1 by omega, show s + (m + 2) = s + m + 2 by omega]
  omega
theorem gd_V_b {P Q R : Int} (hw : gd_wt P Q R) (s m : Nat) : -(20 * (m : Int)) ≤ gd_V P Q R s m ∧ gd_V P Q R s m ≤ 20 * (m : Int) := by
  induction m with
  | zero =>
    show -(20 * ((0 : Nat) : Int)) ≤ 0 ∧ (0 : Int) ≤ 20 * ((0 : Nat) : Int)
    omega
  | succ m ih =>
    have := gd_wi_b hw ((s + m) % 3)
    rw [gd_V]
    omega
theorem gd_and7 {n : Nat} (h : n < 100) : nI n &&& 7 = nI (n % 8) := pk_andN (by omega) 3 (by decide)
theorem gd_f7 {f : Nat} (h : f < 8) : (nI f + 0) &&& 7 = nI f := by
  rw [show nI f + 0 = nI (f + 0) from nI_add f 0, Nat.add_zero, gd_and7 (by omega), Nat.mod_eq_of_lt h]
theorem gd_count {post : St2 → Prop} {P Q R : Int} {hs tp bt : Int32} {a4 a5 a6 a7 a8 a9 a10 a11 a12 a13 a14 a15 a16 a17 a18 a19 : Nat → Int32} {v t : Nat} (hv : v < 3) (ht : a8 v = nI t) (t7 : t ≤ 7) (ha : ∀ i, i < 7 → a7 i = 0)
    (H1 : t < 7 → post (7, hs, tp, bt, gd_a, gd_b, (gd_w P Q R), a4, a5, a6, a7, upd a8 v (nI (t + 1)), a9, a10, a11, a12, a13, a14, a15, a16, a17, a18, a19)) (H2 : t = 7 → ∀ b7 : Nat → Int32, (∀ i, i < 7 → b7 i = if i < 3 then 1 else 0) → post (7, hs, tp, bt, gd_a, gd_b, (gd_w P Q R), a4, a5, a6, b7, upd a8 v (nI (t + 1)), a9, a10, a11, a12, a13, a14, a15, a16, a17, a18, a19)) : wpX_countTime post (7, hs, tp, bt, gd_a, gd_b, (gd_w P Q R), a4, a5, a6, a7, a8, a9, a10, a11, a12, a13, a14, a15, a16, a17, a18, a19) (nI v) := by
  refine ⟨pk_in v 7 (by omega), pk_in v 7 (by omega), nm_r (e' := upd a8 v (nI (t + 1))) (by rw [nI_clamp (by omega), ht, nI_1, gd_byte (t + 1) (by omega)]) ⟨pk_in v 7 (by omega), ?_⟩⟩
  rw [nI_clamp (show v < 2 ^ 31 by omega), pk_us]
  exact pk_le (t + 1) 7 (fun z => H1 (by omega)) (fun z => gd_lower7 ((by decide : ∀ v, v < 3 → ¬ ((1 : Int32) <<< (nI v &&& 31)) = 0) v hv) ((by decide : ∀ v, v < 3 → gd_sy ((1 : Int32) <<< (nI v &&& 31)) 7 = 7) v hv) ha (fun b7 hb => H2 (by omega) b7 hb))

theorem gd_q_skip {post : St2 → Prop} {J : Int32 → Int32 → Int32 → Int32 → Int32 → Int32 → (Nat → Int32) → (Nat → Int32) → (Nat → Int32) → (Nat → Int32) → (Nat → Int32) → (Nat → Int32) → (Nat → Int32) → (Nat → Int32) → (Nat → Int32) → (Nat → Int32) → (Nat → Int32) → (Nat → Int32) → (Nat → Int32) → (Nat → Int32) → (Nat → Int32) → (Nat → Int32) → (Nat → Int32) → (Nat → Int32) → (Nat → Int32) → Prop} {P Q R : Int} {hs tp bt : Int32} {a4 a5 a6 a7 a8 a9 a10 a11 a12 a13 a14 a15 a16 a17 a18 a19 : Nat → Int32} {x1 f sz : Int32} {u k n : Nat} (hk : k < 20) (hu : u < 7) (c : k ≠ u ∨ 3 ≤ k)
    (h : wX_goByQueue_85 post J x1 f (nI u) n sz (nI (k + 1)) 7 hs tp bt gd_a gd_b (gd_w P Q R) a4 a5 a6 a7 a8 a9 a10 a11 a12 a13 a14 a15 a16 a17 a18 a19) : wX_goByQueue_85 post J x1 f (nI u) (n + 1) sz (nI k) 7 hs tp bt gd_a gd_b (gd_w P Q R) a4 a5 a6 a7 a8 a9 a10 a11 a12 a13 a14 a15 a16 a17 a18 a19 :=
  pk_le 20 k (fun z => absurd z (by omega)) (fun _ => ⟨pk_in k 20 hk, nm_e (by
    by_cases h3 : k < 3
    · refine gd_has1 h3 (br_f (by decide) ⟨pk_in k 20 hk, br_f ?_ (nm_r (nI_1 k) h)⟩)
      rw [nI_clamp (by omega), gd_a3 k h3]
      intro e
      exact absurd ((nI_eq (by omega) (by omega)).mp e) (by omega)
    · exact gd_has0 (by omega) hk (br_t rfl (nm_r (nI_1 k) h)))⟩)
theorem gd_q_tail {post : St2 → Prop} {J : Int32 → Int32 → Int32 → Int32 → Int32 → Int32 → (Nat → Int32) → (Nat → Int32) → (Nat → Int32) → (Nat → Int32) → (Nat → Int32) → (Nat → Int32) → (Nat → Int32) → (Nat → Int32) → (Nat → Int32) → (Nat → Int32) → (Nat → Int32) → (Nat → Int32) → (Nat → Int32) → (Nat → Int32) → (Nat → Int32) → (Nat → Int32) → (Nat → Int32) → (Nat → Int32) → (Nat → Int32) → Prop} {P Q R : Int} {hs tp bt : Int32} {a4 a5 a6 a7 a8 a9 a10 a11 a12 a13 a14 a15 a16 a17 a18 a19 : Nat → Int32} {x1 f sz : Int32} {u : Nat} (hu : u < 7) (h : J f sz 7 hs tp bt gd_a gd_b (gd_w P Q R) a4 a5 a6 a7 a8 a9 a10 a11 a12 a13 a14 a15 a16 a17 a18 a19) :
    ∀ d k, k + d = 20 → (u < k ∨ 3 ≤ u) → wX_goByQueue_85 post J x1 f (nI u) (d + 1) sz (nI k) 7 hs tp bt gd_a gd_b (gd_w P Q R) a4 a5 a6 a7 a8 a9 a10 a11 a12 a13 a14 a15 a16 a17 a18 a19 := by
  intro d
  induction d with
  | zero =>
    intro k hk _
    exact pk_le 20 k (fun _ => h) (fun z => absurd z (by omega))
  | succ d ih =>
    intro k hk c
    exact gd_q_skip (by omega) hu (by omega) (ih (k + 1) (by omega) (by omega))
theorem gd_q_to {post : St2 → Prop} {J : Int32 → Int32 → Int32 → Int32 → Int32 → Int32 → (Nat → Int32) → (Nat → Int32) → (Nat → Int32) → (Nat → Int32) → (Nat → Int32) → (Nat → Int32) → (Nat → Int32) → (Nat → Int32) → (Nat → Int32) → (Nat → Int32) → (Nat → Int32) → (Nat → Int32) → (Nat → Int32) → (Nat → Int32) → (Nat → Int32) → (Nat → Int32) → (Nat → Int32) → (Nat → Int32) → (Nat → Int32) → Prop} {P Q R : Int} {hs tp bt : Int32} {a4 a5 a6 a7 a8 a9 a10 a11 a12 a13 a14 a15 a16 a17 a18 a19 : Nat → Int32} {x1 f sz : Int32} {u n : Nat} (hu : u < 3) (h : wX_goByQueue_85 post J x1 f (nI u) n sz (nI u) 7 hs tp bt gd_a gd_b (gd_w P Q R) a4 a5 a6 a7 a8 a9 a10 a11 a12 a13 a14 a15 a16 a17 a18 a19) :
    wX_goByQueue_85 post J x1 f (nI u) (n + u) sz 0 7 hs tp bt gd_a gd_b (gd_w P Q R) a4 a5 a6 a7 a8 a9 a10 a11 a12 a13 a14 a15 a16 a17 a18 a19 := by
  have c : u = 0 ∨ u = 1 ∨ u = 2 := by omega
  rcases c with c | c | c
  · subst c
    exact h
  · subst c
    exact gd_q_skip (k := 0) (by omega) (by omega) (by omega) h
  · subst c
    exact gd_q_skip (k := 0) (by omega) (by omega) (by omega) (gd_q_skip (k := 1) (by omega) (by omega) (by omega) h)
theorem gd_q_low {post : St2 → Prop} {J : Int32 → Int32 → Int32 → Int32 → Int32 → Int32 → (Nat → Int32) → (Nat → Int32) → (Nat → Int32) → (Nat → Int32) → (Nat → Int32) → (Nat → Int32) → (Nat → Int32) → (Nat → Int32) → (Nat → Int32) → (Nat → Int32) → (Nat → Int32) → (Nat → Int32) → (Nat → Int32) → (Nat → Int32) → (Nat → Int32) → (Nat → Int32) → (Nat → Int32) → (Nat → Int32) → (Nat → Int32) → Prop} {P Q R : Int} {hs tp bt : Int32} {a4 a5 a6 a7 a8 a9 a10 a11 a12 a13 a14 a15 a16 a17 a18 a19 : Nat → Int32} {x1 f sz : Int32} {u n : Nat} (hu : u < 3) (ha : ¬ a7 u = 0)
    (h : wX_goByQueue_85 post J x1 f (nI u) n sz (nI (u + 1)) 7 hs tp bt gd_a gd_b (gd_w P Q R) a4 a5 a6 a7 a8 a9 a10 a11 a12 a13 a14 a15 a16 a17 a18 a19) : wX_goByQueue_85 post J x1 f (nI u) (n + 1) sz (nI u) 7 hs tp bt gd_a gd_b (gd_w P Q R) a4 a5 a6 a7 a8 a9 a10 a11 a12 a13 a14 a15 a16 a17 a18 a19 :=
  pk_le 20 u (fun z => absurd z (by omega)) (fun _ => ⟨pk_in u 20 (by omega), nm_e (gd_has1 hu (br_f (by decide) ⟨pk_in u 20 (by omega), br_t (by rw [nI_clamp (by omega), gd_a3 u hu]) ⟨pk_in u 7 (by omega), br_f (by rw [nI_clamp (by omega)]; exact ha) (nm_r (nI_1 u) h)⟩⟩))⟩)
theorem gd_q_act {post : St2 → Prop} {J : Int32 → Int32 → Int32 → Int32 → Int32 → Int32 → (Nat → Int32) → (Nat → Int32) → (Nat → Int32) → (Nat → Int32) → (Nat → Int32) → (Nat → Int32) → (Nat → Int32) → (Nat → Int32) → (Nat → Int32) → (Nat → Int32) → (Nat → Int32) → (Nat → Int32) → (Nat → Int32) → (Nat → Int32) → (Nat → Int32) → (Nat → Int32) → (Nat → Int32) → (Nat → Int32) → (Nat → Int32) → Prop} {P Q R : Int} {hs tp bt : Int32} {a4 a5 a6 a7 a8 a9 a10 a11 a12 a13 a14 a15 a16 a17 a18 a19 : Nat → Int32} {x1 : Int32} {f u v t n : Nat} (hu : u < 3) (hv : v = (u + 1) % 3) (hf : f < 8) (ha : ∀ i, i < 7 → a7 i = 0) (hq : a10 v = 0) (ht : a8 v = nI t) (t7 : t ≤ 7)
    (H0 : (1048576 ≤ a6 u ∨ a6 v ≤ a6 u + gd_w P Q R u) → wX_goByQueue_85 post J x1 (nI f) (nI u) n 0 (nI (u + 1)) 7 hs tp bt gd_a gd_b (gd_w P Q R) a4 a5 a6 a7 a8 a9 a10 a11 a12 a13 a14 a15 a16 a17 a18 a19)
    (H1 : ¬ 1048576 ≤ a6 u → ¬ a6 v ≤ a6 u + gd_w P Q R u → t < 7 → wX_goByQueue_85 post J x1 (nI f) (nI u) n 1 (nI (u + 1)) 7 hs tp bt gd_a gd_b (gd_w P Q R) a4 a5 (upd a6 v (a6 u + gd_w P Q R u)) a7 (upd a8 v (nI (t + 1))) (upd a9 f (nI v)) (upd a10 v 1) a11 a12 a13 a14 a15 a16 a17 a18 a19)
    (H2 : ¬ 1048576 ≤ a6 u → ¬ a6 v ≤ a6 u + gd_w P Q R u → t = 7 → ∀ b7 : Nat → Int32, (∀ i, i < 7 → b7 i = if i < 3 then 1 else 0) → wX_goByQueue_85 post J x1 (nI f) (nI u) n 1 (nI (u + 1)) 7 hs tp bt gd_a gd_b (gd_w P Q R) a4 a5 (upd a6 v (a6 u + gd_w P Q R u)) b7 (upd a8 v (nI (t + 1))) (upd a9 f (nI v)) (upd a10 v 1) a11 a12 a13 a14 a15 a16 a17 a18 a19) :
    wX_goByQueue_85 post J x1 (nI f) (nI u) (n + 1) 0 (nI u) 7 hs tp bt gd_a gd_b (gd_w P Q R) a4 a5 a6 a7 a8 a9 a10 a11 a12 a13 a14 a15 a16 a17 a18 a19 :=
  pk_le 20 u (fun z => absurd z (by omega)) (fun _ => ⟨pk_in u 20 (by omega), nm_r (e' := nI v) (by rw [nI_clamp (by omega), gd_b3 u hu, hv]) (gd_has1 hu (br_f (by decide) ⟨pk_in u 20 (by omega), br_t (by rw [nI_clamp (by omega), gd_a3 u hu]) ⟨pk_in u 7 (by omega), by
    rw [nI_clamp (show u < 2 ^ 31 by omega), nI_clamp (show v < 2 ^ 31 by omega), gd_f7 hf, nI_clamp (show f < 2 ^ 31 by omega)]
    exact br_t (ha u (by omega)) ⟨pk_in v 7 (by omega), br_t (ha v (by omega)) (gd_relax (i := u) (j := v) (by omega) (gd_a3 u hu) (by rw [gd_b3 u hu, hv]) (by omega) (by omega)
      (fun g g2 => br_f (by decide) ⟨pk_in v 7 (by omega), br_t hq ⟨pk_in f 8 hf, nm_r (e' := upd a9 f (nI v)) (by rw [gd_byte v (by omega)]) (nm_r (e' := 1) (by decide) ⟨pk_in v 7 (by omega), nm_e (gd_count (by omega) ht t7 ha (fun c => nm_r (nI_1 u) (H1 g g2 c)) (fun c b7 hb => nm_r (nI_1 u) (H2 g g2 c b7 hb)))⟩)⟩⟩)
      (fun g => br_t rfl (nm_r (nI_1 u) (H0 g))))⟩⟩⟩))⟩)
theorem gd_q_pop {post : St2 → Prop} {P Q R : Int} {hs tp bt : Int32} {a4 a5 a6 a7 a8 a9 a10 a11 a12 a13 a14 a15 a16 a17 a18 a19 : Nat → Int32} {x1 : Int32} {f u n : Nat} (hf : f < 8) (hu : u < 7) (h9 : a9 f = nI u)
    (h : ∃ m, wX_goByQueue_85 post (wX_goByQueue_52 post x1 n) x1 (nI ((f + 1) % 8)) (nI u) m 0 0 7 hs tp bt gd_a gd_b (gd_w P Q R) a4 a5 a6 a7 a8 a9 (upd a10 u 0) a11 a12 a13 a14 a15 a16 a17 a18 a19) : wX_goByQueue_52 post x1 (n + 1) (nI f) 1 7 hs tp bt gd_a gd_b (gd_w P Q R) a4 a5 a6 a7 a8 a9 a10 a11 a12 a13 a14 a15 a16 a17 a18 a19 :=
  br_f (by decide) ⟨pk_in f 8 hf, nm_r (e' := nI u) (by rw [nI_clamp (by omega), h9]) (nm_r (e' := nI ((f + 1) % 8)) (by rw [nI_1, gd_and7 (by omega)]) (nm_r (e' := 0) (by decide) ⟨pk_in u 7 hu, nm_r (e' := upd a10 u 0) (by rw [nI_clamp (by omega)]) h⟩))⟩
theorem gd_q_end {post : St2 → Prop} {P Q R : Int} {hs tp bt : Int32} {a4 a5 a6 a7 a8 a9 a10 a11 a12 a13 a14 a15 a16 a17 a18 a19 : Nat → Int32} {f : Int32} {s n : Nat} (h7 : s < 7)
    (H : ∀ b4 : Nat → Int32, (∀ t, t < 7 → b4 (s * 7 + t) = if a7 t = 0 then a6 t else (-4000)) → (∀ j, (j < s * 7 ∨ s * 7 + 7 ≤ j) → b4 j = a4 j) → post (7, hs, tp, bt, gd_a, gd_b, (gd_w P Q R), b4, a5, a6, a7, a8, a9, a10, a11, a12, a13, a14, a15, a16, a17, a18, a19)) :
    wX_goByQueue_52 post (nI s) (n + 1) f 0 7 hs tp bt gd_a gd_b (gd_w P Q R) a4 a5 a6 a7 a8 a9 a10 a11 a12 a13 a14 a15 a16 a17 a18 a19 := br_t (by decide) (gd_write h7 H)

/-- the state of the queue behind m points -/
def gd_Qi (P Q R : Int) (s m : Nat) (a6 a7 a8 a9 a10 : Nat → Int32) : Prop :=
  a9 (m % 8) = nI ((s + m) % 3) ∧ a6 ((s + m) % 3) = gd_z (gd_V P Q R s m) ∧ a6 ((s + m + 1) % 3) = gd_z (if 2 ≤ m then gd_V P Q R s (m - 2) else 1048576) ∧ a6 ((s + m + 2) % 3) = gd_z (if 1 ≤ m then gd_V P Q R s (m - 1) else 1048576)
  ∧ (∀ i, i < 7 → a7 i = 0) ∧ a8 ((s + m) % 3) = nI ((m + 2) / 3) ∧ a8 ((s + m + 1) % 3) = nI (m / 3) ∧ a8 ((s + m + 2) % 3) = nI ((m + 1) / 3) ∧ (∀ i, i < 3 → i ≠ (s + m) % 3 → a10 i = 0)
/-- one step of it -/
theorem gd_Qi_s {P Q R : Int} {s m : Nat} {a6 a7 a8 a9 a10 : Nat → Int32} (h : gd_Qi P Q R s m a6 a7 a8 a9 a10) :
    gd_Qi P Q R s (m + 1) (upd a6 ((s + m + 1) % 3) (a6 ((s + m) % 3) + gd_w P Q R ((s + m) % 3))) a7 (upd a8 ((s + m + 1) % 3) (nI (m / 3 + 1))) (upd a9 ((m % 8 + 1) % 8) (nI ((s + m + 1) % 3))) (upd (upd a10 ((s + m) % 3) 0) ((s + m + 1) % 3) 1) := by
  obtain ⟨h1, h2, h3, h4, h5, h6, h7, h8, h9⟩ := h
  refine ⟨?_, ?_, ?_, ?_, h5, ?_, ?_, ?_, ?_⟩
  · rw [show (m + 1) % 8 = (m % 8 + 1) % 8 by omega, pk_us, show s + (m + 1) = s + m + 1 by omega]
  · rw [show s + (m + 1) = s + m + 1 by omega, pk_us, h2, gd_w_wi _ (by omega), gd_za, gd_V]
  · rw [show s + (m + 1) + 1 = s + m + 2 by omega, pk_un (by omega), h4]
    by_cases c : 1 ≤ m
    · rw [if_pos c, if_pos (by omega), show m + 1 - 2 = m - 1 by omega]
    · rw [if_neg c, if_neg (by omega)]
  · rw [show (s + (m + 1) + 2) % 3 = (s + m) % 3 by omega, pk_un (by omega), h2, if_pos (by omega)]
    rfl
  · rw [show s + (m + 1) = s + m + 1 by omega, pk_us, show (m + 1 + 2) / 3 = m / 3 + 1 by omega]
  · rw [show s + (m + 1) + 1 = s + m + 2 by omega, pk_un (by omega), h8]
  · rw [show (s + (m + 1) + 2) % 3 = (s + m) % 3 by omega, pk_un (by omega), h6]
  · intro i hi c
    rw [show s + (m + 1) = s + m + 1 by omega] at c
    rw [pk_un c]
    by_cases e : i = (s + m) % 3
    · rw [e, pk_us]
    · rw [pk_un e, h9 i hi e]
theorem gd_q_run {post : St2 → Prop} {P Q R : Int} {hs tp bt : Int32} {a4 a5 a11 a12 a13 a14 a15 a16 a17 a18 a19 : Nat → Int32} {s : Nat} (h3 : s < 3) (hw : gd_wt P Q R)
    (H : ∀ b4 b6 b7 b8 b9 b10 : Nat → Int32, gd_row P Q R s a4 b4 → post (7, hs, tp, bt, gd_a, gd_b, (gd_w P Q R), b4, a5, b6, b7, b8, b9, b10, a11, a12, a13, a14, a15, a16, a17, a18, a19)) :
    ∀ r m, m + r = 22 → 1 ≤ r → (0 ≤ P + Q + R → m ≤ 2) → ∀ a6 a7 a8 a9 a10 : Nat → Int32, gd_Qi P Q R s m a6 a7 a8 a9 a10 → wX_goByQueue_52 post (nI s) (r + 2) (nI (m % 8)) 1 7 hs tp bt gd_a gd_b (gd_w P Q R) a4 a5 a6 a7 a8 a9 a10 a11 a12 a13 a14 a15 a16 a17 a18 a19 := by
  intro r
  induction r with
  | zero => exact fun m _ h => absurd h (by omega)
  | succ r ih =>
    intro m hm _ hS a6 a7 a8 a9 a10 hQ
    have hQ' := hQ
    obtain ⟨h1, h2, hv3, h4, h5, h6, h7, h8, h9⟩ := hQ
    have bV := gd_V_b hw s
    have hu : (s + m) % 3 < 3 := by omega
    have ew : gd_w P Q R ((s + m) % 3) = gd_z (gd_wi P Q R ((s + m) % 3)) := gd_w_wi _ hu
    have bw := gd_wi_b hw ((s + m) % 3)
    have bVm := bV m
    have cmp : (¬ 1048576 ≤ a6 ((s + m) % 3) ∧ ¬ a6 ((s + m + 1) % 3) ≤ a6 ((s + m) % 3) + gd_w P Q R ((s + m) % 3)) ↔ (m < 2 ∨ P + Q + R < 0) := by
      by_cases c : 2 ≤ m
      · have e3 := gd_V3 P Q R s (m - 2)
        rw [show m - 2 + 3 = m + 1 by omega, gd_V] at e3
        have bV2 := bV (m - 2)
        rw [if_pos c] at hv3
        rw [gd_cmp h2 hv3 ew (by unfold gd_bd; omega) (by unfold gd_bd; omega) (by omega)]
        omega
      · rw [if_neg c] at hv3
        rw [gd_cmp h2 hv3 ew (by unfold gd_bd; omega) (by unfold gd_bd; omega) (by omega)]
        omega
    refine gd_q_pop (by omega) (show (s + m) % 3 < 7 by omega) h1 ⟨(19 - (s + m) % 3) + 1 + 1 + (s + m) % 3, gd_q_to hu (gd_q_act (v := (s + m + 1) % 3) (t := m / 3) hu (by omega) (by omega) h5 ?_ h7 (by omega) ?_ ?_ ?_)⟩
    · rw [pk_un (by omega)]
      exact h9 _ (by omega) (by omega)
    · intro g
      have c : ¬ (m < 2 ∨ P + Q + R < 0) := fun t => by
        obtain ⟨g1, g2⟩ := cmp.mpr t
        exact g.elim g1 g2
      have m2 : m = 2 := by have := hS (by omega); omega
      subst m2
      refine gd_q_tail (by omega) (gd_q_end (by omega) (fun b4 k1 k2 => H b4 _ _ _ _ _ ⟨fun _ t ht => ?_, k2⟩)) _ _ (by omega) (by omega)
      rw [k1 t (by omega), h5 t (by omega), if_pos rfl, gd_fd, if_neg (by omega)]
      clear ih
      have cs : s = 0 ∨ s = 1 ∨ s = 2 := by omega
      rcases cs with cs | cs | cs
      · subst cs
        refine gd_3 (p := fun t => a6 t = gd_z (gd_D P Q R 0 t)) hv3 (h4.trans ?_) (h2.trans ?_) t ht
        · show gd_z (0 + P) = gd_z P
          rw [Int.zero_add]
        · show gd_z (0 + P + Q) = gd_z (P + Q)
          rw [Int.zero_add]
      · subst cs
        refine gd_3 (p := fun t => a6 t = gd_z (gd_D P Q R 1 t)) (h2.trans ?_) hv3 (h4.trans ?_) t ht
        · show gd_z (0 + Q + R) = gd_z (Q + R)
          rw [Int.zero_add]
        · show gd_z (0 + Q) = gd_z Q
          rw [Int.zero_add]
      · subst cs
        refine gd_3 (p := fun t => a6 t = gd_z (gd_D P Q R 2 t)) (h4.trans ?_) (h2.trans ?_) hv3 t ht
        · show gd_z (0 + R) = gd_z R
          rw [Int.zero_add]
        · show gd_z (0 + R + P) = gd_z (R + P)
          rw [Int.zero_add]
    · intro g1 g2 ht
      have c := cmp.mp ⟨g1, g2⟩
      refine gd_q_tail (by omega) ?_ _ _ (by omega) (by omega)
      rw [show (m % 8 + 1) % 8 = (m + 1) % 8 by omega]
      have hQ2 := gd_Qi_s hQ'
      rw [show (m % 8 + 1) % 8 = (m + 1) % 8 by omega] at hQ2
      exact ih (m + 1) (by omega) (by omega) (by omega) _ _ _ _ _ hQ2
    · intro g1 g2 ht b7 hb
      have r0 : r = 0 := by omega
      have hneg : P + Q + R < 0 := by omega
      subst r0
      refine gd_q_tail (by omega) ?_ _ _ (by omega) (by omega)
      refine gd_q_pop (u := (s + m + 1) % 3) (by omega) (by omega) pk_us ⟨(19 - (s + m + 1) % 3) + 1 + 1 + (s + m + 1) % 3, gd_q_to (by omega) (gd_q_low (by omega) ?_ (gd_q_tail (by omega) (gd_q_end (by omega) (fun b4 k1 k2 => H b4 _ _ _ _ _ ⟨fun _ t ht => ?_, k2⟩)) _ _ (by omega) (by omega)))⟩
      · rw [hb _ (by omega), if_pos (by omega)]
        decide
      · rw [k1 t (by omega), hb t (by omega), if_pos ht, if_neg (by decide), gd_fd, if_pos hneg]
theorem gd_queue {post : St2 → Prop} {P Q R : Int} {hs tp bt : Int32} {a4 a5 a6 a7 a8 a9 a10 a11 a12 a13 a14 a15 a16 a17 a18 a19 : Nat → Int32} {s : Nat} (h7 : s < 7) (hw : gd_wt P Q R)
    (H : ∀ b4 b6 b7 b8 b9 b10 : Nat → Int32, gd_row P Q R s a4 b4 → post (7, hs, tp, bt, gd_a, gd_b, (gd_w P Q R), b4, a5, b6, b7, b8, b9, b10, a11, a12, a13, a14, a15, a16, a17, a18, a19)) : wpX_goByQueue post (7, hs, tp, bt, gd_a, gd_b, (gd_w P Q R), a4, a5, a6, a7, a8, a9, a10, a11, a12, a13, a14, a15, a16, a17, a18, a19) (nI s) := by
  refine gd_start h7 (fun b6 b7 h6 hb7 => ?_)
  refine pk_loop (fun n i (u : (Nat → Int32) × (Nat → Int32)) => wX_goByQueue_7 post (nI s) 7 hs tp bt n (nI i) gd_a gd_b (gd_w P Q R) a4 a5 b6 b7 u.1 a9 u.2 a11 a12 a13 a14 a15 a16 a17 a18 a19) (fun i u => (∀ j, j < i → u.1 j = 0) ∧ (∀ j, j < i → u.2 j = 0)) 7 0 (a8, a10) (by omega) ⟨fun j h => absurd h (by omega), fun j h => absurd h (by omega)⟩ ?_ ?_
  · intro n u hu
    refine pk_le 7 7 (fun _ => nm_r (e' := upd a9 0 (nI s)) (by rw [gd_byte s (by omega)]) ⟨pk_in s 7 h7, nm_r (e' := upd u.2 s 1) (by rw [nI_clamp (by omega)]) ?_⟩) (fun z => absurd z (by omega))
    by_cases h3 : s < 3
    · refine ⟨22 + 2, gd_q_run h3 hw H 22 0 (by omega) (by omega) (by omega) _ _ _ _ _ ⟨?_, ?_, ?_, ?_, hb7, ?_, ?_, ?_, ?_⟩⟩
      · show upd a9 0 (nI s) 0 = _
        rw [pk_us, show (s + 0) % 3 = s by omega]
      · rw [show (s + 0) % 3 = s by omega, h6 s h7, if_pos rfl]
        exact gd_z0
      · rw [h6 _ (by omega), if_neg (by omega)]
        exact gd_far
      · rw [h6 _ (by omega), if_neg (by omega)]
        exact gd_far
      · rw [hu.1 _ (by omega)]
        rfl
      · rw [hu.1 _ (by omega)]
        rfl
      · rw [hu.1 _ (by omega)]
        rfl
      · intro i hi c
        rw [pk_un (by omega), hu.2 i (by omega)]
    · refine ⟨1 + 1, gd_q_pop (f := 0) (u := s) (by omega) h7 pk_us ⟨20 + 1, gd_q_tail h7 (gd_q_end h7 (fun b4 k1 k2 => H b4 _ _ _ _ _ ⟨fun t => absurd t h3, k2⟩)) 20 0 (by omega) (by omega)⟩⟩
  · intro n i u hi hu hw'
    exact pk_le 7 i (fun z => absurd z (by omega)) (fun _ => ⟨pk_in i 7 hi, nm_e ⟨pk_in i 7 hi, nm_e (nm_r (nI_1 i) (hw' (_, _) ⟨gd_fill (f := fun _ => 0) (nI_clamp (by omega)) hu.1 rfl, gd_fill (f := fun _ => 0) (nI_clamp (by omega)) hu.2 rfl⟩))⟩⟩)
end
section
/-- the groups -/
def gd_gp (i : Nat) : Nat := if i < 3 then 0 else i
theorem gd_gp7 {i : Nat} (h : i < 7) : gd_gp i < 7 := by
  unfold gd_gp
  split <;> omega
theorem gd_sbit : ∀ p, p < 7 → ∀ q, q < 7 → (((gd_sy ((1 : Int32) <<< (nI p &&& 31)) 7 >>> (nI q &&& 31)) &&& 1) = 0 ↔ ¬ ((p < 3 ∧ q < 3) ∨ p = q)) := by decide +kernel
theorem gd_narb {g : Nat} (h : g < 128) : vp_nar .byte (nI g) = nI g := by
  rw [vp_nar_byte, gd_byte g h]
/-- a14 while point p looks at q -/
def gd_Gq (p q : Nat) (a : Nat → Int32) : Prop := (∀ i, i < p → a i = nI (gd_gp i)) ∧ (∀ i, p < i → i < 7 → a i = nI i) ∧ a p = nI (if 0 < q ∧ p < 3 then 0 else p)
theorem gd_g54 {post : St2 → Prop} {J : Int32 → (Nat → Int32) → (Nat → Int32) → (Nat → Int32) → (Nat → Int32) → (Nat → Int32) → (Nat → Int32) → (Nat → Int32) → (Nat → Int32) → (Nat → Int32) → (Nat → Int32) → (Nat → Int32) → (Nat → Int32) → (Nat → Int32) → (Nat → Int32) → (Nat → Int32) → (Nat → Int32) → (Nat → Int32) → (Nat → Int32) → (Nat → Int32) → Prop} {P Q R : Int} {hs tp bt : Int32} {a4 a5 a6 a7 a8 a9 a10 a11 a12 a13 a14 a15 a16 a17 a18 a19 : Nat → Int32} {p : Nat} (hp : p < 7) (h : gd_Gq p 0 a14) (H : ∀ b14 : Nat → Int32, gd_Gq p p b14 → J (nI (p + 1)) gd_a gd_b (gd_w P Q R) a4 a5 a6 a7 a8 a9 a10 a11 a12 a13 b14 a15 a16 a17 a18 a19) :
    ∃ n, wX_findGroups_54 post J (nI p) (gd_sy ((1 : Int32) <<< (nI p &&& 31)) 7) 7 hs tp bt n 0 gd_a gd_b (gd_w P Q R) a4 a5 a6 a7 a8 a9 a10 a11 a12 a13 a14 a15 a16 a17 a18 a19 :=
  pk_loop (fun n q (u : Nat → Int32) => wX_findGroups_54 post J (nI p) (gd_sy ((1 : Int32) <<< (nI p &&& 31)) 7) 7 hs tp bt n (nI q) gd_a gd_b (gd_w P Q R) a4 a5 a6 a7 a8 a9 a10 a11 a12 a13 u a15 a16 a17 a18 a19) (fun q u => gd_Gq p q u) p 0 a14 (by omega) h
    (fun n u hu => pk_le p p (fun _ => nm_r (nI_1 p) (H u hu)) (fun z => absurd z (by omega)))
    (fun n q u hq hu hw => pk_le p q (fun z => absurd z (by omega)) (fun _ => by
      have g7 : (if 0 < q ∧ p < 3 then 0 else p) < 128 := by split <;> omega
      have no : ¬ (p < 3 ∧ q < 3) → wX_findGroups_86 post J (wX_findGroups_54 post J (nI p) (gd_sy ((1 : Int32) <<< (nI p &&& 31)) 7) 7 hs tp bt n) (nI p) (gd_sy ((1 : Int32) <<< (nI p &&& 31)) 7) (nI q) 0 7 hs tp bt gd_a gd_b (gd_w P Q R) a4 a5 a6 a7 a8 a9 a10 a11 a12 a13 u a15 a16 a17 a18 a19 := fun c =>
        br_t rfl ⟨pk_in p 7 hp, pk_in p 7 hp, nm_r (e' := u) (by rw [nI_clamp (by omega), hu.2.2, gd_narb g7, ← hu.2.2, gd_us]) (nm_r (nI_1 q) (hw _ ⟨hu.1, hu.2.1, by rw [hu.2.2]; congr 1; split <;> split <;> omega⟩))⟩
      refine br_c (fun g => no (fun c => absurd g (fun t => ((gd_sbit p hp q (by omega)).mp t) (Or.inl c)))) (fun g => gd_spread (br_c (fun g2 => no (fun c => absurd g2 (fun t => ((gd_sbit q (by omega) p hp).mp t) (Or.inl ⟨c.2, c.1⟩)))) (fun g2 => ?_)))
      have c : p < 3 ∧ q < 3 := Classical.byContradiction (fun c => g ((gd_sbit p hp q (by omega)).mpr (fun t => t.elim c (by omega))))
      refine br_f (by decide) ⟨pk_in p 7 hp, ?_⟩
      rw [nI_clamp (show p < 2 ^ 31 by omega), nI_clamp (show q < 2 ^ 31 by omega)]
      refine br_c (fun e => ⟨pk_in q 7 (by omega), pk_in p 7 hp, nm_r (e' := upd u p (nI 0)) (by rw [hu.1 q hq, gd_gp, if_pos c.2, gd_narb (by omega)]) (nm_r (nI_1 q) (hw _ ⟨fun i hi => ?_, fun i hi hi' => ?_, ?_⟩))⟩)
        (fun e => ⟨pk_in p 7 hp, pk_in p 7 hp, nm_r (e' := u) (by rw [hu.2.2, gd_narb g7, ← hu.2.2, gd_us]) (nm_r (nI_1 q) (hw _ ⟨hu.1, hu.2.1, ?_⟩))⟩)
      · rw [pk_un (by omega), hu.1 i hi]
      · rw [pk_un (by omega), hu.2.1 i hi hi']
      · rw [pk_us, if_pos ⟨by omega, c.1⟩]
      · rw [hu.2.2]
        by_cases q0 : 0 < q
        · rw [if_pos ⟨q0, c.1⟩, if_pos ⟨by omega, c.1⟩]
        · refine absurd ?_ e
          rw [hu.2.2, if_neg (fun t => q0 t.1)]))
theorem gd_g38 {post : St2 → Prop} {P Q R : Int} {hs tp bt : Int32} {a4 a5 a6 a7 a8 a9 a10 a11 a12 a13 a14 a15 a16 a17 a18 a19 : Nat → Int32} (h : ∀ i, i < 7 → a14 i = nI i) (H : ∀ b14 : Nat → Int32, (∀ i, i < 7 → b14 i = nI (gd_gp i)) → ∃ n, wX_findGroups_138 post 7 hs tp bt n 0 gd_a gd_b (gd_w P Q R) a4 a5 a6 a7 a8 a9 a10 a11 a12 a13 b14 a15 a16 a17 a18 a19) : ∃ n, wX_findGroups_38 post 7 hs tp bt n 0 gd_a gd_b (gd_w P Q R) a4 a5 a6 a7 a8 a9 a10 a11 a12 a13 a14 a15 a16 a17 a18 a19 :=
  pk_loop (fun n p (u : Nat → Int32) => wX_findGroups_38 post 7 hs tp bt n (nI p) gd_a gd_b (gd_w P Q R) a4 a5 a6 a7 a8 a9 a10 a11 a12 a13 u a15 a16 a17 a18 a19) (fun p u => (∀ i, i < p → u i = nI (gd_gp i)) ∧ (∀ i, p ≤ i → i < 7 → u i = nI i)) 7 0 a14 (by omega) ⟨fun j h => absurd h (by omega), fun i _ hi => h i hi⟩
    (fun n u hu => pk_le 7 7 (fun _ => H u hu.1) (fun z => absurd z (by omega)))
    (fun n p u hp hu hw => pk_le 7 p (fun z => absurd z (by omega)) (fun _ => gd_spread (gd_g54 hp ⟨hu.1, fun i hi hi' => hu.2 i (by omega) hi', by rw [hu.2 p (by omega) hp, if_neg (by omega)]⟩ (fun b14 hb => hw b14 ⟨fun i hi => by
        by_cases e : i = p
        · rw [e, hb.2.2, gd_gp]
          congr 1
          split <;> split <;> omega
        · exact hb.1 i (by omega), fun i hi hi' => hb.2.1 i (by omega) hi'⟩))))
/-- prices: one arc; all arcs; the rounds; whether one got better -/
def gd_pl (P Q R : Int) (a : Nat → Int32) (k : Nat) : Nat → Int32 := if a ((k + 1) % 3) ≤ a k + gd_w P Q R k then a else upd a ((k + 1) % 3) (a k + gd_w P Q R k)
def gd_pk (P Q R : Int) (a : Nat → Int32) : Nat → (Nat → Int32)
  | 0 => a
  | k + 1 => if k < 3 then gd_pl P Q R (gd_pk P Q R a k) k else gd_pk P Q R a k
def gd_pr (P Q R : Int) (a : Nat → Int32) : Nat → (Nat → Int32)
  | 0 => a
  | n + 1 => gd_pk P Q R (gd_pr P Q R a n) 20
def gd_pi (P Q R : Int) (a : Nat → Int32) : Nat → Prop
  | 0 => False
  | k + 1 => gd_pi P Q R a k ∨ (k < 3 ∧ ¬ gd_pk P Q R a k ((k + 1) % 3) ≤ gd_pk P Q R a k k + gd_w P Q R k)
def gd_B (r : Nat) (p : Prop) (b : Nat → Int32) : Prop := (∀ i, 1 ≤ i → i < 7 → b i = 0) ∧ ((r = 7 ∧ p) → b 0 = 1) ∧ (¬ (r = 7 ∧ p) → b 0 = 0)
theorem gd_B_up {r : Nat} {b : Nat → Int32} {x : Int32} (h : ∀ i, 1 ≤ i → i < 7 → b i = 0) : ∀ i, 1 ≤ i → i < 7 → upd b 0 x i = 0 := fun i h1 h7 => by
  rw [pk_un (by omega), h i h1 h7]
theorem gd_g146 {post : St2 → Prop} {J : Int32 → (Nat → Int32) → (Nat → Int32) → (Nat → Int32) → (Nat → Int32) → (Nat → Int32) → (Nat → Int32) → (Nat → Int32) → (Nat → Int32) → (Nat → Int32) → (Nat → Int32) → (Nat → Int32) → (Nat → Int32) → (Nat → Int32) → (Nat → Int32) → (Nat → Int32) → (Nat → Int32) → (Nat → Int32) → (Nat → Int32) → (Nat → Int32) → Prop} {P Q R : Int} {hs tp bt : Int32} {a4 a5 a6 a7 a8 a9 a10 a11 a12 a13 a14 a15 a16 a17 a18 a19 : Nat → Int32} {r : Nat} (hr : r < 8) (hg : ∀ i, i < 7 → a14 i = nI (gd_gp i)) (h0 : ∀ i, i < 7 → a15 i = 0)
    (H : ∀ b15 : Nat → Int32, gd_B r (gd_pi P Q R a11 20) b15 → J (nI (r + 1)) gd_a gd_b (gd_w P Q R) a4 a5 a6 a7 a8 a9 a10 (gd_pk P Q R a11 20) a12 a13 a14 b15 a16 a17 a18 a19) : ∃ n, wX_findGroups_146 post J (nI r) 7 hs tp bt n 0 gd_a gd_b (gd_w P Q R) a4 a5 a6 a7 a8 a9 a10 a11 a12 a13 a14 a15 a16 a17 a18 a19 :=
  pk_loop (fun n k (u : (Nat → Int32) × (Nat → Int32)) => wX_findGroups_146 post J (nI r) 7 hs tp bt n (nI k) gd_a gd_b (gd_w P Q R) a4 a5 a6 a7 a8 a9 a10 u.1 a12 a13 a14 u.2 a16 a17 a18 a19) (fun k u => u.1 = gd_pk P Q R a11 k ∧ gd_B r (gd_pi P Q R a11 k) u.2) 20 0 (a11, a15) (by omega) ⟨rfl, fun i _ h7 => h0 i h7, fun t => absurd t.2 (fun z => z), fun _ => h0 0 (by omega)⟩
    (fun n u hu => pk_le 20 20 (fun _ => nm_r (nI_1 r) (by rw [hu.1]; exact H u.2 hu.2)) (fun z => absurd z (by omega)))
    (fun n k u hk hu hw => pk_le 20 k (fun z => absurd z (by omega)) (fun _ => by
      obtain ⟨u1, B1, B2, B3⟩ := hu
      by_cases h3 : k < 3
      · have v3 : (k + 1) % 3 < 3 := by omega
        have ga : a14 k = nI 0 := by rw [hg k (by omega), gd_gp, if_pos h3]
        have gb : a14 ((k + 1) % 3) = nI 0 := by rw [hg _ (by omega), gd_gp, if_pos v3]
        refine gd_has1 h3 (br_f (by decide) ?_)
        rw [nI_clamp (show k < 2 ^ 31 by omega), gd_a3 k h3, gd_b3 k h3, nI_clamp (show k < 2 ^ 31 by omega), nI_clamp (show (k + 1) % 3 < 2 ^ 31 by omega), ga, gb]
        refine ⟨pk_in k 20 hk, pk_in k 7 (by omega), pk_in k 20 hk, pk_in ((k + 1) % 3) 7 (by omega), br_t rfl (br_f (by decide) ?_)⟩
        rw [nI_clamp (show k < 2 ^ 31 by omega), gd_a3 k h3, gd_b3 k h3, nI_clamp (show k < 2 ^ 31 by omega), nI_clamp (show (k + 1) % 3 < 2 ^ 31 by omega), gb, nI_clamp (show 0 < 2 ^ 31 by omega)]
        have pw : ∀ g : u.1 ((k + 1) % 3) ≤ u.1 k + gd_w P Q R k, u.1 = gd_pk P Q R a11 (k + 1) := fun g => by rw [gd_pk, if_pos h3, ← u1, gd_pl, if_pos g]
        have pn : ∀ g : ¬ u.1 ((k + 1) % 3) ≤ u.1 k + gd_w P Q R k, upd u.1 ((k + 1) % 3) (u.1 k + gd_w P Q R k) = gd_pk P Q R a11 (k + 1) := fun g => by rw [gd_pk, if_pos h3, ← u1, gd_pl, if_neg g]
        have iw : ∀ g : u.1 ((k + 1) % 3) ≤ u.1 k + gd_w P Q R k, (gd_pi P Q R a11 (k + 1) ↔ gd_pi P Q R a11 k) := fun g => by
          rw [gd_pi, ← u1]
          exact ⟨fun t => t.elim id (fun t => absurd g t.2), Or.inl⟩
        have iN : ∀ g : ¬ u.1 ((k + 1) % 3) ≤ u.1 k + gd_w P Q R k, gd_pi P Q R a11 (k + 1) := fun g => by
          rw [gd_pi, ← u1]
          exact Or.inr ⟨h3, g⟩
        refine ⟨pk_in k 20 hk, pk_in k 7 (by omega), pk_in k 20 hk, pk_in k 20 hk, pk_in ((k + 1) % 3) 7 (by omega), br_c (fun g => nm_r (nI_1 k) (hw u ⟨pw g, B1, fun t => B2 ⟨t.1, (iw g).mp t.2⟩, fun t => B3 (fun q => t ⟨q.1, (iw g).mpr q.2⟩)⟩))
          (fun g => ⟨pk_in k 20 hk, pk_in k 20 hk, pk_in k 7 (by omega), pk_in k 20 hk, pk_in ((k + 1) % 3) 7 (by omega), nm_e ⟨pk_in k 20 hk, pk_in ((k + 1) % 3) 7 (by omega), pk_in k 20 hk, pk_in ((k + 1) % 3) 7 (by omega), pk_in 0 7 (by omega), ?_⟩⟩)⟩
        have fin : ∀ x : Int32, (r = 7 → x = 1) → (¬ r = 7 → x = 0) → wX_findGroups_146 post J (nI r) 7 hs tp bt n (nI (k + 1)) gd_a gd_b (gd_w P Q R) a4 a5 a6 a7 a8 a9 a10 (upd u.1 ((k + 1) % 3) (u.1 k + gd_w P Q R k)) a12 a13 a14 (upd u.2 0 x) a16 a17 a18 a19 := fun x x1 x0 =>
          hw (upd u.1 ((k + 1) % 3) (u.1 k + gd_w P Q R k), upd u.2 0 x) ⟨pn g, gd_B_up (r := r) B1, fun t => (pk_us (f := u.2) (k := 0) (x := x)).trans (x1 t.1), fun t => (pk_us (f := u.2) (k := 0) (x := x)).trans (x0 (fun q => t ⟨q, iN g⟩))⟩
        refine br_c (fun c => pk_eq r 7 (fun e => ⟨pk_in 0 7 (by omega), nm_e (nm_r (nI_1 k) (fin 1 (fun _ => rfl) (fun q => absurd e q)))⟩) (fun e => ⟨pk_in 0 7 (by omega), nm_e (nm_r (nI_1 k) (fin 0 (fun q => absurd q e) (fun _ => rfl)))⟩))
          (fun c => ⟨pk_in 0 7 (by omega), nm_e (nm_r (nI_1 k) (fin 1 (fun _ => rfl) (fun q => absurd (B3 (fun t => q t.1)) c)))⟩)
      · have iw : gd_pi P Q R a11 (k + 1) ↔ gd_pi P Q R a11 k := by
          rw [gd_pi]
          exact ⟨fun t => t.elim id (fun t => absurd t.1 h3), Or.inl⟩
        exact gd_has0 (by omega) hk (br_t rfl (br_t rfl (nm_r (nI_1 k) (hw u ⟨by rw [gd_pk, if_neg h3, ← u1], B1, fun t => B2 ⟨t.1, iw.mp t.2⟩, fun t => B3 (fun q => t ⟨q.1, iw.mpr q.2⟩)⟩))))))
theorem gd_g138 {post : St2 → Prop} {P Q R : Int} {hs tp bt : Int32} {a4 a5 a6 a7 a8 a9 a10 a11 a12 a13 a14 a15 a16 a17 a18 a19 : Nat → Int32} (hg : ∀ i, i < 7 → a14 i = nI (gd_gp i)) (h0 : ∀ i, i < 7 → a15 i = 0)
    (H : ∀ b11 b15 : Nat → Int32, gd_B 7 (gd_pi P Q R (gd_pr P Q R a11 7) 20) b15 → post (7, hs, tp, bt, gd_a, gd_b, (gd_w P Q R), a4, a5, a6, a7, a8, a9, a10, b11, a12, a13, a14, b15, a16, a17, a18, a19)) : ∃ n, wX_findGroups_138 post 7 hs tp bt n 0 gd_a gd_b (gd_w P Q R) a4 a5 a6 a7 a8 a9 a10 a11 a12 a13 a14 a15 a16 a17 a18 a19 :=
  pk_loop (fun n r (u : (Nat → Int32) × (Nat → Int32)) => wX_findGroups_138 post 7 hs tp bt n (nI r) gd_a gd_b (gd_w P Q R) a4 a5 a6 a7 a8 a9 a10 u.1 a12 a13 a14 u.2 a16 a17 a18 a19)
    (fun r u => u.1 = gd_pr P Q R a11 r ∧ (r ≤ 7 → ∀ i, i < 7 → u.2 i = 0) ∧ (r = 8 → gd_B 7 (gd_pi P Q R (gd_pr P Q R a11 7) 20) u.2)) 8 0 (a11, a15) (by omega) ⟨rfl, fun _ => h0, fun t => absurd t (by omega)⟩
    (fun n u hu => pk_lt 7 8 (fun _ => H u.1 u.2 (hu.2.2 rfl)) (fun z => absurd z (by omega)))
    (fun n r u hr hu hw => pk_lt 7 r (fun z => absurd z (by omega)) (fun _ => gd_g146 hr hg (hu.2.1 (by omega)) (fun b15 hb => hw (_, b15) ⟨by rw [hu.1]; rfl, fun c i hi => by
        by_cases e : i = 0
        · rw [e]
          exact hb.2.2 (by omega)
        · exact hb.1 i (by omega) hi, fun c => by
        have r7 : r = 7 := by omega
        subst r7
        rw [hu.1] at hb
        exact hb⟩)))

/-- prices as ints -/
def gd_mp (x w y : Int) : Int := if x + w < y then x + w else y
def gd_pb (x : Int) : Prop := -10000 ≤ x ∧ x ≤ 10000
theorem gd_ple {u v w : Int32} {x y p : Int} (hu : u = gd_z x) (hv : v = gd_z y) (hw : w = gd_z p) (hx : gd_pb x) (hy : gd_pb y) (hp : -1000 ≤ p ∧ p ≤ 1000) : (v ≤ u + w) ↔ ¬ (x + p < y) := by
  unfold gd_pb at hx hy
  rw [hu, hv, hw, gd_za, gd_zle (by omega) (by omega) (by omega) (by omega)]
  omega
/-- weights of the rings' search too -/
def gd_w1 (P Q R : Int) : Prop := (-200 ≤ P ∧ P ≤ 200) ∧ (-200 ≤ Q ∧ Q ≤ 200) ∧ (-200 ≤ R ∧ R ≤ 200)
theorem gd_w1_of {P Q R : Int} (hw : gd_wt P Q R) : gd_w1 P Q R := by
  unfold gd_wt at hw
  unfold gd_w1
  omega
theorem gd_pl0 {P Q R x y z : Int} {a : Nat → Int32} (h : gd_T a x y z) (hw : gd_w1 P Q R) (hx : gd_pb x) (hy : gd_pb y) : gd_T (gd_pl P Q R a 0) x (gd_mp x P y) z ∧ (¬ a 1 ≤ a 0 + gd_w P Q R 0 ↔ x + P < y) := by
  obtain ⟨h0, h1, h2⟩ := h
  have c : a 1 ≤ a 0 + gd_w P Q R 0 ↔ ¬ (x + P < y) := gd_ple h0 h1 rfl hx hy (by have := hw.1; omega)
  refine ⟨?_, by rw [c]; omega⟩
  unfold gd_pl gd_mp
  by_cases g : x + P < y
  · rw [if_neg (show ¬ a ((0 + 1) % 3) ≤ a 0 + gd_w P Q R 0 from fun t => c.mp t g), if_pos g]
    refine ⟨?_, ?_, ?_⟩
    · show upd a 1 _ 0 = _
      rw [pk_un (by decide), h0]
    · show upd a 1 (a 0 + gd_z P) 1 = _
      rw [pk_us, h0, gd_za]
    · show upd a 1 _ 2 = _
      rw [pk_un (by decide), h2]
  · rw [if_pos (show a ((0 + 1) % 3) ≤ a 0 + gd_w P Q R 0 from c.mpr g), if_neg g]
    exact ⟨h0, h1, h2⟩
theorem gd_pl1 {P Q R x y z : Int} {a : Nat → Int32} (h : gd_T a x y z) (hw : gd_w1 P Q R) (hy : gd_pb y) (hz : gd_pb z) : gd_T (gd_pl P Q R a 1) x y (gd_mp y Q z) ∧ (¬ a 2 ≤ a 1 + gd_w P Q R 1 ↔ y + Q < z) := by
  obtain ⟨h0, h1, h2⟩ := h
  have c : a 2 ≤ a 1 + gd_w P Q R 1 ↔ ¬ (y + Q < z) := gd_ple h1 h2 rfl hy hz (by have := hw.2.1; omega)
  refine ⟨?_, by rw [c]; omega⟩
  unfold gd_pl gd_mp
  by_cases g : y + Q < z
  · rw [if_neg (show ¬ a ((1 + 1) % 3) ≤ a 1 + gd_w P Q R 1 from fun t => c.mp t g), if_pos g]
    refine ⟨?_, ?_, ?_⟩
    · show upd a 2 _ 0 = _
      rw [pk_un (by decide), h0]
    · show upd a 2 _ 1 = _
      rw [pk_un (by decide), h1]
    · show upd a 2 (a 1 + gd_z Q) 2 = _
      rw [pk_us, h1, gd_za]
  · rw [if_pos (show a ((1 + 1) % 3) ≤ a 1 + gd_w P Q R 1 from c.mpr g), if_neg g]
    exact ⟨h0, h1, h2⟩
theorem gd_pl2 {P Q R x y z : Int} {a : Nat → Int32} (h : gd_T a x y z) (hw : gd_w1 P Q R) (hz : gd_pb z) (hx : gd_pb x) : gd_T (gd_pl P Q R a 2) (gd_mp z R x) y z ∧ (¬ a 0 ≤ a 2 + gd_w P Q R 2 ↔ z + R < x) := by
  obtain ⟨h0, h1, h2⟩ := h
  have c : a 0 ≤ a 2 + gd_w P Q R 2 ↔ ¬ (z + R < x) := gd_ple h2 h0 rfl hz hx (by have := hw.2.2; omega)
  refine ⟨?_, by rw [c]; omega⟩
  unfold gd_pl gd_mp
  by_cases g : z + R < x
  · rw [if_neg (show ¬ a ((2 + 1) % 3) ≤ a 2 + gd_w P Q R 2 from fun t => c.mp t g), if_pos g]
    refine ⟨?_, ?_, ?_⟩
    · show upd a 0 (a 2 + gd_z R) 0 = _
      rw [pk_us, h2, gd_za]
    · show upd a 0 _ 1 = _
      rw [pk_un (by decide), h1]
    · show upd a 0 _ 2 = _
      rw [pk_un (by decide), h2]
  · rw [if_pos (show a ((2 + 1) % 3) ≤ a 2 + gd_w P Q R 2 from c.mpr g), if_neg g]
    exact ⟨h0, h1, h2⟩
theorem gd_pk_ge (P Q R : Int) (a : Nat → Int32) (d : Nat) : gd_pk P Q R a (3 + d) = gd_pk P Q R a 3 := by
  induction d with
  | zero => rfl
  | succ d ih =>
    show gd_pk P Q R a (3 + d + 1) = _
    rw [gd_pk, if_neg (by omega), ih]
theorem gd_pi_ge (P Q R : Int) (a : Nat → Int32) (d : Nat) : gd_pi P Q R a (3 + d) ↔ gd_pi P Q R a 3 := by
  induction d with
  | zero => exact Iff.rfl
  | succ d ih =>
    show gd_pi P Q R a (3 + d + 1) ↔ _
    rw [gd_pi, ih]
    exact ⟨fun t => t.elim id (fun t => absurd t.1 (by omega)), Or.inl⟩
theorem gd_pk1 (P Q R : Int) (a : Nat → Int32) : gd_pk P Q R a 1 = gd_pl P Q R a 0 := by
  rw [gd_pk, if_pos (by decide), gd_pk]
theorem gd_pk2 (P Q R : Int) (a : Nat → Int32) : gd_pk P Q R a 2 = gd_pl P Q R (gd_pl P Q R a 0) 1 := by
  rw [gd_pk, if_pos (by decide), gd_pk1]
theorem gd_pk20 (P Q R : Int) (a : Nat → Int32) : gd_pk P Q R a 20 = gd_pl P Q R (gd_pl P Q R (gd_pl P Q R a 0) 1) 2 := by
  rw [show gd_pk P Q R a 20 = gd_pk P Q R a 3 from gd_pk_ge P Q R a 17, gd_pk, if_pos (by decide), gd_pk2]
/-- one round of prices -/
theorem gd_pT {P Q R x y z : Int} {a : Nat → Int32} (h : gd_T a x y z) (hw : gd_w1 P Q R) (hx : -9000 ≤ x ∧ x ≤ 9000) (hy : -9000 ≤ y ∧ y ≤ 9000) (hz : -9000 ≤ z ∧ z ≤ 9000) :
    gd_T (gd_pk P Q R a 20) (gd_mp (gd_mp (gd_mp x P y) Q z) R x) (gd_mp x P y) (gd_mp (gd_mp x P y) Q z) ∧
    (gd_pi P Q R a 20 ↔ (x + P < y ∨ gd_mp x P y + Q < z ∨ gd_mp (gd_mp x P y) Q z + R < x)) := by
  have hw' := hw
  unfold gd_w1 at hw'
  have b1 : gd_pb (gd_mp x P y) := by unfold gd_pb gd_mp; split <;> omega
  have b2 : gd_pb (gd_mp (gd_mp x P y) Q z) := by unfold gd_pb gd_mp; (repeat' split) <;> omega
  obtain ⟨t0, c0⟩ := gd_pl0 h hw (by unfold gd_pb; omega) (by unfold gd_pb; omega)
  obtain ⟨t1, c1⟩ := gd_pl1 t0 hw b1 (by unfold gd_pb; omega)
  obtain ⟨t2, c2⟩ := gd_pl2 t1 hw b2 (by unfold gd_pb; omega)
  rw [gd_pk20]
  refine ⟨t2, ?_⟩
  rw [show gd_pi P Q R a 20 ↔ gd_pi P Q R a 3 from gd_pi_ge P Q R a 17]
  rw [gd_pi, gd_pi, gd_pi, gd_pi, gd_pk2, gd_pk1, gd_pk]
  rw [show (0 + 1) % 3 = 1 from rfl, show (1 + 1) % 3 = 2 from rfl, show (2 + 1) % 3 = 0 from rfl, c0, c1, c2]
  constructor
  · intro t
    rcases t with ((t | t) | t) | t
    · exact absurd t (fun z => z)
    · exact Or.inl t.2
    · exact Or.inr (Or.inl t.2)
    · exact Or.inr (Or.inr t.2)
  · intro t
    rcases t with t | t | t
    · exact Or.inl (Or.inl (Or.inr ⟨by decide, t⟩))
    · exact Or.inl (Or.inr ⟨by decide, t⟩)
    · exact Or.inr ⟨by decide, t⟩
/-- behind n rounds: some ints, not too low -/
theorem gd_pr_b {P Q R : Int} {a : Nat → Int32} (hw : gd_wt P Q R) (h : gd_T a 0 0 0) (n : Nat) (hn : n ≤ 20) : ∃ x y z : Int, gd_T (gd_pr P Q R a n) x y z ∧ (-(60 * (n : Int)) ≤ x ∧ x ≤ 0) ∧ (-(60 * (n : Int)) ≤ y ∧ y ≤ 0) ∧ (-(60 * (n : Int)) ≤ z ∧ z ≤ 0) := by
  have hw' := hw
  unfold gd_wt at hw'
  induction n with
  | zero => exact ⟨0, 0, 0, h, by omega, by omega, by omega⟩
  | succ n ih =>
    obtain ⟨x, y, z, t, hx, hy, hz⟩ := ih (by omega)
    clear ih
    refine ⟨_, _, _, (gd_pT t (gd_w1_of hw) (by omega) (by omega) (by omega)).1, ?_, ?_, ?_⟩
    · unfold gd_mp
      (repeat' split) <;> omega
    · unfold gd_mp
      (repeat' split) <;> omega
    · unfold gd_mp
      (repeat' split) <;> omega
theorem gd_mp_same {x w y : Int} (h : y ≤ x + w) : gd_mp x w y = y := by
  unfold gd_mp
  rw [if_neg (by omega)]
theorem gd_pr_stay {P Q R x y z : Int} {a : Nat → Int32} (hw : gd_w1 P Q R) (h : gd_T a x y z) (hx : -9000 ≤ x ∧ x ≤ 9000) (hy : -9000 ≤ y ∧ y ≤ 9000) (hz : -9000 ≤ z ∧ z ≤ 9000) (f1 : y ≤ x + P) (f2 : z ≤ y + Q) (f3 : x ≤ z + R) (n : Nat) :
    gd_T (gd_pr P Q R a n) x y z := by
  induction n with
  | zero => exact h
  | succ n ih =>
    have t := (gd_pT ih hw hx hy hz).1
    rw [gd_mp_same f1, gd_mp_same f2, gd_mp_same f3] at t
    exact t
theorem gd_pr_add (P Q R : Int) (a : Nat → Int32) (m n : Nat) : gd_pr P Q R a (m + n) = gd_pr P Q R (gd_pr P Q R a m) n := by
  induction n with
  | zero => rfl
  | succ n ih =>
    show gd_pr P Q R a (m + n + 1) = _
    rw [gd_pr, gd_pr, ih]
/-- where no ring is below 0, two rounds are enough -/
theorem gd_p_two {P Q R : Int} {a : Nat → Int32} (hw : gd_w1 P Q R) (h : gd_T a 0 0 0) (g : 0 ≤ P + Q + R) :
    ∃ x y z : Int, gd_T (gd_pr P Q R a 2) x y z ∧ (-2000 ≤ x ∧ x ≤ 0) ∧ (-2000 ≤ y ∧ y ≤ 0) ∧ (-2000 ≤ z ∧ z ≤ 0) ∧ y ≤ x + P ∧ z ≤ y + Q ∧ x ≤ z + R := by
  have hw' := hw
  unfold gd_w1 at hw'
  have t1 := (gd_pT h hw (by omega) (by omega) (by omega)).1
  have b : ∀ x w y : Int, (gd_mp x w y = x + w ∧ x + w < y) ∨ (gd_mp x w y = y ∧ y ≤ x + w) := fun x w y => by unfold gd_mp; split <;> omega
  have b1 := b 0 P 0
  have b2 := b (gd_mp 0 P 0) Q 0
  have b3 := b (gd_mp (gd_mp 0 P 0) Q 0) R 0
  generalize hy1 : gd_mp 0 P 0 = y1 at t1 b1 b2 b3
  generalize hz1 : gd_mp y1 Q 0 = z1 at t1 b2 b3
  generalize hx1 : gd_mp z1 R 0 = x1 at t1 b3
  have t2 := (gd_pT t1 hw (by omega) (by omega) (by omega)).1
  have b4 := b x1 P y1
  have b5 := b (gd_mp x1 P y1) Q z1
  have b6 := b (gd_mp (gd_mp x1 P y1) Q z1) R x1
  generalize hy2 : gd_mp x1 P y1 = y2 at t2 b4 b5 b6
  generalize hz2 : gd_mp y2 Q z1 = z2 at t2 b5 b6
  generalize hx2 : gd_mp z2 R x1 = x2 at t2 b6
  exact ⟨x2, y2, z2, t2, by omega, by omega, by omega, by omega, by omega, by omega⟩
theorem gd_p_seven {P Q R : Int} {a : Nat → Int32} (hw : gd_w1 P Q R) (h : gd_T a 0 0 0) (g : 0 ≤ P + Q + R) :
    ∃ x y z : Int, gd_T (gd_pr P Q R a 7) x y z ∧ (-2000 ≤ x ∧ x ≤ 0) ∧ (-2000 ≤ y ∧ y ≤ 0) ∧ (-2000 ≤ z ∧ z ≤ 0) ∧ y ≤ x + P ∧ z ≤ y + Q ∧ x ≤ z + R := by
  obtain ⟨x, y, z, t, hx, hy, hz, f1, f2, f3⟩ := gd_p_two hw h g
  have t7 := gd_pr_stay hw t (by omega) (by omega) (by omega) f1 f2 f3 5
  rw [← show gd_pr P Q R a 7 = gd_pr P Q R (gd_pr P Q R a 2) 5 from gd_pr_add P Q R a 2 5] at t7
  exact ⟨x, y, z, t7, hx, hy, hz, f1, f2, f3⟩
/-- a ring below 0 is found, and no other -/
theorem gd_p_law {P Q R : Int} {a : Nat → Int32} (hw : gd_wt P Q R) (h : gd_T a 0 0 0) : gd_pi P Q R (gd_pr P Q R a 7) 20 ↔ P + Q + R < 0 := by
  have hw' := hw
  unfold gd_wt at hw'
  by_cases g : P + Q + R < 0
  · obtain ⟨x, y, z, t, hx, hy, hz⟩ := gd_pr_b hw h 7 (by omega)
    rw [(gd_pT t (gd_w1_of hw) (by omega) (by omega) (by omega)).2]
    refine ⟨fun _ => g, fun _ => ?_⟩
    unfold gd_mp
    (repeat' split) <;> omega
  · obtain ⟨x, y, z, t, hx, hy, hz, f1, f2, f3⟩ := gd_p_seven (gd_w1_of hw) h (by omega)
    have i := (gd_pT t (gd_w1_of hw) (by omega) (by omega) (by omega)).2
    rw [gd_mp_same f1, gd_mp_same f2] at i
    constructor
    · intro q
      have := i.mp q
      omega
    · exact fun q => absurd q g
end
section
/-- what the search for groups leaves -/
def gd_grp (P Q R : Int) (a14 a15 : Nat → Int32) : Prop := (∀ i, i < 7 → a14 i = nI (gd_gp i)) ∧ (∀ i, 1 ≤ i → i < 7 → a15 i = 0) ∧ (P + Q + R < 0 → a15 0 = 1) ∧ (0 ≤ P + Q + R → a15 0 = 0)
theorem gd_groups {post : St2 → Prop} {P Q R : Int} {hs tp bt : Int32} {a4 a5 a6 a7 a8 a9 a10 a11 a12 a13 a14 a15 a16 a17 a18 a19 : Nat → Int32} (hw : gd_wt P Q R) (H : ∀ b11 b14 b15 : Nat → Int32, gd_grp P Q R b14 b15 → post (7, hs, tp, bt, gd_a, gd_b, (gd_w P Q R), a4, a5, a6, a7, a8, a9, a10, b11, a12, a13, b14, b15, a16, a17, a18, a19)) : wpX_findGroups post (7, hs, tp, bt, gd_a, gd_b, (gd_w P Q R), a4, a5, a6, a7, a8, a9, a10, a11, a12, a13, a14, a15, a16, a17, a18, a19) :=
  pk_loop (fun n i (u : (Nat → Int32) × (Nat → Int32) × (Nat → Int32)) => wX_findGroups_2 post 7 hs tp bt n (nI i) gd_a gd_b (gd_w P Q R) a4 a5 a6 a7 a8 a9 a10 u.1 a12 a13 u.2.1 u.2.2 a16 a17 a18 a19)
    (fun i u => (∀ j, j < i → u.1 j = 0) ∧ (∀ j, j < i → u.2.1 j = nI j) ∧ (∀ j, j < i → u.2.2 j = 0)) 7 0 (a11, a14, a15) (by omega) ⟨fun j h => absurd h (by omega), fun j h => absurd h (by omega), fun j h => absurd h (by omega)⟩
    (fun n u hu => pk_le 7 7 (fun _ => gd_g38 hu.2.1 (fun b14 hb => gd_g138 hb hu.2.2 (fun b11 b15 hB => H b11 b14 b15 (by
      have l := gd_p_law hw (a := u.1) ⟨by rw [hu.1 0 (by omega)]; exact gd_z0, by rw [hu.1 1 (by omega)]; exact gd_z0, by rw [hu.1 2 (by omega)]; exact gd_z0⟩
      exact ⟨hb, hB.1, fun g => hB.2.1 ⟨rfl, l.mpr g⟩, fun g => hB.2.2 (fun t => absurd (l.mp t.2) (by omega))⟩)))) (fun z => absurd z (by omega)))
    (fun n i u hi hu hw => pk_le 7 i (fun z => absurd z (by omega)) (fun _ => ⟨pk_in i 7 hi, nm_e ⟨pk_in i 7 hi, nm_e ⟨pk_in i 7 hi, nm_e (nm_r (nI_1 i) (hw (_, _, _) ⟨gd_fill (f := fun _ => 0) (nI_clamp (by omega)) hu.1 rfl, gd_fill (f := fun j => nI j) (nI_clamp (by omega)) hu.2.1 (gd_byte i (by omega)), gd_fill (f := fun _ => 0) (nI_clamp (by omega)) hu.2.2 rfl⟩))⟩⟩⟩))
/-- findPrices -/
theorem gd_f76 {post : St2 → Prop} {J23 J31 : Int32 → (Nat → Int32) → (Nat → Int32) → (Nat → Int32) → (Nat → Int32) → (Nat → Int32) → (Nat → Int32) → (Nat → Int32) → (Nat → Int32) → (Nat → Int32) → (Nat → Int32) → (Nat → Int32) → (Nat → Int32) → (Nat → Int32) → (Nat → Int32) → (Nat → Int32) → (Nat → Int32) → (Nat → Int32) → (Nat → Int32) → (Nat → Int32) → Prop} {P Q R : Int} {hs tp bt : Int32} {a4 a5 a6 a7 a8 a9 a10 a11 a12 a13 a14 a15 a16 a17 a18 a19 : Nat → Int32} {r : Int32} {k : Nat} (h3 : k < 3)
    (h : J31 (nI (k + 1)) gd_a gd_b (gd_w P Q R) a4 a5 a6 a7 a8 a9 a10 (gd_pl P Q R a11 k) a12 a13 a14 a15 a16 a17 a18 a19) : wX_findPrices_76 post J23 J31 r (nI k) 1 7 hs tp bt gd_a gd_b (gd_w P Q R) a4 a5 a6 a7 a8 a9 a10 a11 a12 a13 a14 a15 a16 a17 a18 a19 := by
  have hk : k < 20 := by omega
  have v3 : (k + 1) % 3 < 7 := by omega
  refine br_f (by decide) ?_
  rw [nI_clamp (show k < 2 ^ 31 by omega), gd_a3 k h3, gd_b3 k h3, nI_clamp (show k < 2 ^ 31 by omega), nI_clamp (show (k + 1) % 3 < 2 ^ 31 by omega)]
  refine ⟨pk_in k 20 hk, pk_in k 7 (by omega), pk_in k 20 hk, pk_in k 20 hk, pk_in ((k + 1) % 3) 7 v3, br_c (fun g => nm_r (nI_1 k) ?_) (fun g => ⟨pk_in k 20 hk, pk_in k 20 hk, pk_in k 7 (by omega), pk_in k 20 hk, pk_in ((k + 1) % 3) 7 v3, nm_e (nm_r (nI_1 k) ?_)⟩)⟩
  · rw [gd_pl, if_pos g] at h
    exact h
  · rw [gd_pl, if_neg g] at h
    exact h
theorem gd_f31g {post : St2 → Prop} {J : Int32 → (Nat → Int32) → (Nat → Int32) → (Nat → Int32) → (Nat → Int32) → (Nat → Int32) → (Nat → Int32) → (Nat → Int32) → (Nat → Int32) → (Nat → Int32) → (Nat → Int32) → (Nat → Int32) → (Nat → Int32) → (Nat → Int32) → (Nat → Int32) → (Nat → Int32) → (Nat → Int32) → (Nat → Int32) → (Nat → Int32) → (Nat → Int32) → Prop} {P Q R : Int} {hs tp bt : Int32} {a4 a5 a6 a7 a8 a9 a10 a11 a12 a13 a14 a15 a16 a17 a18 a19 : Nat → Int32} {r : Nat} (hg : ∀ i, i < 7 → a14 i = nI (gd_gp i)) (h15 : a15 0 = 0) (h : J (nI (r + 1)) gd_a gd_b (gd_w P Q R) a4 a5 a6 a7 a8 a9 a10 (gd_pk P Q R a11 20) a12 a13 a14 a15 a16 a17 a18 a19) : ∃ n, wX_findPrices_31 post J (nI r) 7 hs tp bt n 0 gd_a gd_b (gd_w P Q R) a4 a5 a6 a7 a8 a9 a10 a11 a12 a13 a14 a15 a16 a17 a18 a19 :=
  pk_loop (fun n k (u : Nat → Int32) => wX_findPrices_31 post J (nI r) 7 hs tp bt n (nI k) gd_a gd_b (gd_w P Q R) a4 a5 a6 a7 a8 a9 a10 u a12 a13 a14 a15 a16 a17 a18 a19) (fun k u => u = gd_pk P Q R a11 k) 20 0 a11 (by omega) rfl
    (fun n u hu => pk_le 20 20 (fun _ => nm_r (nI_1 r) (by rw [hu]; exact h)) (fun z => absurd z (by omega)))
    (fun n k u hk hu hw => pk_le 20 k (fun z => absurd z (by omega)) (fun _ => by
      by_cases h3 : k < 3
      · refine gd_has1 h3 (br_f (by decide) ⟨pk_in k 20 hk, ?_⟩)
        rw [nI_clamp (show k < 2 ^ 31 by omega), gd_a3 k h3, gd_b3 k h3]
        exact gd_good1 (g := 0) (by omega) (by rw [hg k (by omega), gd_gp, if_pos h3]) (by omega) h15 (br_f (by decide) ⟨pk_in k 20 hk, gd_good1 (g := 0) (by omega) (by rw [hg _ (by omega), gd_gp, if_pos (by omega)]) (by omega) h15 (br_f (by decide)
          (gd_f76 h3 (hw _ (by rw [gd_pk, if_pos h3, ← hu]))))⟩)
      · exact gd_has0 (by omega) hk (br_t rfl (br_t rfl (nm_r (nI_1 k) (hw _ (by rw [gd_pk, if_neg h3, ← hu])))))))
theorem gd_f31b {post : St2 → Prop} {J : Int32 → (Nat → Int32) → (Nat → Int32) → (Nat → Int32) → (Nat → Int32) → (Nat → Int32) → (Nat → Int32) → (Nat → Int32) → (Nat → Int32) → (Nat → Int32) → (Nat → Int32) → (Nat → Int32) → (Nat → Int32) → (Nat → Int32) → (Nat → Int32) → (Nat → Int32) → (Nat → Int32) → (Nat → Int32) → (Nat → Int32) → (Nat → Int32) → Prop} {P Q R : Int} {hs tp bt : Int32} {a4 a5 a6 a7 a8 a9 a10 a11 a12 a13 a14 a15 a16 a17 a18 a19 : Nat → Int32} {r : Nat} (hg : ∀ i, i < 7 → a14 i = nI (gd_gp i)) (h15 : ¬ a15 0 = 0) (h : J (nI (r + 1)) gd_a gd_b (gd_w P Q R) a4 a5 a6 a7 a8 a9 a10 a11 a12 a13 a14 a15 a16 a17 a18 a19) : ∃ n, wX_findPrices_31 post J (nI r) 7 hs tp bt n 0 gd_a gd_b (gd_w P Q R) a4 a5 a6 a7 a8 a9 a10 a11 a12 a13 a14 a15 a16 a17 a18 a19 :=
  pk_loop (σ := Unit) (fun n k _ => wX_findPrices_31 post J (nI r) 7 hs tp bt n (nI k) gd_a gd_b (gd_w P Q R) a4 a5 a6 a7 a8 a9 a10 a11 a12 a13 a14 a15 a16 a17 a18 a19) (fun _ _ => True) 20 0 () (by omega) trivial
    (fun n u hu => pk_le 20 20 (fun _ => nm_r (nI_1 r) h) (fun z => absurd z (by omega)))
    (fun n k u hk hu hw => pk_le 20 k (fun z => absurd z (by omega)) (fun _ => by
      by_cases h3 : k < 3
      · refine gd_has1 h3 (br_f (by decide) ⟨pk_in k 20 hk, ?_⟩)
        rw [nI_clamp (show k < 2 ^ 31 by omega), gd_a3 k h3]
        exact gd_good0 (g := 0) (by omega) (by rw [hg k (by omega), gd_gp, if_pos h3]) (by omega) h15 (br_t rfl (br_t rfl (nm_r (nI_1 k) (hw () trivial))))
      · exact gd_has0 (by omega) hk (br_t rfl (br_t rfl (nm_r (nI_1 k) (hw () trivial))))))
/-- prices that aren't far from 0 -/
def gd_pp (a11 : Nat → Int32) (π : Nat → Int) : Prop := ∀ i, i < 3 → a11 i = gd_z (π i) ∧ -1000 ≤ π i ∧ π i ≤ 1000
theorem gd_find {post : St2 → Prop} {P Q R : Int} {hs tp bt : Int32} {a4 a5 a6 a7 a8 a9 a10 a11 a12 a13 a14 a15 a16 a17 a18 a19 : Nat → Int32} (hw : gd_wt P Q R) (hG : gd_grp P Q R a14 a15) (H : ∀ b11 : Nat → Int32, (0 ≤ P + Q + R → ∃ π, gd_pp b11 π) → post (7, hs, tp, bt, gd_a, gd_b, (gd_w P Q R), a4, a5, a6, a7, a8, a9, a10, b11, a12, a13, a14, a15, a16, a17, a18, a19)) : wpX_findPrices post (7, hs, tp, bt, gd_a, gd_b, (gd_w P Q R), a4, a5, a6, a7, a8, a9, a10, a11, a12, a13, a14, a15, a16, a17, a18, a19) := by
  refine pk_loop (fun n i (u : Nat → Int32) => wX_findPrices_2 post 7 hs tp bt n (nI i) gd_a gd_b (gd_w P Q R) a4 a5 a6 a7 a8 a9 a10 u a12 a13 a14 a15 a16 a17 a18 a19) (fun i u => ∀ j, j < i → u j = 0) 7 0 a11 (by omega) (fun j h => absurd h (by omega)) ?_
    (fun n i u hi hu hw => pk_le 7 i (fun z => absurd z (by omega)) (fun _ => ⟨pk_in i 7 hi, nm_e (nm_r (nI_1 i) (hw _ (gd_fill (f := fun _ => 0) (nI_clamp (by omega)) hu rfl)))⟩))
  intro n u hu
  refine pk_le 7 7 (fun _ => ?_) (fun z => absurd z (by omega))
  by_cases g : 0 ≤ P + Q + R
  · refine pk_loop (fun n i (v : Nat → Int32) => wX_findPrices_23 post 7 hs tp bt n (nI i) gd_a gd_b (gd_w P Q R) a4 a5 a6 a7 a8 a9 a10 v a12 a13 a14 a15 a16 a17 a18 a19) (fun i v => v = gd_pr P Q R u i) 7 0 u (by omega) rfl ?_
      (fun n i v hi hv hw => pk_le 7 i (fun z => absurd z (by omega)) (fun _ => gd_f31g hG.1 (hG.2.2.2 g) (hw _ (by rw [hv]; rfl))))
    intro n v hv
    refine pk_le 7 7 (fun _ => H v (fun _ => ?_)) (fun z => absurd z (by omega))
    obtain ⟨x, y, z, t, hx, hy, hz⟩ := gd_pr_b hw (a := u) ⟨by rw [hu 0 (by omega)]; exact gd_z0, by rw [hu 1 (by omega)]; exact gd_z0, by rw [hu 2 (by omega)]; exact gd_z0⟩ 7 (by omega)
    rw [← hv] at t
    exact ⟨fun i => if i = 0 then x else if i = 1 then y else z, gd_3 (p := fun i => v i = gd_z (if i = 0 then x else if i = 1 then y else z) ∧ -1000 ≤ (if i = 0 then x else if i = 1 then y else z) ∧ (if i = 0 then x else if i = 1 then y else z) ≤ 1000)
      ⟨t.1, by show -1000 ≤ x; omega, by show x ≤ 1000; omega⟩ ⟨t.2.1, by show -1000 ≤ y; omega, by show y ≤ 1000; omega⟩ ⟨t.2.2, by show -1000 ≤ z; omega, by show z ≤ 1000; omega⟩⟩
  · have h1 : ¬ a15 0 = 0 := by
      rw [hG.2.2.1 (by omega)]
      decide
    exact pk_loop (σ := Unit) (fun n i _ => wX_findPrices_23 post 7 hs tp bt n (nI i) gd_a gd_b (gd_w P Q R) a4 a5 a6 a7 a8 a9 a10 u a12 a13 a14 a15 a16 a17 a18 a19) (fun _ _ => True) 7 0 () (by omega) trivial
      (fun n v hv => pk_le 7 7 (fun _ => H u (fun t => absurd t g)) (fun z => absurd z (by omega)))
      (fun n i v hi hv hw => pk_le 7 i (fun z => absurd z (by omega)) (fun _ => gd_f31b hG.1 h1 (hw () trivial)))

/-- the end of goWithPrices -/
theorem gd_p187 {post : St2 → Prop} {P Q R : Int} {hs tp bt : Int32} {a4 a5 a6 a7 a8 a9 a10 a11 a12 a13 a14 a15 a16 a17 a18 a19 : Nat → Int32} {s : Nat} (h7 : s < 7)
    (H : ∀ b4 b6 : Nat → Int32, (∀ t, t < 7 → b4 (s * 7 + t) = if a7 t = 0 then (if 1048576 ≤ a6 t then 1048576 else a6 t - a11 s + a11 t) else (-4000)) → (∀ j, (j < s * 7 ∨ s * 7 + 7 ≤ j) → b4 j = a4 j) → post (7, hs, tp, bt, gd_a, gd_b, (gd_w P Q R), b4, a5, b6, a7, a8, a9, a10, a11, a12, a13, a14, a15, a16, a17, a18, a19)) :
    ∃ n, wX_goWithPrices_187 post (nI s) 7 hs tp bt n 0 gd_a gd_b (gd_w P Q R) a4 a5 a6 a7 a8 a9 a10 a11 a12 a13 a14 a15 a16 a17 a18 a19 :=
  pk_loop (fun n i (u : Nat → Int32) => wX_goWithPrices_187 post (nI s) 7 hs tp bt n (nI i) gd_a gd_b (gd_w P Q R) a4 a5 u a7 a8 a9 a10 a11 a12 a13 a14 a15 a16 a17 a18 a19) (fun i u => (∀ t, t < i → u t = if 1048576 ≤ a6 t then 1048576 else a6 t - a11 s + a11 t) ∧ (∀ t, i ≤ t → u t = a6 t)) 7 0 a6 (by omega) ⟨fun j h => absurd h (by omega), fun j _ => rfl⟩
    (fun n u hu => pk_le 7 7 (fun _ => gd_write h7 (fun b4 k1 k2 => H b4 u (fun t ht => by rw [k1 t ht, hu.1 t ht]) k2)) (fun z => absurd z (by omega)))
    (fun n i u hi hu hw => pk_le 7 i (fun z => absurd z (by omega)) (fun _ => by
      rw [nI_clamp (show i < 2 ^ 31 by omega), nI_clamp (show s < 2 ^ 31 by omega)]
      have e := hu.2 i (Nat.le_refl i)
      exact ⟨pk_in i 7 hi, br_c (fun g => ⟨pk_in i 7 hi, nm_e (nm_r (nI_1 i) (hw _ ⟨gd_fill (f := fun t => if 1048576 ≤ a6 t then 1048576 else a6 t - a11 s + a11 t) rfl hu.1 (by rw [← e, if_pos g]), gd_rest rfl hu.2⟩))⟩)
        (fun g => ⟨pk_in i 7 hi, pk_in s 7 h7, pk_in i 7 hi, pk_in i 7 hi, nm_e (nm_r (nI_1 i) (hw _ ⟨gd_fill (f := fun t => if 1048576 ≤ a6 t then 1048576 else a6 t - a11 s + a11 t) rfl hu.1 (by rw [← e, if_neg g]), gd_rest rfl hu.2⟩))⟩)⟩))
theorem gd_take {post : Int32 → St2 → Prop} {P Q R : Int} {tp bt : Int32} {a4 a5 a6 a7 a8 a9 a10 a11 a12 a13 a14 a15 a16 a17 a18 a19 : Nat → Int32} {u : Nat} (hu : u < 7) (h12 : a12 0 = nI u) (h : post (nI u) (7, 0, tp, bt, gd_a, gd_b, (gd_w P Q R), a4, a5, a6, a7, a8, a9, a10, a11, a12, upd a13 u (-1), a14, a15, a16, a17, a18, a19)) : wpX_takeNearest post (7, 1, tp, bt, gd_a, gd_b, (gd_w P Q R), a4, a5, a6, a7, a8, a9, a10, a11, a12, a13, a14, a15, a16, a17, a18, a19) :=
  nm_r (e' := nI u) h12 (nm_r (e' := 0) (by decide) ⟨pk_in 0 8 (by omega), nm_e (br_t (by decide) ⟨0 + 1, br_t rfl (br_t (by decide) ⟨pk_in u 7 hu, nm_r (e' := upd a13 u (-1)) (by rw [nI_clamp (by omega)]) h⟩)⟩)⟩)
theorem gd_rise {post : St2 → Prop} {P Q R : Int} {hs tp bt : Int32} {a4 a5 a6 a7 a8 a9 a10 a11 a12 a13 a14 a15 a16 a17 a18 a19 : Nat → Int32} {v : Nat} (hv : v < 7) (h12 : a12 0 = nI v) (h : post (7, hs, tp, bt, gd_a, gd_b, (gd_w P Q R), a4, a5, a6, a7, a8, a9, a10, a11, upd a12 0 (nI v), upd a13 v (nI 0), a14, a15, a16, a17, a18, a19)) : wpX_rise post (7, hs, tp, bt, gd_a, gd_b, (gd_w P Q R), a4, a5, a6, a7, a8, a9, a10, a11, a12, a13, a14, a15, a16, a17, a18, a19) (nI 0) :=
  ⟨pk_in 0 8 (by omega), nm_r (e' := nI v) h12 ⟨0 + 1, br_t (by decide) (gd_place (i := 0) (by omega) hv h)⟩⟩
theorem gd_near {post : St2 → Prop} {P Q R : Int} {tp bt : Int32} {a4 a5 a6 a7 a8 a9 a10 a11 a12 a13 a14 a15 a16 a17 a18 a19 : Nat → Int32} {u v : Nat} {w way : Int32} (hu : u < 7) (hv : v < 7) (hway : a6 u + w + a11 u - a11 v = way) (h13 : a13 v = (-1))
    (H0 : a6 v ≤ way → post (7, 0, tp, bt, gd_a, gd_b, (gd_w P Q R), a4, a5, a6, a7, a8, a9, a10, a11, a12, a13, a14, a15, a16, a17, a18, a19))
    (H1 : ¬ a6 v ≤ way → ∀ b12 b13 : Nat → Int32, b12 0 = nI v → (∀ i, i ≠ v → b13 i = a13 i) → post (7, 1, tp, bt, gd_a, gd_b, (gd_w P Q R), a4, a5, upd a6 v way, a7, a8, a9, a10, a11, b12, b13, a14, a15, a16, a17, a18, a19)) : wpX_nearer post (7, 0, tp, bt, gd_a, gd_b, (gd_w P Q R), a4, a5, a6, a7, a8, a9, a10, a11, a12, a13, a14, a15, a16, a17, a18, a19) (nI u) (nI v) w := by
  refine ⟨pk_in u 7 hu, pk_in u 7 hu, pk_in v 7 hv, nm_r (e' := way) (by rw [nI_clamp (by omega), nI_clamp (by omega)]; exact hway) ⟨pk_in v 7 hv, ?_⟩⟩
  rw [nI_clamp (show v < 2 ^ 31 by omega)]
  refine br_c H0 (fun g => ⟨pk_in v 7 hv, nm_e ⟨pk_in v 7 hv, br_f (by rw [h13]; decide) (gd_place (i := 0) (by omega) hv (nm_r (e' := 1) (by decide) ⟨pk_in v 7 hv, ?_⟩))⟩⟩)
  rw [nI_clamp (show v < 2 ^ 31 by omega), pk_us]
  refine gd_rise hv pk_us (H1 g _ _ pk_us (fun i hi => ?_))
  rw [pk_un hi, pk_un hi]
theorem gd_h_skip {post : St2 → Prop} {J : Int32 → Int32 → Int32 → Int32 → (Nat → Int32) → (Nat → Int32) → (Nat → Int32) → (Nat → Int32) → (Nat → Int32) → (Nat → Int32) → (Nat → Int32) → (Nat → Int32) → (Nat → Int32) → (Nat → Int32) → (Nat → Int32) → (Nat → Int32) → (Nat → Int32) → (Nat → Int32) → (Nat → Int32) → (Nat → Int32) → (Nat → Int32) → (Nat → Int32) → (Nat → Int32) → Prop} {P Q R : Int} {hs tp bt : Int32} {a4 a5 a6 a7 a8 a9 a10 a11 a12 a13 a14 a15 a16 a17 a18 a19 : Nat → Int32} {x1 : Int32} {u k n : Nat} (hk : k < 20) (hu : u < 7) (c : k ≠ u ∨ 3 ≤ k)
    (h : wX_goWithPrices_113 post J x1 (nI u) n (nI (k + 1)) 7 hs tp bt gd_a gd_b (gd_w P Q R) a4 a5 a6 a7 a8 a9 a10 a11 a12 a13 a14 a15 a16 a17 a18 a19) : wX_goWithPrices_113 post J x1 (nI u) (n + 1) (nI k) 7 hs tp bt gd_a gd_b (gd_w P Q R) a4 a5 a6 a7 a8 a9 a10 a11 a12 a13 a14 a15 a16 a17 a18 a19 :=
  pk_le 20 k (fun z => absurd z (by omega)) (fun _ => by
    by_cases h3 : k < 3
    · refine gd_has1 h3 (br_f (by decide) ⟨pk_in k 20 hk, br_f ?_ (nm_r (nI_1 k) h)⟩)
      rw [nI_clamp (by omega), gd_a3 k h3]
      intro e
      exact absurd ((nI_eq (by omega) (by omega)).mp e) (by omega)
    · exact gd_has0 (by omega) hk (br_t rfl (nm_r (nI_1 k) h)))
theorem gd_h_tail {post : St2 → Prop} {J : Int32 → Int32 → Int32 → Int32 → (Nat → Int32) → (Nat → Int32) → (Nat → Int32) → (Nat → Int32) → (Nat → Int32) → (Nat → Int32) → (Nat → Int32) → (Nat → Int32) → (Nat → Int32) → (Nat → Int32) → (Nat → Int32) → (Nat → Int32) → (Nat → Int32) → (Nat → Int32) → (Nat → Int32) → (Nat → Int32) → (Nat → Int32) → (Nat → Int32) → (Nat → Int32) → Prop} {P Q R : Int} {hs tp bt : Int32} {a4 a5 a6 a7 a8 a9 a10 a11 a12 a13 a14 a15 a16 a17 a18 a19 : Nat → Int32} {x1 : Int32} {u : Nat} (hu : u < 7) (h : J 7 hs tp bt gd_a gd_b (gd_w P Q R) a4 a5 a6 a7 a8 a9 a10 a11 a12 a13 a14 a15 a16 a17 a18 a19) :
    ∀ d k, k + d = 20 → (u < k ∨ 3 ≤ u) → wX_goWithPrices_113 post J x1 (nI u) (d + 1) (nI k) 7 hs tp bt gd_a gd_b (gd_w P Q R) a4 a5 a6 a7 a8 a9 a10 a11 a12 a13 a14 a15 a16 a17 a18 a19 := by
  intro d
  induction d with
  | zero =>
    intro k hk _
    exact pk_le 20 k (fun _ => h) (fun z => absurd z (by omega))
  | succ d ih =>
    intro k hk c
    exact gd_h_skip (by omega) hu (by omega) (ih (k + 1) (by omega) (by omega))
theorem gd_h_to {post : St2 → Prop} {J : Int32 → Int32 → Int32 → Int32 → (Nat → Int32) → (Nat → Int32) → (Nat → Int32) → (Nat → Int32) → (Nat → Int32) → (Nat → Int32) → (Nat → Int32) → (Nat → Int32) → (Nat → Int32) → (Nat → Int32) → (Nat → Int32) → (Nat → Int32) → (Nat → Int32) → (Nat → Int32) → (Nat → Int32) → (Nat → Int32) → (Nat → Int32) → (Nat → Int32) → (Nat → Int32) → Prop} {P Q R : Int} {hs tp bt : Int32} {a4 a5 a6 a7 a8 a9 a10 a11 a12 a13 a14 a15 a16 a17 a18 a19 : Nat → Int32} {x1 : Int32} {u n : Nat} (hu : u < 3) (h : wX_goWithPrices_113 post J x1 (nI u) n (nI u) 7 hs tp bt gd_a gd_b (gd_w P Q R) a4 a5 a6 a7 a8 a9 a10 a11 a12 a13 a14 a15 a16 a17 a18 a19) :
    wX_goWithPrices_113 post J x1 (nI u) (n + u) 0 7 hs tp bt gd_a gd_b (gd_w P Q R) a4 a5 a6 a7 a8 a9 a10 a11 a12 a13 a14 a15 a16 a17 a18 a19 := by
  have c : u = 0 ∨ u = 1 ∨ u = 2 := by omega
  rcases c with c | c | c
  · subst c
    exact h
  · subst c
    exact gd_h_skip (k := 0) (by omega) (by omega) (by omega) h
  · subst c
    exact gd_h_skip (k := 0) (by omega) (by omega) (by omega) (gd_h_skip (k := 1) (by omega) (by omega) (by omega) h)
theorem gd_h_act {post : St2 → Prop} {J : Int32 → Int32 → Int32 → Int32 → (Nat → Int32) → (Nat → Int32) → (Nat → Int32) → (Nat → Int32) → (Nat → Int32) → (Nat → Int32) → (Nat → Int32) → (Nat → Int32) → (Nat → Int32) → (Nat → Int32) → (Nat → Int32) → (Nat → Int32) → (Nat → Int32) → (Nat → Int32) → (Nat → Int32) → (Nat → Int32) → (Nat → Int32) → (Nat → Int32) → (Nat → Int32) → Prop} {P Q R : Int} {tp bt : Int32} {a4 a5 a6 a7 a8 a9 a10 a11 a12 a13 a14 a15 a16 a17 a18 a19 : Nat → Int32} {x1 : Int32} {u v n : Nat} {way : Int32} (hu : u < 3) (hv : v = (u + 1) % 3) (h14 : a14 v = nI 0) (h15 : a15 0 = 0) (hway : a6 u + gd_w P Q R u + a11 u - a11 v = way) (h13 : a13 v = (-1))
    (H0 : a6 v ≤ way → wX_goWithPrices_113 post J x1 (nI u) n (nI (u + 1)) 7 0 tp bt gd_a gd_b (gd_w P Q R) a4 a5 a6 a7 a8 a9 a10 a11 a12 a13 a14 a15 a16 a17 a18 a19)
    (H1 : ¬ a6 v ≤ way → ∀ b12 b13 : Nat → Int32, b12 0 = nI v → (∀ i, i ≠ v → b13 i = a13 i) → wX_goWithPrices_113 post J x1 (nI u) n (nI (u + 1)) 7 1 tp bt gd_a gd_b (gd_w P Q R) a4 a5 (upd a6 v way) a7 a8 a9 a10 a11 b12 b13 a14 a15 a16 a17 a18 a19) :
    wX_goWithPrices_113 post J x1 (nI u) (n + 1) (nI u) 7 0 tp bt gd_a gd_b (gd_w P Q R) a4 a5 a6 a7 a8 a9 a10 a11 a12 a13 a14 a15 a16 a17 a18 a19 :=
  pk_le 20 u (fun z => absurd z (by omega)) (fun _ => gd_has1 hu (br_f (by decide) ⟨pk_in u 20 (by omega), by
    rw [nI_clamp (show u < 2 ^ 31 by omega), gd_a3 u hu, gd_b3 u hu, ← hv]
    exact br_t rfl ⟨pk_in u 20 (by omega), gd_good1 (g := 0) (by omega) h14 (by omega) h15 (br_f (by decide) ⟨pk_in u 20 (by omega), pk_in u 20 (by omega), gd_near (by omega) (by omega) hway h13 (fun g => nm_r (nI_1 u) (H0 g)) (fun g b12 b13 k1 k2 => nm_r (nI_1 u) (H1 g b12 b13 k1 k2))⟩)⟩⟩))
theorem gd_h_pop {post : St2 → Prop} {P Q R : Int} {tp bt : Int32} {a4 a5 a6 a7 a8 a9 a10 a11 a12 a13 a14 a15 a16 a17 a18 a19 : Nat → Int32} {x1 : Int32} {u n : Nat} (hu : u < 7) (h12 : a12 0 = nI u)
    (h : ∃ m, wX_goWithPrices_113 post (wX_goWithPrices_97 post x1 n) x1 (nI u) m 0 7 0 tp bt gd_a gd_b (gd_w P Q R) a4 a5 a6 a7 a8 a9 a10 a11 a12 (upd a13 u (-1)) a14 a15 a16 a17 a18 a19) : wX_goWithPrices_97 post x1 (n + 1) 7 1 tp bt gd_a gd_b (gd_w P Q R) a4 a5 a6 a7 a8 a9 a10 a11 a12 a13 a14 a15 a16 a17 a18 a19 :=
  br_f (by decide) (gd_take hu h12 h)
theorem gd_h_end {post : St2 → Prop} {P Q R : Int} {tp bt : Int32} {a4 a5 a6 a7 a8 a9 a10 a11 a12 a13 a14 a15 a16 a17 a18 a19 : Nat → Int32} {s n : Nat} (h7 : s < 7)
    (H : ∀ b4 b6 : Nat → Int32, (∀ t, t < 7 → b4 (s * 7 + t) = if a7 t = 0 then (if 1048576 ≤ a6 t then 1048576 else a6 t - a11 s + a11 t) else (-4000)) → (∀ j, (j < s * 7 ∨ s * 7 + 7 ≤ j) → b4 j = a4 j) → post (7, 0, tp, bt, gd_a, gd_b, (gd_w P Q R), b4, a5, b6, a7, a8, a9, a10, a11, a12, a13, a14, a15, a16, a17, a18, a19)) :
    wX_goWithPrices_97 post (nI s) (n + 1) 7 0 tp bt gd_a gd_b (gd_w P Q R) a4 a5 a6 a7 a8 a9 a10 a11 a12 a13 a14 a15 a16 a17 a18 a19 := br_t (by decide) (gd_p187 h7 H)
theorem gd_DV (P Q R : Int) : ∀ s, s < 3 → ∀ j, j < 3 → gd_D P Q R s ((s + j) % 3) = gd_V P Q R s j := by
  refine gd_3 (p := fun s => ∀ j, j < 3 → gd_D P Q R s ((s + j) % 3) = gd_V P Q R s j) ?_ ?_ ?_
  · refine gd_3 (p := fun j => gd_D P Q R 0 ((0 + j) % 3) = gd_V P Q R 0 j) rfl ?_ ?_
    · show P = 0 + P
      omega
    · show P + Q = 0 + P + Q
      omega
  · refine gd_3 (p := fun j => gd_D P Q R 1 ((1 + j) % 3) = gd_V P Q R 1 j) rfl ?_ ?_
    · show Q = 0 + Q
      omega
    · show Q + R = 0 + Q + R
      omega
  · refine gd_3 (p := fun j => gd_D P Q R 2 ((2 + j) % 3) = gd_V P Q R 2 j) rfl ?_ ?_
    · show R = 0 + R
      omega
    · show R + P = 0 + R + P
      omega
/-- the heap's walk round the ring -/
theorem gd_h_run {post : St2 → Prop} {P Q R : Int} {tp bt : Int32} {a4 a5 a7 a8 a9 a10 a11 a14 a15 a16 a17 a18 a19 : Nat → Int32} {s : Nat} {π : Nat → Int} (h3 : s < 3) (hw : gd_wt P Q R) (hS : 0 ≤ P + Q + R) (hG : gd_grp P Q R a14 a15) (hp : gd_pp a11 π) (h7 : ∀ i, i < 7 → a7 i = 0)
    (H : ∀ (hs : Int32) (b4 b6 b12 b13 : Nat → Int32), gd_row P Q R s a4 b4 → post (7, hs, tp, bt, gd_a, gd_b, (gd_w P Q R), b4, a5, b6, a7, a8, a9, a10, a11, b12, b13, a14, a15, a16, a17, a18, a19)) :
    ∀ r m, m + r = 3 → 1 ≤ r → ∀ a6 a12 a13 : Nat → Int32, a12 0 = nI ((s + m) % 3) → (∀ i, i < 7 → i ≠ (s + m) % 3 → a13 i = (-1)) →
      (∀ j, j < 3 → a6 ((s + j) % 3) = if j ≤ m then gd_z (gd_V P Q R s j + π s - π ((s + j) % 3)) else 1048576) → wX_goWithPrices_97 post (nI s) (r + 1) 7 1 tp bt gd_a gd_b (gd_w P Q R) a4 a5 a6 a7 a8 a9 a10 a11 a12 a13 a14 a15 a16 a17 a18 a19 := by
  intro r
  induction r with
  | zero => exact fun m _ h => absurd h (by omega)
  | succ r ih =>
    intro m hm _ a6 a12 a13 h12 h13 h6
    have hu : (s + m) % 3 < 3 := by omega
    have em := h6 m (by omega)
    rw [if_pos (Nat.le_refl m)] at em
    have bV := gd_V_b hw s
    have bV1 := bV (m + 1)
    have bs := (hp s h3).2
    have bv := (hp ((s + m + 1) % 3) (by omega)).2
    have hway : a6 ((s + m) % 3) + gd_w P Q R ((s + m) % 3) + a11 ((s + m) % 3) - a11 ((s + m + 1) % 3) = gd_z (gd_V P Q R s (m + 1) + π s - π ((s + m + 1) % 3)) := by
      rw [em, gd_w_wi _ hu, (hp _ hu).1, (hp ((s + m + 1) % 3) (by omega)).1, gd_za, gd_za, gd_zs, gd_V]
      congr 1
      omega
    refine gd_h_pop (by omega) h12 ⟨(19 - (s + m) % 3) + 1 + 1 + (s + m) % 3, gd_h_to hu (gd_h_act (v := (s + m + 1) % 3) hu (by omega) ?_ (hG.2.2.2 hS) hway ?_ ?_ ?_)⟩
    · rw [hG.1 _ (by omega), gd_gp, if_pos (by omega)]
    · rw [pk_un (by omega)]
      exact h13 _ (by omega) (by omega)
    · intro g
      have m2 : m = 2 := by
        refine Classical.byContradiction (fun c => ?_)
        have e := h6 (m + 1) (by omega)
        rw [if_neg (by omega)] at e
        rw [show s + m + 1 = s + (m + 1) by omega, e, gd_far, gd_zle (by omega) (by omega) (by rw [show s + (m + 1) = s + m + 1 by omega]; omega) (by rw [show s + (m + 1) = s + m + 1 by omega]; omega)] at g
        rw [show s + (m + 1) = s + m + 1 by omega] at g
        omega
      subst m2
      have r0 : r = 0 := by omega
      subst r0
      refine gd_h_tail (by omega) (gd_h_end (by omega) (fun b4 b6 k1 k2 => H _ b4 b6 _ _ ⟨fun _ t ht => ?_, k2⟩)) _ _ (by omega) (by omega)
      clear ih
      have ej := h6 ((t + 3 - s) % 3) (by omega)
      have et : (s + (t + 3 - s) % 3) % 3 = t := by omega
      rw [if_pos (by omega), et] at ej
      have bt := (hp t ht).2
      have bj := bV ((t + 3 - s) % 3)
      have dj := gd_DV P Q R s h3 ((t + 3 - s) % 3) (by omega)
      rw [et] at dj
      have nf : ¬ (1048576 : Int32) ≤ a6 t := by
        rw [ej, gd_far, gd_zle (by omega) (by omega) (by omega) (by omega)]
        omega
      rw [k1 t (by omega), if_pos (h7 t (by omega)), if_neg nf, ej, gd_fd, if_neg (show ¬ P + Q + R < 0 by omega), (hp s h3).1, (hp t ht).1, gd_zs, gd_za, dj]
      congr 1
      omega
    · intro g b12 b13 k1 k2
      have m2 : m < 2 := by
        refine Classical.byContradiction (fun c => ?_)
        have m2 : m = 2 := by omega
        subst m2
        refine g ?_
        have e := h6 0 (by omega)
        rw [if_pos (by omega)] at e
        have e3 := gd_V3 P Q R s 0
        have z0 : gd_V P Q R s 0 = 0 := rfl
        rw [z0] at e3
        have es : (s + 0) % 3 = s := by omega
        have es' : (s + 2 + 1) % 3 = s := by omega
        rw [es, z0] at e
        have e3' : gd_V P Q R s (2 + 1) = 0 + (P + Q + R) := e3
        rw [es', e, gd_zle (by omega) (by omega) (by omega) (by omega), e3']
        omega
      refine gd_h_tail (by omega) (ih (m + 1) (by omega) (by omega) _ _ _ (by rw [k1, show s + (m + 1) = s + m + 1 by omega]) (fun i hi c => ?_) (fun j hj => ?_)) _ _ (by omega) (by omega)
      · rw [show s + (m + 1) = s + m + 1 by omega] at c
        rw [k2 i c]
        by_cases e : i = (s + m) % 3
        · rw [e, pk_us]
        · rw [pk_un e]
          exact h13 i hi e
      · by_cases e : j = m + 1
        · subst e
          rw [show s + (m + 1) = s + m + 1 by omega, pk_us, if_pos (Nat.le_refl _)]
        · rw [pk_un (by omega), h6 j hj]
          by_cases c : j ≤ m
          · rw [if_pos c, if_pos (by omega)]
          · rw [if_neg c, if_neg (by omega)]
theorem gd_or7 : ∀ p, p < 3 → nI (2 ^ p - 1) ||| ((1 : Int32) <<< (nI p &&& 31)) = nI (2 ^ (p + 1) - 1) := by decide
theorem gd_prices {post : St2 → Prop} {P Q R : Int} {hs tp bt : Int32} {a4 a5 a6 a7 a8 a9 a10 a11 a12 a13 a14 a15 a16 a17 a18 a19 : Nat → Int32} {s : Nat} (h7 : s < 7) (hw : gd_wt P Q R) (hG : gd_grp P Q R a14 a15) (hP : 0 ≤ P + Q + R → ∃ π, gd_pp a11 π)
    (H : ∀ (hs : Int32) (b4 b6 b7 b12 b13 : Nat → Int32), gd_row P Q R s a4 b4 → post (7, hs, tp, bt, gd_a, gd_b, (gd_w P Q R), b4, a5, b6, b7, a8, a9, a10, a11, b12, b13, a14, a15, a16, a17, a18, a19)) : wpX_goWithPrices post (7, hs, tp, bt, gd_a, gd_b, (gd_w P Q R), a4, a5, a6, a7, a8, a9, a10, a11, a12, a13, a14, a15, a16, a17, a18, a19) (nI s) := by
  refine gd_start h7 (fun b6 b7 h6 hb7 => gd_spread ?_)
  refine pk_loop (fun n p (u : Int32 × (Nat → Int32)) => wX_goWithPrices_18 post (nI s) (gd_sy ((1 : Int32) <<< (nI s &&& 31)) 7) 7 hs tp bt n u.1 (nI p) gd_a gd_b (gd_w P Q R) a4 a5 b6 b7 a8 a9 a10 a11 a12 u.2 a14 a15 a16 a17 a18 a19)
    (fun p u => ((P + Q + R < 0 ∧ s < 3) → u.1 = nI (2 ^ (min p 3) - 1)) ∧ (¬ (P + Q + R < 0 ∧ s < 3) → u.1 = 0) ∧ (∀ j, j < p → u.2 j = (-1))) 7 0 (0, a13) (by omega) ⟨fun _ => rfl, fun _ => rfl, fun j h => absurd h (by omega)⟩ ?_ ?_
  · intro n u hu
    refine pk_le 7 7 (fun _ => ?_) (fun z => absurd z (by omega))
    by_cases c : P + Q + R < 0 ∧ s < 3
    · rw [show u.1 = (7 : Int32) from hu.1 c]
      refine gd_lower7 (by decide) (by decide) hb7 (fun c7 hc => gd_good0 (g := 0) h7 (by rw [hG.1 s h7, gd_gp, if_pos c.2]) (by omega) (by rw [hG.2.2.1 c.1]; decide) (br_t rfl ⟨0 + 1, gd_h_end h7 (fun b4 d6 k1 k2 => H _ b4 d6 c7 _ _ ⟨fun _ t ht => ?_, k2⟩)⟩))
      rw [k1 t (by omega), hc t (by omega), if_pos ht, if_neg (by decide), gd_fd, if_pos c.1]
    · rw [hu.2.1 c]
      refine gd_lower0 hb7 (fun c7 hc => gd_good1 (g := gd_gp s) h7 (hG.1 s h7) (gd_gp7 h7) ?_ (br_f (by decide) (gd_place (i := 0) (by omega) h7 ?_)))
      · by_cases h3 : s < 3
        · rw [gd_gp, if_pos h3]
          exact hG.2.2.2 (by omega)
        · rw [gd_gp, if_neg h3]
          exact hG.2.1 s (by omega) h7
      · by_cases h3 : s < 3
        · obtain ⟨π, hp⟩ := hP (by omega)
          have es : (s + 0) % 3 = s := by omega
          refine ⟨3 + 1, gd_h_run h3 hw (by omega) hG hp hc (fun hs b4 b6 b12 b13 k => H hs b4 b6 c7 b12 b13 k) 3 0 (by omega) (by omega) _ _ _ (by rw [es]; exact pk_us) (fun i hi e => ?_) (fun j hj => ?_)⟩
          · rw [es] at e
            rw [pk_un e]
            exact hu.2.2 i hi
          · rw [h6 _ (by omega)]
            by_cases j0 : j = 0
            · subst j0
              rw [es, if_pos rfl, if_pos (by omega), gd_z0]
              congr 1
              show (0 : Int) = 0 + π s - π s
              omega
            · rw [if_neg (by omega), if_neg (by omega)]
        · exact ⟨1 + 1, gd_h_pop h7 pk_us ⟨20 + 1, gd_h_tail h7 (gd_h_end h7 (fun b4 d6 k1 k2 => H _ b4 d6 c7 _ _ ⟨fun t => absurd t h3, k2⟩)) 20 0 (by omega) (by omega)⟩⟩
  · intro n p u hp hu hw'
    have st : ∀ z : Int32, (P + Q + R < 0 ∧ s < 3 → u.1 ||| z = nI (2 ^ (min (p + 1) 3) - 1)) → (¬ (P + Q + R < 0 ∧ s < 3) → u.1 ||| z = 0) →
        wX_goWithPrices_52 post (wX_goWithPrices_18 post (nI s) (gd_sy ((1 : Int32) <<< (nI s &&& 31)) 7) 7 hs tp bt n) (nI s) (gd_sy ((1 : Int32) <<< (nI s &&& 31)) 7) (nI p) z u.1 7 hs tp bt gd_a gd_b (gd_w P Q R) a4 a5 b6 b7 a8 a9 a10 a11 a12 u.2 a14 a15 a16 a17 a18 a19 := fun z z1 z2 =>
      nm_e ⟨pk_in p 7 hp, nm_e (nm_r (nI_1 p) (hw' (u.1 ||| z, _) ⟨z1, z2, gd_fill (f := fun _ => (-1)) (nI_clamp (by omega)) hu.2.2 rfl⟩))⟩
    have st0 : ¬ (P + Q + R < 0 ∧ s < 3 ∧ p < 3) → wX_goWithPrices_51 post (wX_goWithPrices_18 post (nI s) (gd_sy ((1 : Int32) <<< (nI s &&& 31)) 7) 7 hs tp bt n) (nI s) (gd_sy ((1 : Int32) <<< (nI s &&& 31)) 7) (nI p) u.1 7 hs tp bt gd_a gd_b (gd_w P Q R) a4 a5 b6 b7 a8 a9 a10 a11 a12 u.2 a14 a15 a16 a17 a18 a19 := fun c =>
      st 0 (fun d => by rw [gd_or0, hu.1 d, show min (p + 1) 3 = min p 3 by omega]) (fun d => by rw [gd_or0, hu.2.1 d])
    have sb := gd_sbit s h7 p hp
    refine pk_le 7 p (fun z => absurd z (by omega)) (fun _ => br_c (fun g => st0 (fun c => (sb.mp g) (Or.inl c.2))) (fun g => ?_))
    have c : (s < 3 ∧ p < 3) ∨ s = p := Classical.byContradiction (fun c => g (sb.mpr c))
    by_cases p3 : p < 3
    · have s3 : s < 3 := by omega
      by_cases g2 : P + Q + R < 0
      · refine gd_good0 (g := 0) hp (by rw [hG.1 p hp, gd_gp, if_pos p3]) (by omega) (by rw [hG.2.2.1 g2]; decide) (br_t rfl (st _ (fun d => ?_) (fun d => absurd ⟨g2, s3⟩ d)))
        rw [hu.1 d, show min p 3 = p by omega, show min (p + 1) 3 = p + 1 by omega]
        exact gd_or7 p p3
      · exact gd_good1 (g := 0) hp (by rw [hG.1 p hp, gd_gp, if_pos p3]) (by omega) (hG.2.2.2 (by omega)) (br_f (by decide) (st0 (fun c => g2 c.1)))
    · exact gd_good1 (g := p) hp (by rw [hG.1 p hp, gd_gp, if_neg p3]) hp (hG.2.1 p (by omega) hp) (br_f (by decide) (st0 (fun c => p3 c.2.2)))
end
section
/-- the rows of found that the law asks for -/
def gd_f3 (P Q R : Int) (a : Nat → Int32) : Prop := ∀ s, s < 3 → ∀ t, t < 3 → a (s * 7 + t) = gd_fd P Q R s t
def gd_fs (P Q R : Int) (n : Nat) (a : Nat → Int32) : Prop := ∀ s, s < n → s < 3 → ∀ t, t < 3 → a (s * 7 + t) = gd_fd P Q R s t
theorem gd_fs_step {P Q R : Int} {n : Nat} {a b : Nat → Int32} (h : gd_fs P Q R n a) (hr : gd_row P Q R n a b) : gd_fs P Q R (n + 1) b := by
  intro s hs s3 t ht
  by_cases e : s = n
  · subst e
    exact hr.1 s3 t ht
  · rw [hr.2 _ (by omega)]
    exact h s (by omega) s3 t ht
theorem gd_fs_end {P Q R : Int} {a : Nat → Int32} (h : gd_fs P Q R 7 a) : gd_f3 P Q R a := fun s hs t ht => h s (by omega) hs t ht
theorem gd_solve0 {post : St2 → Prop} {P Q R : Int} {hs tp bt : Int32} {a4 a5 a6 a7 a8 a9 a10 a11 a12 a13 a14 a15 a16 a17 a18 a19 : Nat → Int32} (hw : gd_wt P Q R) (H : ∀ (hs tp bt : Int32) (a4 a5 a6 a7 a8 a9 a10 a11 a12 a13 a14 a15 a16 a17 a18 a19 : Nat → Int32), gd_f3 P Q R a4 → post (7, hs, tp, bt, gd_a, gd_b, (gd_w P Q R), a4, a5, a6, a7, a8, a9, a10, a11, a12, a13, a14, a15, a16, a17, a18, a19)) : wpX_solve post (7, hs, tp, bt, gd_a, gd_b, (gd_w P Q R), a4, a5, a6, a7, a8, a9, a10, a11, a12, a13, a14, a15, a16, a17, a18, a19) 0 :=
  br_f (by decide) (br_f (by decide) (br_f (by decide) (
    pk_loop (fun n s (u : (Nat → Int32) × (Nat → Int32) × (Nat → Int32)) => wX_solve_35 post 0 n (nI s) 7 hs tp bt gd_a gd_b (gd_w P Q R) u.1 a5 u.2.1 u.2.2 a8 a9 a10 a11 a12 a13 a14 a15 a16 a17 a18 a19) (fun s u => gd_fs P Q R s u.1) 7 0 (a4, a6, a7) (by omega) (fun s h => absurd h (by omega))
      (fun n u hu => pk_le 7 7 (fun _ => H _ _ _ _ _ _ _ _ _ _ _ _ _ _ _ _ _ _ _ (gd_fs_end hu)) (fun z => absurd z (by omega)))
      (fun n s u hs hu hw' => pk_le 7 s (fun z => absurd z (by omega)) (fun _ => br_t rfl (gd_rounds hs hw (fun b4 b6 b7 hr => nm_r (nI_1 s) (hw' (b4, b6, b7) (gd_fs_step hu hr)))))))))
theorem gd_solve1 {post : St2 → Prop} {P Q R : Int} {hs tp bt : Int32} {a4 a5 a6 a7 a8 a9 a10 a11 a12 a13 a14 a15 a16 a17 a18 a19 : Nat → Int32} (hw : gd_wt P Q R) (H : ∀ (hs tp bt : Int32) (a4 a5 a6 a7 a8 a9 a10 a11 a12 a13 a14 a15 a16 a17 a18 a19 : Nat → Int32), gd_f3 P Q R a4 → post (7, hs, tp, bt, gd_a, gd_b, (gd_w P Q R), a4, a5, a6, a7, a8, a9, a10, a11, a12, a13, a14, a15, a16, a17, a18, a19)) : wpX_solve post (7, hs, tp, bt, gd_a, gd_b, (gd_w P Q R), a4, a5, a6, a7, a8, a9, a10, a11, a12, a13, a14, a15, a16, a17, a18, a19) 1 :=
  br_f (by decide) (br_f (by decide) (br_f (by decide) (
    pk_loop (fun n s (u : (Nat → Int32) × (Nat → Int32) × (Nat → Int32) × (Nat → Int32) × (Nat → Int32) × (Nat → Int32)) => wX_solve_35 post 1 n (nI s) 7 hs tp bt gd_a gd_b (gd_w P Q R) u.1 a5 u.2.1 u.2.2.1 u.2.2.2.1 u.2.2.2.2.1 u.2.2.2.2.2 a11 a12 a13 a14 a15 a16 a17 a18 a19) (fun s u => gd_fs P Q R s u.1) 7 0 (a4, a6, a7, a8, a9, a10) (by omega) (fun s h => absurd h (by omega))
      (fun n u hu => pk_le 7 7 (fun _ => H _ _ _ _ _ _ _ _ _ _ _ _ _ _ _ _ _ _ _ (gd_fs_end hu)) (fun z => absurd z (by omega)))
      (fun n s u hs hu hw' => pk_le 7 s (fun z => absurd z (by omega)) (fun _ => br_f (by decide) (br_t rfl (gd_queue hs hw (fun b4 b6 b7 b8 b9 b10 hr => nm_r (nI_1 s) (hw' (b4, b6, b7, b8, b9, b10) (gd_fs_step hu hr))))))))))
theorem gd_solve2 {post : St2 → Prop} {P Q R : Int} {hs tp bt : Int32} {a4 a5 a6 a7 a8 a9 a10 a11 a12 a13 a14 a15 a16 a17 a18 a19 : Nat → Int32} (hw : gd_wt P Q R) (H : ∀ (hs tp bt : Int32) (a4 a5 a6 a7 a8 a9 a10 a11 a12 a13 a14 a15 a16 a17 a18 a19 : Nat → Int32), gd_f3 P Q R a4 → post (7, hs, tp, bt, gd_a, gd_b, (gd_w P Q R), a4, a5, a6, a7, a8, a9, a10, a11, a12, a13, a14, a15, a16, a17, a18, a19)) : wpX_solve post (7, hs, tp, bt, gd_a, gd_b, (gd_w P Q R), a4, a5, a6, a7, a8, a9, a10, a11, a12, a13, a14, a15, a16, a17, a18, a19) 2 :=
  br_f (by decide) (br_f (by decide) (br_t rfl (gd_groups hw (fun b11 b14 b15 hG => gd_find hw hG (fun c11 hP =>
    pk_loop (fun n s (u : Int32 × (Nat → Int32) × (Nat → Int32) × (Nat → Int32) × (Nat → Int32) × (Nat → Int32)) => wX_solve_35 post 2 n (nI s) 7 u.1 tp bt gd_a gd_b (gd_w P Q R) u.2.1 a5 u.2.2.1 u.2.2.2.1 a8 a9 a10 c11 u.2.2.2.2.1 u.2.2.2.2.2 b14 b15 a16 a17 a18 a19) (fun s u => gd_fs P Q R s u.2.1) 7 0 (hs, a4, a6, a7, a12, a13) (by omega) (fun s h => absurd h (by omega))
      (fun n u hu => pk_le 7 7 (fun _ => H _ _ _ _ _ _ _ _ _ _ _ _ _ _ _ _ _ _ _ (gd_fs_end hu)) (fun z => absurd z (by omega)))
      (fun n s u hs hu hw' => pk_le 7 s (fun z => absurd z (by omega)) (fun _ => br_f (by decide) (br_f (by decide) (gd_prices hs hw hG hP (fun h b4 b6 b7 b12 b13 hr => nm_r (nI_1 s) (hw' (h, b4, b6, b7, b12, b13) (gd_fs_step hu hr))))))))))))
theorem gd_solve3 {post : St2 → Prop} {P Q R : Int} {hs tp bt : Int32} {a4 a5 a6 a7 a8 a9 a10 a11 a12 a13 a14 a15 a16 a17 a18 a19 : Nat → Int32} (hw : gd_wt P Q R) (H : ∀ (hs tp bt : Int32) (a4 a5 a6 a7 a8 a9 a10 a11 a12 a13 a14 a15 a16 a17 a18 a19 : Nat → Int32), gd_all P Q R a4 → post (7, hs, tp, bt, gd_a, gd_b, (gd_w P Q R), a4, a5, a6, a7, a8, a9, a10, a11, a12, a13, a14, a15, a16, a17, a18, a19)) : wpX_solve post (7, hs, tp, bt, gd_a, gd_b, (gd_w P Q R), a4, a5, a6, a7, a8, a9, a10, a11, a12, a13, a14, a15, a16, a17, a18, a19) 3 :=
  br_t rfl (gd_mids hw (fun b4 b17 h => H _ _ _ _ _ _ _ _ _ _ _ _ _ _ _ _ _ _ _ h))
theorem gd_solve4 {post : St2 → Prop} {P Q R : Int} {hs tp bt : Int32} {a4 a5 a6 a7 a8 a9 a10 a11 a12 a13 a14 a15 a16 a17 a18 a19 : Nat → Int32} (hw : gd_wt P Q R) (H : ∀ (hs tp bt : Int32) (a4 a5 a6 a7 a8 a9 a10 a11 a12 a13 a14 a15 a16 a17 a18 a19 : Nat → Int32), a4 2 = gd_fd P Q R 0 2 → post (7, hs, tp, bt, gd_a, gd_b, (gd_w P Q R), a4, a5, a6, a7, a8, a9, a10, a11, a12, a13, a14, a15, a16, a17, a18, a19)) : wpX_solve post (7, hs, tp, bt, gd_a, gd_b, (gd_w P Q R), a4, a5, a6, a7, a8, a9, a10, a11, a12, a13, a14, a15, a16, a17, a18, a19) 4 :=
  br_f (by decide) (br_t rfl (gd_dbl hw (fun b4 b17 b18 h => H _ _ _ _ _ _ _ _ _ _ _ _ _ _ _ _ _ _ _ h)))
theorem gd_solve {post : St2 → Prop} {P Q R : Int} {hs tp bt : Int32} {a4 a5 a6 a7 a8 a9 a10 a11 a12 a13 a14 a15 a16 a17 a18 a19 : Nat → Int32} {e : Nat} (he : e < 5) (hw : gd_wt P Q R) (H : ∀ (hs tp bt : Int32) (a4 a5 a6 a7 a8 a9 a10 a11 a12 a13 a14 a15 a16 a17 a18 a19 : Nat → Int32), a4 2 = gd_fd P Q R 0 2 → post (7, hs, tp, bt, gd_a, gd_b, (gd_w P Q R), a4, a5, a6, a7, a8, a9, a10, a11, a12, a13, a14, a15, a16, a17, a18, a19)) : wpX_solve post (7, hs, tp, bt, gd_a, gd_b, (gd_w P Q R), a4, a5, a6, a7, a8, a9, a10, a11, a12, a13, a14, a15, a16, a17, a18, a19) (nI e) := by
  have c : e = 0 ∨ e = 1 ∨ e = 2 ∨ e = 3 ∨ e = 4 := by omega
  rcases c with c | c | c | c | c <;> subst c
  · exact gd_solve0 hw (fun hs tp bt a4 a5 a6 a7 a8 a9 a10 a11 a12 a13 a14 a15 a16 a17 a18 a19 h => H hs tp bt a4 a5 a6 a7 a8 a9 a10 a11 a12 a13 a14 a15 a16 a17 a18 a19 (h 0 (by omega) 2 (by omega)))
  · exact gd_solve1 hw (fun hs tp bt a4 a5 a6 a7 a8 a9 a10 a11 a12 a13 a14 a15 a16 a17 a18 a19 h => H hs tp bt a4 a5 a6 a7 a8 a9 a10 a11 a12 a13 a14 a15 a16 a17 a18 a19 (h 0 (by omega) 2 (by omega)))
  · exact gd_solve2 hw (fun hs tp bt a4 a5 a6 a7 a8 a9 a10 a11 a12 a13 a14 a15 a16 a17 a18 a19 h => H hs tp bt a4 a5 a6 a7 a8 a9 a10 a11 a12 a13 a14 a15 a16 a17 a18 a19 (h 0 (by omega) 2 (by omega)))
  · exact gd_solve3 hw (fun hs tp bt a4 a5 a6 a7 a8 a9 a10 a11 a12 a13 a14 a15 a16 a17 a18 a19 h => H hs tp bt a4 a5 a6 a7 a8 a9 a10 a11 a12 a13 a14 a15 a16 a17 a18 a19 (h 0 (by omega) 2 (by omega)))
  · exact gd_solve4 hw H
theorem gd_fd_low {P Q R : Int} (g : P + Q + R < 0) (s t : Nat) : gd_fd P Q R s t = (-4000) := if_pos g
theorem gd_fd_fin {P Q R : Int} (g : ¬ P + Q + R < 0) (s t : Nat) : gd_fd P Q R s t = gd_z (gd_D P Q R s t) := if_neg g
theorem gd_ne {d c : Int} {x : Int32} (hx : x = gd_z c) (h : -1000 ≤ d ∧ d ≤ 1000) (hc : (-100000 ≤ c ∧ c < -1000) ∨ (1000 < c ∧ c < 10000000)) : ¬ gd_z d = x := by
  rw [hx, gd_zeq (by omega) (by omega) (by omega) (by omega)]
  omega
theorem gd_answer1 {post : Int32 → Prop} {P Q R : Int} {hs tp bt : Int32} {a4 a5 a6 a7 a8 a9 a10 a11 a12 a13 a14 a15 a16 a17 a18 a19 : Nat → Int32} {s t : Nat} (hs7 : s < 7) (ht7 : t < 7) {d : Int} (h : a4 (s * 7 + t) = gd_z d) (hd : -1000 ≤ d ∧ d ≤ 1000) (hp : post (gd_z d)) : wpX_answer post (7, hs, tp, bt, gd_a, gd_b, (gd_w P Q R), a4, a5, a6, a7, a8, a9, a10, a11, a12, a13, a14, a15, a16, a17, a18, a19) (nI s) (nI t) := by
  refine ⟨pk_in (s * 7 + t) 49 (by omega) (gd_ix s t), nm_r (e' := gd_z d) (by rw [gd_ix, nI_clamp (by omega), h]) (br_f (gd_ne gd_far hd (by omega)) hp)⟩
theorem gd_answer0 {post : Int32 → Prop} {P Q R : Int} {hs tp bt : Int32} {a4 a5 a6 a7 a8 a9 a10 a11 a12 a13 a14 a15 a16 a17 a18 a19 : Nat → Int32} {s t : Nat} (hs7 : s < 7) (ht7 : t < 7) (h : a4 (s * 7 + t) = (-4000)) (hp : post (-4000)) : wpX_answer post (7, hs, tp, bt, gd_a, gd_b, (gd_w P Q R), a4, a5, a6, a7, a8, a9, a10, a11, a12, a13, a14, a15, a16, a17, a18, a19) (nI s) (nI t) := by
  refine ⟨pk_in (s * 7 + t) 49 (by omega) (gd_ix s t), nm_r (e' := -4000) (by rw [gd_ix, nI_clamp (by omega), h]) (br_f (by decide) hp)⟩
theorem gd_leastP {post : Int32 → St2 → Prop} {P Q R : Int} {hs tp bt : Int32} {a4 a5 a6 a7 a8 a9 a10 a11 a12 a13 a14 a15 a16 a17 a18 a19 : Nat → Int32} {e : Nat} (he : e < 5) (hw : gd_wt P Q R) (H : ∀ (hs tp bt : Int32) (a4 a5 a6 a7 a8 a9 a10 a11 a12 a13 a14 a15 a16 a17 a18 a19 : Nat → Int32), post (if P + Q + R < 0 then (-4000) else gd_z (P + Q)) (7, hs, tp, bt, gd_a, gd_b, (gd_w P Q R), a4, a5, a6, a7, a8, a9, a10, a11, a12, a13, a14, a15, a16, a17, a18, a19)) : wpX_least post (7, hs, tp, bt, gd_a, gd_b, (gd_w P Q R), a4, a5, a6, a7, a8, a9, a10, a11, a12, a13, a14, a15, a16, a17, a18, a19) (nI e) 0 2 := by
  unfold wpX_least
  refine gd_point (s := 0) (by omega) (br_f (by decide) (gd_point (s := 2) (by omega) (br_f (by decide) (gd_engine he (br_f (by decide) (gd_solve he hw (fun hs tp bt a4 a5 a6 a7 a8 a9 a10 a11 a12 a13 a14 a15 a16 a17 a18 a19 h => ?_)))))))
  have hw' := hw
  unfold gd_wt at hw'
  have H' := H hs tp bt a4 a5 a6 a7 a8 a9 a10 a11 a12 a13 a14 a15 a16 a17 a18 a19
  by_cases g : P + Q + R < 0
  · rw [gd_fd_low g] at h
    rw [if_pos g] at H'
    exact gd_answer0 (s := 0) (t := 2) (by omega) (by omega) h H'
  · rw [gd_fd_fin g] at h
    rw [if_neg g] at H'
    exact gd_answer1 (s := 0) (t := 2) (d := P + Q) (by omega) (by omega) h (by omega) H'
theorem gd_aroundP {post : Int32 → St2 → Prop} {P Q R : Int} {hs tp bt : Int32} {a4 a5 a6 a7 a8 a9 a10 a11 a12 a13 a14 a15 a16 a17 a18 a19 : Nat → Int32} (hw : gd_wt P Q R) (H : ∀ (hs tp bt : Int32) (a4 a5 a6 a7 a8 a9 a10 a11 a12 a13 a14 a15 a16 a17 a18 a19 : Nat → Int32), post (if P + Q + R < 0 then (-4000) else gd_z (P + Q + R)) (7, hs, tp, bt, gd_a, gd_b, (gd_w P Q R), a4, a5, a6, a7, a8, a9, a10, a11, a12, a13, a14, a15, a16, a17, a18, a19)) : wpX_around post (7, hs, tp, bt, gd_a, gd_b, (gd_w P Q R), a4, a5, a6, a7, a8, a9, a10, a11, a12, a13, a14, a15, a16, a17, a18, a19) 1 := by
  unfold wpX_around
  refine gd_has1 (k := 1) (by omega) (br_f (by decide) (gd_solve0 hw (fun hs tp bt a4 a5 a6 a7 a8 a9 a10 a11 a12 a13 a14 a15 a16 a17 a18 a19 h => ⟨pk_in 1 20 (by omega), pk_in 1 20 (by omega), ?_⟩)))
  have hw' := hw
  unfold gd_wt at hw'
  have H' := H hs tp bt a4 a5 a6 a7 a8 a9 a10 a11 a12 a13 a14 a15 a16 a17 a18 a19
  have h21 := h 2 (by omega) 1 (by omega)
  by_cases g : P + Q + R < 0
  · rw [gd_fd_low g] at h21
    rw [if_pos g] at H'
    exact gd_answer0 (s := 2) (t := 1) (by omega) (by omega) h21 (br_f (by decide) (br_t rfl H'))
  · rw [gd_fd_fin g] at h21
    rw [if_neg g] at H'
    refine gd_answer1 (s := 2) (t := 1) (d := R + P) (by omega) (by omega) h21 (by omega) (br_f (gd_ne (c := -3000) (by decide) (by omega) (by omega)) (br_f (gd_ne (c := -4000) (by decide) (by omega) (by omega)) ⟨pk_in 1 20 (by omega), ?_⟩))
    rw [show gd_z (R + P) + gd_w P Q R (1 : Int32).toNatClampNeg = gd_z (P + Q + R) from by
      show gd_z (R + P) + gd_z Q = _
      rw [gd_za]
      congr 1
      omega]
    exact H'
theorem gd_finite1 {post : Int32 → Prop} {P Q R : Int} {hs tp bt : Int32} {a4 a5 a6 a7 a8 a9 a10 a11 a12 a13 a14 a15 a16 a17 a18 a19 : Nat → Int32} {s t : Nat} (hs7 : s < 7) (ht7 : t < 7) {d : Int} (h : a4 (s * 7 + t) = gd_z d) (hd : -1000 ≤ d ∧ d ≤ 1000) (hp : post 1) : wpX_isFinite post (7, hs, tp, bt, gd_a, gd_b, (gd_w P Q R), a4, a5, a6, a7, a8, a9, a10, a11, a12, a13, a14, a15, a16, a17, a18, a19) (nI s) (nI t) := by
  refine ⟨pk_in (s * 7 + t) 49 (by omega) (gd_ix s t), nm_r (e' := gd_z d) (by rw [gd_ix, nI_clamp (by omega), h]) (br_f (gd_ne gd_far hd (by omega)) (br_f (gd_ne (c := -4000) (by decide) hd (by omega)) hp))⟩
theorem gd_finite0 {post : Int32 → Prop} {P Q R : Int} {hs tp bt : Int32} {a4 a5 a6 a7 a8 a9 a10 a11 a12 a13 a14 a15 a16 a17 a18 a19 : Nat → Int32} {s t : Nat} (hs7 : s < 7) (ht7 : t < 7) (h : a4 (s * 7 + t) = (-4000)) (hp : post 0) : wpX_isFinite post (7, hs, tp, bt, gd_a, gd_b, (gd_w P Q R), a4, a5, a6, a7, a8, a9, a10, a11, a12, a13, a14, a15, a16, a17, a18, a19) (nI s) (nI t) := by
  refine ⟨pk_in (s * 7 + t) 49 (by omega) (gd_ix s t), nm_r (e' := -4000) (by rw [gd_ix, nI_clamp (by omega), h]) (br_f (by decide) (br_t rfl hp))⟩
/-- the tight arcs so far -/
def gd_ta (S : Int) (k : Nat) : Int32 := if k < 3 then nI (2 ^ k - 1) else if S = 0 then 7 else 3
theorem gd_ta_eq {P Q R : Int} : ∀ k, k < 3 → (gd_D P Q R 0 k + gd_wi P Q R k + gd_D P Q R ((k + 1) % 3) 2 = gd_D P Q R 0 2 ↔ (k < 2 ∨ P + Q + R = 0)) := by
  refine gd_3 (p := fun k => gd_D P Q R 0 k + gd_wi P Q R k + gd_D P Q R ((k + 1) % 3) 2 = gd_D P Q R 0 2 ↔ (k < 2 ∨ P + Q + R = 0)) ?_ ?_ ?_
  · show 0 + P + Q = P + Q ↔ _
    omega
  · show P + Q + 0 = P + Q ↔ _
    omega
  · show P + Q + R + (P + Q) = P + Q ↔ _
    omega
theorem gd_tight {post : Int32 → Prop} {P Q R : Int} {hs tp bt : Int32} {a4 a5 a6 a7 a8 a9 a10 a11 a12 a13 a14 a15 a16 a17 a18 a19 : Nat → Int32} (hw : gd_wt P Q R) (g : ¬ P + Q + R < 0) (h : gd_f3 P Q R a4) (hp : post (if P + Q + R = 0 then 7 else 3)) : wpX_tightArcs post (7, hs, tp, bt, gd_a, gd_b, (gd_w P Q R), a4, a5, a6, a7, a8, a9, a10, a11, a12, a13, a14, a15, a16, a17, a18, a19) 0 2 :=
  pk_loop (fun n k (u : Int32) => wX_tightArcs_5 post 0 2 7 hs tp bt gd_a gd_b (gd_w P Q R) a4 a5 a6 a7 a8 a9 a10 a11 a12 a13 a14 a15 a16 a17 a18 a19 n u (nI k)) (fun k u => u = gd_ta (P + Q + R) k) 20 0 0 (by omega) rfl
    (fun n u hu => pk_le 20 20 (fun _ => by rw [hu]; exact hp) (fun z => absurd z (by omega)))
    (fun n k u hk hu hw' => pk_le 20 k (fun z => absurd z (by omega)) (fun _ => by
      by_cases h3 : k < 3
      · have v3 : (k + 1) % 3 < 3 := by omega
        have e1 := h 0 (by omega) k h3
        have e2 := h ((k + 1) % 3) v3 2 (by omega)
        have e3 := h 0 (by omega) 2 (by omega)
        rw [gd_fd_fin g] at e1 e2 e3
        have b1 := gd_D_b hw 0 k
        have b2 := gd_D_b hw ((k + 1) % 3) 2
        have b3 := gd_D_b hw 0 2
        have bw := gd_wi_b hw k
        refine gd_has1 h3 (br_f (by decide) ⟨pk_in k 20 hk, ?_⟩)
        rw [nI_clamp (show k < 2 ^ 31 by omega), gd_a3 k h3, gd_b3 k h3]
        refine gd_finite1 (s := 0) (by omega) (by omega) e1 (by omega) (br_f (by decide) ⟨pk_in k 20 hk, gd_finite1 (t := 2) (by omega) (by omega) e2 (by omega) (br_f (by decide) ⟨pk_in k 20 hk, pk_in (0 * 7 + k) 49 (by omega) (gd_ix 0 k), pk_in k 20 hk, pk_in k 20 hk, pk_in ((k + 1) % 3 * 7 + 2) 49 (by omega) (gd_ix ((k + 1) % 3) 2),
          nm_r (e' := gd_z (gd_D P Q R 0 k + gd_wi P Q R k + gd_D P Q R ((k + 1) % 3) 2)) ?_ ⟨pk_in (0 * 7 + 2) 49 (by omega) (gd_ix 0 2), br_c (fun q => nm_e (nm_r (nI_1 k) (hw' _ ?_))) (fun q => nm_r (gd_or0 _) (nm_r (nI_1 k) (hw' _ ?_)))⟩⟩)⟩)
        · rw [show (0 : Int32) * 7 + nI k = nI (0 * 7 + k) from gd_ix 0 k, show nI ((k + 1) % 3) * 7 + (2 : Int32) = nI ((k + 1) % 3 * 7 + 2) from gd_ix _ 2, nI_clamp (by omega), nI_clamp (by omega), e1, e2, gd_w_wi k h3, gd_za, gd_za]
        · rw [show ((0 : Int32) * 7 + 2).toNatClampNeg = 0 * 7 + 2 from rfl, e3, gd_zeq (by omega) (by omega) (by omega) (by omega), gd_ta_eq k h3] at q
          rw [hu, gd_ta, if_pos h3, gd_or7 k h3, gd_ta]
          by_cases k2 : k < 2
          · rw [if_pos (by omega)]
          · rw [if_neg (by omega), if_pos (by omega), show k = 2 by omega]
            rfl
        · rw [show ((0 : Int32) * 7 + 2).toNatClampNeg = 0 * 7 + 2 from rfl, e3, gd_zeq (by omega) (by omega) (by omega) (by omega), gd_ta_eq k h3] at q
          rw [hu, gd_ta, if_pos h3, gd_ta, if_neg (by omega), if_neg (by omega), show k = 2 by omega]
          rfl
      · refine gd_has0 (by omega) hk (br_t rfl (nm_r (nI_1 k) (hw' _ ?_)))
        rw [hu, gd_ta, gd_ta, if_neg h3, if_neg (show ¬ k + 1 < 3 by omega)]))
theorem gd_onP {post : Int32 → St2 → Prop} {P Q R : Int} {hs tp bt : Int32} {a4 a5 a6 a7 a8 a9 a10 a11 a12 a13 a14 a15 a16 a17 a18 a19 : Nat → Int32} (hw : gd_wt P Q R) (H : ∀ (hs tp bt : Int32) (a4 a5 a6 a7 a8 a9 a10 a11 a12 a13 a14 a15 a16 a17 a18 a19 : Nat → Int32), post (if P + Q + R < 0 then 0 else if P + Q + R = 0 then 7 else 3) (7, hs, tp, bt, gd_a, gd_b, (gd_w P Q R), a4, a5, a6, a7, a8, a9, a10, a11, a12, a13, a14, a15, a16, a17, a18, a19)) : wpX_on post (7, hs, tp, bt, gd_a, gd_b, (gd_w P Q R), a4, a5, a6, a7, a8, a9, a10, a11, a12, a13, a14, a15, a16, a17, a18, a19) 0 2 := by
  unfold wpX_on
  refine gd_point (s := 0) (by omega) (br_f (by decide) (gd_point (s := 2) (by omega) (br_f (by decide) (gd_solve2 hw (fun hs tp bt a4 a5 a6 a7 a8 a9 a10 a11 a12 a13 a14 a15 a16 a17 a18 a19 h => ?_)))))
  have H' := H hs tp bt a4 a5 a6 a7 a8 a9 a10 a11 a12 a13 a14 a15 a16 a17 a18 a19
  have e3 := h 0 (by omega) 2 (by omega)
  by_cases g : P + Q + R < 0
  · rw [gd_fd_low g] at e3
    rw [if_pos g] at H'
    exact gd_finite0 (s := 0) (t := 2) (by omega) (by omega) e3 (br_t rfl H')
  · rw [gd_fd_fin g] at e3
    rw [if_neg g] at H'
    have b3 := gd_D_b hw 0 2
    exact gd_finite1 (s := 0) (t := 2) (by omega) (by omega) e3 (by omega) (br_f (by decide) (gd_tight hw g h H'))
theorem gd_lowP {post : Int32 → St2 → Prop} {P Q R : Int} {hs tp bt : Int32} {a4 a5 a6 a7 a8 a9 a10 a11 a12 a13 a14 a15 a16 a17 a18 a19 : Nat → Int32} (hw : gd_wt P Q R) (H : ∀ (hs tp bt : Int32) (a4 a5 a6 a7 a8 a9 a10 a11 a12 a13 a14 a15 a16 a17 a18 a19 : Nat → Int32), post (if P + Q + R < 0 then 7 else 0) (7, hs, tp, bt, gd_a, gd_b, (gd_w P Q R), a4, a5, a6, a7, a8, a9, a10, a11, a12, a13, a14, a15, a16, a17, a18, a19)) : wpX_low post (7, hs, tp, bt, gd_a, gd_b, (gd_w P Q R), a4, a5, a6, a7, a8, a9, a10, a11, a12, a13, a14, a15, a16, a17, a18, a19) 1 := by
  unfold wpX_low
  refine gd_point (s := 1) (by omega) (br_f (by decide) (gd_solve3 hw (fun hs tp bt a4 a5 a6 a7 a8 a9 a10 a11 a12 a13 a14 a15 a16 a17 a18 a19 h => ?_)))
  have H' := H hs tp bt a4 a5 a6 a7 a8 a9 a10 a11 a12 a13 a14 a15 a16 a17 a18 a19
  refine pk_loop (fun n t (u : Int32) => wX_low_20 post 1 7 hs tp bt gd_a gd_b (gd_w P Q R) a4 a5 a6 a7 a8 a9 a10 a11 a12 a13 a14 a15 a16 a17 a18 a19 n u (nI t)) (fun t u => u = if P + Q + R < 0 then nI (2 ^ (min t 3) - 1) else 0) 7 0 0 (by omega) (by split <;> rfl) ?_ ?_
  · intro n u hu
    refine pk_le 7 7 (fun _ => ?_) (fun z => absurd z (by omega))
    rw [hu]
    exact H'
  · intro n t u ht hu hw'
    refine pk_le 7 t (fun z => absurd z (by omega)) (fun _ => ?_)
    rw [show (1 : Int32) * 7 + nI t = nI (1 * 7 + t) from gd_ix 1 t, nI_clamp (by omega)]
    have e := h 1 (by omega) t ht
    by_cases c : P + Q + R < 0 ∧ t < 3
    · rw [if_pos ⟨by omega, c.2⟩, gd_fd_low c.1] at e
      refine ⟨pk_in (1 * 7 + t) 49 (by omega), br_t e (nm_e (nm_r (nI_1 t) (hw' _ ?_)))⟩
      rw [hu, if_pos c.1, if_pos c.1, show min t 3 = t by omega, show min (t + 1) 3 = t + 1 by omega, gd_or7 t c.2]
    · refine ⟨pk_in (1 * 7 + t) 49 (by omega), br_f ?_ (nm_r (gd_or0 _) (nm_r (nI_1 t) (hw' _ ?_)))⟩
      · rw [e]
        by_cases t3 : t < 3
        · rw [if_pos ⟨by omega, t3⟩, gd_fd_fin (fun g => c ⟨g, t3⟩)]
          have b3 := gd_D_b hw 1 t
          exact gd_ne (c := -4000) (by decide) (by omega) (by omega)
        · rw [if_neg (fun q => t3 q.2), if_neg (by omega)]
          decide
      · rw [hu]
        by_cases g : P + Q + R < 0
        · rw [if_pos g, if_pos g, show min (t + 1) 3 = min t 3 by omega]
        · rw [if_neg g, if_neg g]
end
section
/-- the last point that got better, and by which arc each came -/
def gd_lk (P Q R : Int) (a c : Nat → Int32) : Nat → Int32 × (Nat → Int32)
  | 0 => ((-1), c)
  | k + 1 => if k < 3 then (if gd_pk P Q R a k ((k + 1) % 3) ≤ gd_pk P Q R a k k + gd_w P Q R k then gd_lk P Q R a c k else (nI ((k + 1) % 3), upd (gd_lk P Q R a c k).2 ((k + 1) % 3) (nI k))) else gd_lk P Q R a c k
theorem gd_b42 {post : Int32 → St2 → Prop} {J : Int32 → Int32 → (Nat → Int32) → (Nat → Int32) → (Nat → Int32) → (Nat → Int32) → (Nat → Int32) → (Nat → Int32) → (Nat → Int32) → (Nat → Int32) → (Nat → Int32) → (Nat → Int32) → (Nat → Int32) → (Nat → Int32) → (Nat → Int32) → (Nat → Int32) → (Nat → Int32) → (Nat → Int32) → (Nat → Int32) → (Nat → Int32) → (Nat → Int32) → Prop} {P Q R : Int} {hs tp bt : Int32} {a4 a5 a6 a7 a8 a9 a10 a11 a12 a13 a14 a15 a16 a17 a18 a19 : Nat → Int32} {A B C : Int} {r : Nat} (hω : ∀ k, k < 3 → gd_w P Q R k * bt - tp = gd_w A B C k)
    (H : J (gd_lk A B C a6 a16 20).1 (nI (r + 1)) gd_a gd_b (gd_w P Q R) a4 a5 (gd_pk A B C a6 20) a7 a8 a9 a10 a11 a12 a13 a14 a15 ((gd_lk A B C a6 a16 20).2) a17 a18 a19) : ∃ n, wX_findBetterRing_42 post J (nI r) 7 hs tp bt n (-1) 0 gd_a gd_b (gd_w P Q R) a4 a5 a6 a7 a8 a9 a10 a11 a12 a13 a14 a15 a16 a17 a18 a19 :=
  pk_loop (fun n k (u : Int32 × (Nat → Int32) × (Nat → Int32)) => wX_findBetterRing_42 post J (nI r) 7 hs tp bt n u.1 (nI k) gd_a gd_b (gd_w P Q R) a4 a5 u.2.1 a7 a8 a9 a10 a11 a12 a13 a14 a15 u.2.2 a17 a18 a19) (fun k u => u.1 = (gd_lk A B C a6 a16 k).1 ∧ u.2.1 = gd_pk A B C a6 k ∧ u.2.2 = (gd_lk A B C a6 a16 k).2) 20 0 ((-1), a6, a16) (by omega) ⟨rfl, rfl, rfl⟩
    (fun n u hu => pk_le 20 20 (fun _ => nm_r (nI_1 r) (by rw [hu.1, hu.2.1, hu.2.2]; exact H)) (fun z => absurd z (by omega)))
    (fun n k u hk hu hw => pk_le 20 k (fun z => absurd z (by omega)) (fun _ => ⟨pk_in k 20 hk, by
      obtain ⟨u1, u2, u3⟩ := hu
      by_cases h3 : k < 3
      · have v7 : (k + 1) % 3 < 7 := by omega
        refine nm_r (e' := gd_w A B C k) (by rw [nI_clamp (by omega), hω k h3]) (gd_has1 h3 (br_f (by decide) ?_))
        rw [nI_clamp (show k < 2 ^ 31 by omega), gd_a3 k h3, gd_b3 k h3, nI_clamp (show k < 2 ^ 31 by omega), nI_clamp (show (k + 1) % 3 < 2 ^ 31 by omega)]
        refine ⟨pk_in k 20 hk, pk_in k 7 (by omega), pk_in k 20 hk, pk_in ((k + 1) % 3) 7 v7, br_c (fun g => nm_r (nI_1 k) (hw u ⟨?_, ?_, ?_⟩))
          (fun g => ⟨pk_in k 20 hk, pk_in k 20 hk, pk_in k 7 (by omega), pk_in ((k + 1) % 3) 7 v7, nm_e ⟨pk_in k 20 hk, pk_in ((k + 1) % 3) 7 v7, nm_r (e' := upd u.2.2 ((k + 1) % 3) (nI k)) (by rw [gd_byte k (by omega)]) ⟨pk_in k 20 hk, nm_e (nm_r (nI_1 k) (hw (nI ((k + 1) % 3), upd u.2.1 ((k + 1) % 3) (u.2.1 k + gd_w A B C k), upd u.2.2 ((k + 1) % 3) (nI k)) ⟨?_, ?_, ?_⟩))⟩⟩⟩)⟩
        · rw [u2] at g
          rw [gd_lk, if_pos h3, if_pos g, u1]
        · rw [gd_pk, if_pos h3, ← u2, gd_pl, if_pos g]
        · rw [u2] at g
          rw [gd_lk, if_pos h3, if_pos g, u3]
        · rw [u2] at g
          rw [gd_lk, if_pos h3, if_neg g]
        · rw [gd_pk, if_pos h3, ← u2, gd_pl, if_neg g]
        · rw [u2] at g
          rw [gd_lk, if_pos h3, if_neg g, u3]
      · exact nm_e (gd_has0 (by omega) hk (br_t rfl (nm_r (nI_1 k) (hw u ⟨by rw [gd_lk, if_neg h3, u1], by rw [gd_pk, if_neg h3, u2], by rw [gd_lk, if_neg h3, u3]⟩))))⟩))
theorem gd_b32 {post : Int32 → St2 → Prop} {P Q R : Int} {hs tp bt : Int32} {a4 a5 a6 a7 a8 a9 a10 a11 a12 a13 a14 a15 a16 a17 a18 a19 : Nat → Int32} {A B C : Int} (hω : ∀ k, k < 3 → gd_w P Q R k * bt - tp = gd_w A B C k)
    (H : ∀ c16 : Nat → Int32, ∃ n, wX_findBetterRing_161 post 7 hs tp bt gd_a gd_b (gd_w P Q R) a4 a5 (gd_pr A B C a6 8) a7 a8 a9 a10 a11 a12 a13 a14 a15 ((gd_lk A B C (gd_pr A B C a6 7) c16 20).2) a17 a18 a19 n (gd_lk A B C (gd_pr A B C a6 7) c16 20).1 0) : ∃ n, wX_findBetterRing_32 post 7 hs tp bt n (-1) 0 gd_a gd_b (gd_w P Q R) a4 a5 a6 a7 a8 a9 a10 a11 a12 a13 a14 a15 a16 a17 a18 a19 :=
  pk_loop (fun n r (u : Int32 × (Nat → Int32) × (Nat → Int32)) => wX_findBetterRing_32 post 7 hs tp bt n u.1 (nI r) gd_a gd_b (gd_w P Q R) a4 a5 u.2.1 a7 a8 a9 a10 a11 a12 a13 a14 a15 u.2.2 a17 a18 a19)
    (fun r u => u.2.1 = gd_pr A B C a6 r ∧ (r = 8 → ∃ c16, u.1 = (gd_lk A B C (gd_pr A B C a6 7) c16 20).1 ∧ u.2.2 = (gd_lk A B C (gd_pr A B C a6 7) c16 20).2)) 8 0 ((-1), a6, a16) (by omega) ⟨rfl, fun t => absurd t (by omega)⟩
    (fun n u hu => pk_lt 7 8 (fun _ => by
      obtain ⟨c16, e1, e2⟩ := hu.2 rfl
      rw [e1, e2, hu.1]
      exact H c16) (fun z => absurd z (by omega)))
    (fun n r u hr hu hw => pk_lt 7 r (fun z => absurd z (by omega)) (fun _ => gd_b42 hω (hw (_, _, _) ⟨by rw [hu.1]; rfl, fun c => ⟨u.2.2, by
      have r7 : r = 7 := by omega
      subst r7
      rw [hu.1]
      exact ⟨rfl, rfl⟩⟩⟩)))
theorem gd_b2 {post : Int32 → St2 → Prop} {P Q R : Int} {hs tp bt : Int32} {a4 a5 a6 a7 a8 a9 a10 a11 a12 a13 a14 a15 a16 a17 a18 a19 : Nat → Int32} {A B C : Int} (hω : ∀ k, k < 3 → gd_w P Q R k * bt - tp = gd_w A B C k)
    (H : ∀ b6 c16 : Nat → Int32, gd_T b6 0 0 0 → ∃ n, wX_findBetterRing_161 post 7 hs tp bt gd_a gd_b (gd_w P Q R) a4 a5 (gd_pr A B C b6 8) a7 a8 a9 a10 a11 a12 a13 a14 a15 ((gd_lk A B C (gd_pr A B C b6 7) c16 20).2) a17 a18 a19 n (gd_lk A B C (gd_pr A B C b6 7) c16 20).1 0) : wpX_findBetterRing post (7, hs, tp, bt, gd_a, gd_b, (gd_w P Q R), a4, a5, a6, a7, a8, a9, a10, a11, a12, a13, a14, a15, a16, a17, a18, a19) :=
  pk_loop (fun n i (u : (Nat → Int32) × (Nat → Int32)) => wX_findBetterRing_2 post 7 hs tp bt n (nI i) gd_a gd_b (gd_w P Q R) a4 a5 u.1 a7 a8 a9 a10 a11 a12 a13 a14 a15 u.2 a17 a18 a19) (fun i u => ∀ j, j < i → u.1 j = 0) 7 0 (a6, a16) (by omega) (fun j h => absurd h (by omega))
    (fun n u hu => pk_le 7 7 (fun _ => gd_b32 hω (fun c16 => H u.1 c16 ⟨by rw [hu 0 (by omega)]; exact gd_z0, by rw [hu 1 (by omega)]; exact gd_z0, by rw [hu 2 (by omega)]; exact gd_z0⟩)) (fun z => absurd z (by omega)))
    (fun n i u hi hu hw => pk_le 7 i (fun z => absurd z (by omega)) (fun _ => ⟨pk_in i 7 hi, nm_e ⟨pk_in i 7 hi, nm_e (nm_r (nI_1 i) (hw (_, _) (gd_fill (f := fun _ => 0) (nI_clamp (by omega)) hu rfl)))⟩⟩))
theorem gd_lk_ge (P Q R : Int) (a c : Nat → Int32) (d : Nat) : gd_lk P Q R a c (3 + d) = gd_lk P Q R a c 3 := by
  induction d with
  | zero => rfl
  | succ d ih =>
    show gd_lk P Q R a c (3 + d + 1) = _
    rw [gd_lk, if_neg (by omega), ih]
/-- all three arcs make it better; none does -/
theorem gd_lk_all {P Q R x y z : Int} {a c : Nat → Int32} (h : gd_T a x y z) (hw : gd_w1 P Q R) (hx : -9000 ≤ x ∧ x ≤ 9000) (hy : -9000 ≤ y ∧ y ≤ 9000) (hz : -9000 ≤ z ∧ z ≤ 9000)
    (g1 : x + P < y) (g2 : x + P + Q < z) (g3 : x + P + Q + R < x) : gd_lk P Q R a c 20 = (nI 0, upd (upd (upd c 1 (nI 0)) 2 (nI 1)) 0 (nI 2)) := by
  have hw' := hw
  unfold gd_w1 at hw'
  have m1 : gd_mp x P y = x + P := by unfold gd_mp; rw [if_pos g1]
  have m2 : gd_mp (x + P) Q z = x + P + Q := by unfold gd_mp; rw [if_pos g2]
  obtain ⟨t0, c0⟩ := gd_pl0 h hw (by unfold gd_pb; omega) (by unfold gd_pb; omega)
  rw [m1] at t0
  obtain ⟨t1, c1⟩ := gd_pl1 t0 hw (by unfold gd_pb; omega) (by unfold gd_pb; omega)
  rw [m2] at t1
  obtain ⟨t2, c2⟩ := gd_pl2 t1 hw (by unfold gd_pb; omega) (by unfold gd_pb; omega)
  have s1 : gd_lk P Q R a c 1 = (nI 1, upd c 1 (nI 0)) := by
    rw [gd_lk, if_pos (by decide), gd_pk, if_neg (show ¬ a ((0 + 1) % 3) ≤ a 0 + gd_w P Q R 0 from c0.mpr g1)]
    rfl
  have s2 : gd_lk P Q R a c 2 = (nI 2, upd (upd c 1 (nI 0)) 2 (nI 1)) := by
    rw [gd_lk, if_pos (by decide), gd_pk1, if_neg (show ¬ gd_pl P Q R a 0 ((1 + 1) % 3) ≤ gd_pl P Q R a 0 1 + gd_w P Q R 1 from c1.mpr g2), s1]
  rw [show gd_lk P Q R a c 20 = gd_lk P Q R a c 3 from gd_lk_ge P Q R a c 17, gd_lk, if_pos (by decide), gd_pk2, if_neg (show ¬ gd_pl P Q R (gd_pl P Q R a 0) 1 ((2 + 1) % 3) ≤ gd_pl P Q R (gd_pl P Q R a 0) 1 2 + gd_w P Q R 2 from c2.mpr g3), s2]
theorem gd_lk_none {P Q R x y z : Int} {a c : Nat → Int32} (h : gd_T a x y z) (hw : gd_w1 P Q R) (hx : -9000 ≤ x ∧ x ≤ 9000) (hy : -9000 ≤ y ∧ y ≤ 9000) (hz : -9000 ≤ z ∧ z ≤ 9000)
    (g1 : y ≤ x + P) (g2 : z ≤ y + Q) (g3 : x ≤ z + R) : gd_lk P Q R a c 20 = ((-1), c) := by
  obtain ⟨t0, c0⟩ := gd_pl0 h hw (by unfold gd_pb; omega) (by unfold gd_pb; omega)
  rw [gd_mp_same g1] at t0
  obtain ⟨t1, c1⟩ := gd_pl1 t0 hw (by unfold gd_pb; omega) (by unfold gd_pb; omega)
  rw [gd_mp_same g2] at t1
  obtain ⟨t2, c2⟩ := gd_pl2 t1 hw (by unfold gd_pb; omega) (by unfold gd_pb; omega)
  have d0 : a ((0 + 1) % 3) ≤ a 0 + gd_w P Q R 0 := Classical.byContradiction (fun t => absurd (c0.mp t) (by omega))
  have d1 : gd_pl P Q R a 0 ((1 + 1) % 3) ≤ gd_pl P Q R a 0 1 + gd_w P Q R 1 := Classical.byContradiction (fun t => absurd (c1.mp t) (by omega))
  have d2 : gd_pl P Q R (gd_pl P Q R a 0) 1 ((2 + 1) % 3) ≤ gd_pl P Q R (gd_pl P Q R a 0) 1 2 + gd_w P Q R 2 := Classical.byContradiction (fun t => absurd (c2.mp t) (by omega))
  rw [show gd_lk P Q R a c 20 = gd_lk P Q R a c 3 from gd_lk_ge P Q R a c 17, gd_lk, if_pos (by decide), gd_pk2, if_pos d2, gd_lk, if_pos (show 1 < 3 by decide), gd_pk1, if_pos d1, gd_lk, if_pos (show 0 < 3 by decide), gd_pk, if_pos d0, gd_lk]
/-- weights all below 0: every round makes all better -/
theorem gd_pr_all {A B C : Int} {a : Nat → Int32} (hw : gd_w1 A B C) (hA : A < 0) (hB : B < 0) (hC : C < 0) (h : gd_T a 0 0 0) (n : Nat) (hn : n ≤ 10) :
    ∃ X : Int, -(600 * (n : Int)) ≤ X ∧ X ≤ 0 ∧ gd_T (gd_pr A B C a (n + 1)) (X + (A + B + C)) (A + X) (A + B + X) := by
  have hw' := hw
  unfold gd_w1 at hw'
  induction n with
  | zero =>
    refine ⟨0, by omega, by omega, ?_⟩
    have t := (gd_pT h hw (by omega) (by omega) (by omega)).1
    have m1 : gd_mp 0 A 0 = A + 0 := by unfold gd_mp; rw [if_pos (by omega)]; omega
    have m2 : gd_mp (A + 0) B 0 = A + B + 0 := by unfold gd_mp; rw [if_pos (by omega)]; omega
    have m3 : gd_mp (A + B + 0) C 0 = 0 + (A + B + C) := by unfold gd_mp; rw [if_pos (by omega)]; omega
    rw [m1, m2, m3] at t
    exact t
  | succ n ih =>
    obtain ⟨X, h1, h2, t0⟩ := ih (by omega)
    clear ih
    refine ⟨X + (A + B + C), by omega, by omega, ?_⟩
    have t := (gd_pT t0 hw (by omega) (by omega) (by omega)).1
    have m1 : gd_mp (X + (A + B + C)) A (A + X) = A + (X + (A + B + C)) := by unfold gd_mp; rw [if_pos (by omega)]; omega
    have m2 : gd_mp (A + (X + (A + B + C))) B (A + B + X) = A + B + (X + (A + B + C)) := by unfold gd_mp; rw [if_pos (by omega)]; omega
    have m3 : gd_mp (A + B + (X + (A + B + C))) C (X + (A + B + C)) = X + (A + B + C) + (A + B + C) := by unfold gd_mp; rw [if_pos (by omega)]; omega
    rw [m1, m2, m3] at t
    exact t
/-- back along the arcs -/
theorem gd_b161 {post : Int32 → St2 → Prop} {P Q R : Int} {hs tp bt : Int32} {a4 a5 a6 a7 a8 a9 a10 a11 a12 a13 a14 a15 a16 a17 a18 a19 : Nat → Int32} (h0 : a16 0 = nI 2) (h1 : a16 1 = nI 0) (h2 : a16 2 = nI 1) (H : post (nI 2) (7, hs, tp, bt, gd_a, gd_b, (gd_w P Q R), a4, a5, a6, a7, a8, a9, a10, a11, a12, a13, a14, a15, a16, a17, a18, a19)) : ∃ n, wX_findBetterRing_161 post 7 hs tp bt gd_a gd_b (gd_w P Q R) a4 a5 a6 a7 a8 a9 a10 a11 a12 a13 a14 a15 a16 a17 a18 a19 n (nI 0) 0 :=
  pk_loop (fun n i (u : Int32) => wX_findBetterRing_161 post 7 hs tp bt gd_a gd_b (gd_w P Q R) a4 a5 a6 a7 a8 a9 a10 a11 a12 a13 a14 a15 a16 a17 a18 a19 n u (nI i)) (fun i u => u = nI ((21 - i) % 3)) 7 0 (nI 0) (by omega) rfl
    (fun n u hu => pk_le 7 7 (fun _ => by rw [hu]; exact H) (fun z => absurd z (by omega)))
    (fun n i u hi hu hw => pk_le 7 i (fun z => absurd z (by omega)) (fun _ => by
      have hc : (21 - i) % 3 < 3 := by omega
      have e : ∀ c, c < 3 → a16 c = nI ((c + 2) % 3) := gd_3 (p := fun c => a16 c = nI ((c + 2) % 3)) h0 h1 h2
      rw [hu]
      refine br_f (nI_pos (by omega)) ?_
      rw [nI_clamp (show (21 - i) % 3 < 2 ^ 31 by omega), e _ hc, nI_clamp (show ((21 - i) % 3 + 2) % 3 < 2 ^ 31 by omega)]
      refine ⟨pk_in ((21 - i) % 3) 7 (by omega), pk_in (((21 - i) % 3 + 2) % 3) 20 (by omega), nm_r (gd_a3 _ (by omega)) (nm_r (nI_1 i) (hw _ ?_))⟩
      congr 1
      omega))
theorem gd_ringA {post : Int32 → St2 → Prop} {P Q R : Int} {hs : Int32} {a4 a5 a6 a7 a8 a9 a10 a11 a12 a13 a14 a15 a16 a17 a18 a19 : Nat → Int32} (hw : gd_wt P Q R)
    (H : ∀ b6 b16 : Nat → Int32, b16 0 = nI 2 → b16 1 = nI 0 → b16 2 = nI 1 → post (nI 2) (7, hs, 21, 1, gd_a, gd_b, (gd_w P Q R), a4, a5, b6, a7, a8, a9, a10, a11, a12, a13, a14, a15, b16, a17, a18, a19)) : wpX_findBetterRing post (7, hs, 21, 1, gd_a, gd_b, (gd_w P Q R), a4, a5, a6, a7, a8, a9, a10, a11, a12, a13, a14, a15, a16, a17, a18, a19) := by
  unfold gd_wt at hw
  refine gd_b2 (A := P * 1 - 21) (B := Q * 1 - 21) (C := R * 1 - 21) (gd_3 ?_ ?_ ?_) (fun b6 c16 h => ?_)
  · show gd_z P * 1 - 21 = gd_z (P * 1 - 21)
    rw [gd_z1, show (21 : Int32) = gd_z 21 by decide, gd_zm, gd_zs]
  · show gd_z Q * 1 - 21 = gd_z (Q * 1 - 21)
    rw [gd_z1, show (21 : Int32) = gd_z 21 by decide, gd_zm, gd_zs]
  · show gd_z R * 1 - 21 = gd_z (R * 1 - 21)
    rw [gd_z1, show (21 : Int32) = gd_z 21 by decide, gd_zm, gd_zs]
  · have w1 : gd_w1 (P * 1 - 21) (Q * 1 - 21) (R * 1 - 21) := by unfold gd_w1; omega
    obtain ⟨X, b1, b2, t⟩ := gd_pr_all w1 (by omega) (by omega) (by omega) h 6 (by omega)
    rw [gd_lk_all t w1 (by omega) (by omega) (by omega) (by omega) (by omega) (by omega)]
    have e0 : upd (upd (upd c16 1 (nI 0)) 2 (nI 1)) 0 (nI 2) 0 = nI 2 := pk_us
    have e1 : upd (upd (upd c16 1 (nI 0)) 2 (nI 1)) 0 (nI 2) 1 = nI 0 := by rw [pk_un (by decide), pk_un (by decide), pk_us]
    have e2 : upd (upd (upd c16 1 (nI 0)) 2 (nI 1)) 0 (nI 2) 2 = nI 1 := by rw [pk_un (by decide), pk_us]
    exact gd_b161 e0 e1 e2 (H _ _ e0 e1 e2)
theorem gd_ringB {post : Int32 → St2 → Prop} {P Q R : Int} {hs : Int32} {a4 a5 a6 a7 a8 a9 a10 a11 a12 a13 a14 a15 a16 a17 a18 a19 : Nat → Int32} (hw : gd_wt P Q R)
    (H : ∀ b6 b16 : Nat → Int32, (∀ k, k < 3 → b6 k + (gd_w P Q R k * 3 - gd_z (P + Q + R)) = b6 ((k + 1) % 3)) → post (-1) (7, hs, gd_z (P + Q + R), 3, gd_a, gd_b, (gd_w P Q R), a4, a5, b6, a7, a8, a9, a10, a11, a12, a13, a14, a15, b16, a17, a18, a19)) : wpX_findBetterRing post (7, hs, gd_z (P + Q + R), 3, gd_a, gd_b, (gd_w P Q R), a4, a5, a6, a7, a8, a9, a10, a11, a12, a13, a14, a15, a16, a17, a18, a19) := by
  unfold gd_wt at hw
  have hω : ∀ k, k < 3 → gd_w P Q R k * 3 - gd_z (P + Q + R) = gd_w (P * 3 - (P + Q + R)) (Q * 3 - (P + Q + R)) (R * 3 - (P + Q + R)) k := by
    refine gd_3 ?_ ?_ ?_
    · show gd_z P * 3 - gd_z (P + Q + R) = gd_z (P * 3 - (P + Q + R))
      rw [show (3 : Int32) = gd_z 3 by decide, gd_zm, gd_zs]
    · show gd_z Q * 3 - gd_z (P + Q + R) = gd_z (Q * 3 - (P + Q + R))
      rw [show (3 : Int32) = gd_z 3 by decide, gd_zm, gd_zs]
    · show gd_z R * 3 - gd_z (P + Q + R) = gd_z (R * 3 - (P + Q + R))
      rw [show (3 : Int32) = gd_z 3 by decide, gd_zm, gd_zs]
  refine gd_b2 hω (fun b6 c16 h => ?_)
  have w1 : gd_w1 (P * 3 - (P + Q + R)) (Q * 3 - (P + Q + R)) (R * 3 - (P + Q + R)) := by unfold gd_w1; omega
  obtain ⟨x, y, z, t, hx, hy, hz, f1, f2, f3⟩ := gd_p_seven w1 h (by omega)
  rw [gd_lk_none t w1 (by omega) (by omega) (by omega) f1 f2 f3]
  have t8 := gd_pr_stay w1 t (by omega) (by omega) (by omega) f1 f2 f3 1
  rw [← show gd_pr (P * 3 - (P + Q + R)) (Q * 3 - (P + Q + R)) (R * 3 - (P + Q + R)) b6 8 = gd_pr (P * 3 - (P + Q + R)) (Q * 3 - (P + Q + R)) (R * 3 - (P + Q + R)) (gd_pr (P * 3 - (P + Q + R)) (Q * 3 - (P + Q + R)) (R * 3 - (P + Q + R)) b6 7) 1 from gd_pr_add _ _ _ b6 7 1] at t8
  refine ⟨0 + 1, br_f (by decide) (br_t (show (-1 : Int32) < 0 by decide) (H _ _ (fun k hk => ?_)))⟩
  rw [hω k hk]
  revert k hk
  refine gd_3 ?_ ?_ ?_
  · show gd_pr _ _ _ b6 8 0 + gd_z (P * 3 - (P + Q + R)) = gd_pr _ _ _ b6 8 1
    rw [t8.1, t8.2.1, gd_za]
    congr 1
    omega
  · show gd_pr _ _ _ b6 8 1 + gd_z (Q * 3 - (P + Q + R)) = gd_pr _ _ _ b6 8 2
    rw [t8.2.1, t8.2.2, gd_za]
    congr 1
    omega
  · show gd_pr _ _ _ b6 8 2 + gd_z (R * 3 - (P + Q + R)) = gd_pr _ _ _ b6 8 0
    rw [t8.2.2, t8.1, gd_za]
    congr 1
    omega
theorem gd_rings {post : Int32 → St2 → Prop} {P Q R : Int} {hs tp bt : Int32} {a4 a5 a6 a7 a8 a9 a10 a11 a12 a13 a14 a15 a16 a17 a18 a19 : Nat → Int32} (hw : gd_wt P Q R)
    (H : ∀ b6 b16 : Nat → Int32, (∀ k, k < 3 → b6 k + (gd_w P Q R k * 3 - gd_z (P + Q + R)) = b6 ((k + 1) % 3)) → post 1 (7, hs, gd_z (P + Q + R), 3, gd_a, gd_b, (gd_w P Q R), a4, a5, b6, a7, a8, a9, a10, a11, a12, a13, a14, a15, b16, a17, a18, a19)) : wpX_findMeanByRings post (7, hs, tp, bt, gd_a, gd_b, (gd_w P Q R), a4, a5, a6, a7, a8, a9, a10, a11, a12, a13, a14, a15, a16, a17, a18, a19) := by
  unfold wpX_findMeanByRings
  refine gd_ringA hw (fun b6 b16 h0 h1 h2 => br_f (by decide) ⟨1 + 1, br_f (by decide) (br_f (by decide) ⟨3 + 1, br_f (by decide) ?_⟩)⟩)
  rw [show (nI 2).toNatClampNeg = 2 from rfl, h2, show (nI 1).toNatClampNeg = 1 from rfl]
  refine ⟨pk_in 2 7 (by omega), pk_in 1 20 (by omega), nm_r (e' := gd_z Q) (show (0 : Int32) + gd_z Q = gd_z Q by rw [gd_z0, gd_za, Int.zero_add]) (nm_r (e' := 1) (by decide) ⟨pk_in 2 7 (by omega), pk_in 1 20 (by omega), nm_r (e' := nI 1) rfl (br_f (by decide) (br_f (by decide) ?_))⟩)⟩
  rw [show (nI 1).toNatClampNeg = 1 from rfl, h1, show (nI 0).toNatClampNeg = 0 from rfl]
  refine ⟨pk_in 1 7 (by omega), pk_in 0 20 (by omega), nm_r (e' := gd_z (Q + P)) (gd_za Q P) (nm_r (e' := 2) (by decide) ⟨pk_in 1 7 (by omega), pk_in 0 20 (by omega), nm_r (e' := nI 0) rfl (br_f (by decide) (br_f (by decide) ?_))⟩)⟩
  rw [show (nI 0).toNatClampNeg = 0 from rfl, h0, show (nI 2).toNatClampNeg = 2 from rfl]
  refine ⟨pk_in 0 7 (by omega), pk_in 2 20 (by omega), nm_r (e' := gd_z (P + Q + R)) (show gd_z (Q + P) + gd_z R = gd_z (P + Q + R) by rw [gd_za]; congr 1; omega) (nm_r (e' := 3) (by decide) ⟨pk_in 0 7 (by omega), pk_in 2 20 (by omega), nm_r (e' := nI 2) rfl (br_t rfl (br_t rfl ?_))⟩)⟩
  exact gd_ringB hw (fun b6 b16 h => nm_r (e' := 1) (by decide) (br_f (by decide) (br_t (by decide) ⟨rfl, H b6 b16 h⟩)))
end
section
/-- what the walk of n arcs that ends at v weighs -/
def gd_W (P Q R : Int) : Nat → Nat → Int
  | 0, _ => 0
  | n + 1, v => gd_W P Q R n ((v + 2) % 3) + gd_wi P Q R ((v + 2) % 3)
theorem gd_W_b {P Q R : Int} (hw : gd_wt P Q R) (n v : Nat) : -(20 * (n : Int)) ≤ gd_W P Q R n v ∧ gd_W P Q R n v ≤ 20 * (n : Int) := by
  induction n generalizing v with
  | zero =>
    rw [gd_W]
    omega
  | succ n ih =>
    have h1 := gd_wi_b hw ((v + 2) % 3)
    have h2 := ih ((v + 2) % 3)
    rw [gd_W]
    omega
theorem gd_W3 (P Q R : Int) (n v : Nat) (hv : v < 3) : gd_W P Q R (n + 3) v = gd_W P Q R n v + (P + Q + R) := by
  rw [gd_W, gd_W, gd_W, show (((v + 2) % 3 + 2) % 3 + 2) % 3 = v by omega]
  have s := gd_wi_s P Q R v
  rw [show v % 3 = v by omega] at s
  rw [show ((v + 2) % 3 + 2) % 3 = (v + 1) % 3 by omega]
  omega
theorem gd_pred {n : Nat} (h : 1 ≤ n) : nI n - 1 = nI (n - 1) := pk_sub (b := 1) h
/-- the table of counts in round n, behind k arcs -/
def gd_C (P Q R : Int) (n k : Nat) (a : Nat → Int32) : Prop := ∀ m, m < 8 → ∀ v, v < 7 → a (m * 7 + v) = if m = 0 then 0 else if v < 3 ∧ (m < n ∨ (m = n ∧ (v + 2) % 3 < k)) then gd_z (gd_W P Q R m v) else 1048576
theorem gd_C_up {P Q R : Int} {n k k' : Nat} {a : Nat → Int32} (h : gd_C P Q R n k a) (h3 : 3 ≤ k) (h3' : 3 ≤ k') : gd_C P Q R n k' a := by
  intro m hm v hv
  rw [h m hm v hv]
  by_cases m0 : m = 0
  · rw [if_pos m0, if_pos m0]
  · rw [if_neg m0, if_neg m0]
    by_cases c : v < 3 ∧ (m < n ∨ (m = n ∧ (v + 2) % 3 < k))
    · rw [if_pos c, if_pos (by omega)]
    · rw [if_neg c, if_neg (by omega)]
theorem gd_C_next {P Q R : Int} {n k : Nat} {a : Nat → Int32} (h : gd_C P Q R n k a) (h3 : 3 ≤ k) : gd_C P Q R (n + 1) 0 a := by
  intro m hm v hv
  rw [h m hm v hv]
  by_cases m0 : m = 0
  · rw [if_pos m0, if_pos m0]
  · rw [if_neg m0, if_neg m0]
    by_cases c : v < 3 ∧ (m < n ∨ (m = n ∧ (v + 2) % 3 < k))
    · rw [if_pos c, if_pos (by omega)]
    · rw [if_neg c, if_neg (by omega)]
theorem gd_C_step {P Q R : Int} {n k : Nat} {a : Nat → Int32} (h : gd_C P Q R n k a) (hn : 1 ≤ n) (hk : k < 3) :
    gd_C P Q R n (k + 1) (upd a (n * 7 + (k + 1) % 3) (gd_z (gd_W P Q R (n - 1) k + gd_wi P Q R k))) := by
  intro m hm v hv
  by_cases e : m = n ∧ v = (k + 1) % 3
  · obtain ⟨e1, e2⟩ := e
    subst e1
    rw [e2, pk_us, if_neg (by omega), if_pos (by omega)]
    obtain ⟨m', hm'⟩ : ∃ m', m = m' + 1 := ⟨m - 1, by omega⟩
    subst hm'
    rw [gd_W, show ((k + 1) % 3 + 2) % 3 = k by omega]
    rfl
  · rw [pk_un (by omega), h m hm v hv]
    by_cases m0 : m = 0
    · rw [if_pos m0, if_pos m0]
    · rw [if_neg m0, if_neg m0]
      by_cases c : v < 3 ∧ (m < n ∨ (m = n ∧ (v + 2) % 3 < k))
      · rw [if_pos c, if_pos (by omega)]
      · rw [if_neg c, if_neg (by omega)]
theorem gd_c79 {post : St2 → Prop} {J34 J42 : Int32 → (Nat → Int32) → (Nat → Int32) → (Nat → Int32) → (Nat → Int32) → (Nat → Int32) → (Nat → Int32) → (Nat → Int32) → (Nat → Int32) → (Nat → Int32) → (Nat → Int32) → (Nat → Int32) → (Nat → Int32) → (Nat → Int32) → (Nat → Int32) → (Nat → Int32) → (Nat → Int32) → (Nat → Int32) → (Nat → Int32) → (Nat → Int32) → Prop} {P Q R : Int} {hs tp bt : Int32} {a4 a5 a6 a7 a8 a9 a10 a11 a12 a13 a14 a15 a16 a17 a18 a19 : Nat → Int32} {n k : Nat} {z0 : Int32} (hn : n < 8) (hk : k < 20)
    (H0 : (1048576 ≤ z0 ∨ a19 (n * 7 + (if k < 3 then (k + 1) % 3 else 0)) ≤ z0 + gd_w P Q R k) → J42 (nI (k + 1)) gd_a gd_b (gd_w P Q R) a4 a5 a6 a7 a8 a9 a10 a11 a12 a13 a14 a15 a16 a17 a18 a19)
    (H1 : ¬ 1048576 ≤ z0 → ¬ a19 (n * 7 + (if k < 3 then (k + 1) % 3 else 0)) ≤ z0 + gd_w P Q R k → J42 (nI (k + 1)) gd_a gd_b (gd_w P Q R) a4 a5 a6 a7 a8 a9 a10 a11 a12 a13 a14 a15 a16 a17 a18 (upd a19 (n * 7 + (if k < 3 then (k + 1) % 3 else 0)) (z0 + gd_w P Q R k))) :
    wX_countArcs_79 post J34 J42 (nI n) (nI k) z0 7 hs tp bt gd_a gd_b (gd_w P Q R) a4 a5 a6 a7 a8 a9 a10 a11 a12 a13 a14 a15 a16 a17 a18 a19 := by
  have hb : gd_b k = nI (if k < 3 then (k + 1) % 3 else 0) := by
    by_cases h3 : k < 3
    · rw [if_pos h3, gd_b3 k h3]
    · rw [if_neg h3, gd_b0 (by omega)]
      rfl
  have hi : (if k < 3 then (k + 1) % 3 else 0) < 3 := by split <;> omega
  generalize (if k < 3 then (k + 1) % 3 else 0) = v at *
  refine ⟨pk_in k 20 hk, nm_r (e' := nI (n * 7 + v)) (by rw [nI_clamp (by omega), hb, gd_ix]) ?_⟩
  rw [nI_clamp (show n * 7 + v < 2 ^ 31 by omega), nI_clamp (show k < 2 ^ 31 by omega)]
  exact br_c (fun g => ⟨pk_in (n * 7 + v) 56 (by omega), pk_in (n * 7 + v) 56 (by omega), nm_r (gd_us _ _) (nm_r (nI_1 k) (H0 (Or.inl g)))⟩)
    (fun g => ⟨pk_in k 20 hk, pk_in (n * 7 + v) 56 (by omega), br_c (fun g2 => ⟨pk_in (n * 7 + v) 56 (by omega), pk_in (n * 7 + v) 56 (by omega), nm_r (gd_us _ _) (nm_r (nI_1 k) (H0 (Or.inr g2)))⟩)
      (fun g2 => ⟨pk_in k 20 hk, pk_in (n * 7 + v) 56 (by omega), nm_e (nm_r (nI_1 k) (H1 g g2))⟩)⟩)
theorem gd_c42 {post : St2 → Prop} {J : Int32 → (Nat → Int32) → (Nat → Int32) → (Nat → Int32) → (Nat → Int32) → (Nat → Int32) → (Nat → Int32) → (Nat → Int32) → (Nat → Int32) → (Nat → Int32) → (Nat → Int32) → (Nat → Int32) → (Nat → Int32) → (Nat → Int32) → (Nat → Int32) → (Nat → Int32) → (Nat → Int32) → (Nat → Int32) → (Nat → Int32) → (Nat → Int32) → Prop} {P Q R : Int} {hs tp bt : Int32} {a4 a5 a6 a7 a8 a9 a10 a11 a12 a13 a14 a15 a16 a17 a18 a19 : Nat → Int32} {n : Nat} (h1 : 1 ≤ n) (h8 : n < 8) (hw : gd_wt P Q R) (h : gd_C P Q R n 0 a19)
    (H : ∀ b19 : Nat → Int32, gd_C P Q R (n + 1) 0 b19 → J (nI (n + 1)) gd_a gd_b (gd_w P Q R) a4 a5 a6 a7 a8 a9 a10 a11 a12 a13 a14 a15 a16 a17 a18 b19) : ∃ m, wX_countArcs_42 post J (nI n) 7 hs tp bt m 0 gd_a gd_b (gd_w P Q R) a4 a5 a6 a7 a8 a9 a10 a11 a12 a13 a14 a15 a16 a17 a18 a19 :=
  pk_loop (fun m k (u : Nat → Int32) => wX_countArcs_42 post J (nI n) 7 hs tp bt m (nI k) gd_a gd_b (gd_w P Q R) a4 a5 a6 a7 a8 a9 a10 a11 a12 a13 a14 a15 a16 a17 a18 u) (fun k u => gd_C P Q R n k u) 20 0 a19 (by omega) h
    (fun m u hu => pk_le 20 20 (fun _ => nm_r (nI_1 n) (H u (gd_C_next hu (by omega)))) (fun z => absurd z (by omega)))
    (fun m k u hk hu hw' => pk_le 20 k (fun z => absurd z (by omega)) (fun _ => by
      by_cases h3 : k < 3
      · refine gd_has1 h3 (br_f (by decide) ⟨pk_in k 20 hk, ?_⟩)
        have eb : u ((n - 1) * 7 + k) = gd_z (gd_W P Q R (n - 1) k) := by
          rw [hu (n - 1) (by omega) k (by omega)]
          by_cases m0 : n - 1 = 0
          · rw [if_pos m0, m0, gd_W]
            exact gd_z0
          · rw [if_neg m0, if_pos ⟨h3, by omega⟩]
        have ea : u (n * 7 + (k + 1) % 3) = 1048576 := by
          rw [hu n h8 _ (by omega), if_neg (by omega), if_neg (by omega)]
        have bW := gd_W_b hw (n - 1) k
        have bw := gd_wi_b hw k
        rw [gd_pred h1, nI_clamp (show k < 2 ^ 31 by omega), gd_a3 k h3, gd_ix, nI_clamp (show (n - 1) * 7 + k < 2 ^ 31 by omega), eb]
        refine ⟨pk_in ((n - 1) * 7 + k) 56 (by omega), gd_c79 h8 hk ?_ ?_⟩
        · intro g
          rw [if_pos h3, ea, gd_w_wi k h3, gd_za, gd_far, gd_zle (by omega) (by omega) (by omega) (by omega), gd_zle (by omega) (by omega) (by omega) (by omega)] at g
          omega
        · intro g g2
          rw [if_pos h3, gd_w_wi k h3, gd_za]
          exact hw' _ (gd_C_step hu h1 h3)
      · refine gd_has0 (by omega) hk (br_t rfl (gd_c79 h8 hk (fun _ => hw' _ (gd_C_up hu (by omega) (by omega))) (fun g => absurd (by decide) g)))))
theorem gd_countArcs {post : St2 → Prop} {P Q R : Int} {hs tp bt : Int32} {a4 a5 a6 a7 a8 a9 a10 a11 a12 a13 a14 a15 a16 a17 a18 a19 : Nat → Int32} (hw : gd_wt P Q R)
    (H : ∀ b19 : Nat → Int32, (∀ m, m < 8 → ∀ v, v < 3 → b19 (m * 7 + v) = gd_z (gd_W P Q R m v)) → (∀ v, 3 ≤ v → v < 7 → b19 (49 + v) = 1048576) → post (7, hs, tp, bt, gd_a, gd_b, (gd_w P Q R), a4, a5, a6, a7, a8, a9, a10, a11, a12, a13, a14, a15, a16, a17, a18, b19)) : wpX_countArcs post (7, hs, tp, bt, gd_a, gd_b, (gd_w P Q R), a4, a5, a6, a7, a8, a9, a10, a11, a12, a13, a14, a15, a16, a17, a18, a19) := by
  refine pk_loop (fun n i (u : Nat → Int32) => wX_countArcs_2 post 7 hs tp bt n (nI i) gd_a gd_b (gd_w P Q R) a4 a5 a6 a7 a8 a9 a10 a11 a12 a13 a14 a15 a16 a17 a18 u) (fun i u => ∀ j, j < i → u j = if 7 ≤ j then 1048576 else 0) 56 0 a19 (by omega) (fun j h => absurd h (by omega)) ?_
    (fun n i u hi hu hw' => pk_le 56 i (fun z => absurd z (by omega)) (fun _ => pk_le 7 i (fun c => ⟨pk_in i 56 hi, nm_e (nm_r (nI_1 i) (hw' _ (gd_fill (f := fun j => if 7 ≤ j then 1048576 else 0) (nI_clamp (by omega)) hu (if_pos c).symm)))⟩)
      (fun c => ⟨pk_in i 56 hi, nm_e (nm_r (nI_1 i) (hw' _ (gd_fill (f := fun j => if 7 ≤ j then 1048576 else 0) (nI_clamp (by omega)) hu (if_neg (by omega)).symm)))⟩)))
  intro n u hu
  refine pk_le 56 56 (fun _ => ?_) (fun z => absurd z (by omega))
  refine pk_loop (fun n i (v : Nat → Int32) => wX_countArcs_34 post 7 hs tp bt n (nI i) gd_a gd_b (gd_w P Q R) a4 a5 a6 a7 a8 a9 a10 a11 a12 a13 a14 a15 a16 a17 a18 v) (fun i v => 1 ≤ i ∧ gd_C P Q R i 0 v) 8 1 u (by omega) ?_ ?_ ?_
  · refine ⟨by omega, ?_⟩
    intro m hm v hv
    rw [hu _ (by omega)]
    by_cases m0 : m = 0
    · rw [if_pos m0, if_neg (by omega)]
    · rw [if_neg m0, if_pos (by omega), if_neg (by omega)]
  · intro n v hv
    refine pk_lt 7 8 (fun _ => H v (fun m hm w hw3 => ?_) (fun w h3 hw7 => ?_)) (fun z => absurd z (by omega))
    · rw [hv.2 m hm w (by omega)]
      by_cases m0 : m = 0
      · rw [if_pos m0, m0, gd_W]
        exact gd_z0
      · rw [if_neg m0, if_pos ⟨hw3, by omega⟩]
    · have e := hv.2 7 (by omega) w hw7
      rw [if_neg (by omega), if_neg (by omega)] at e
      exact e
  · intro n i v hi hv hw'
    exact pk_lt 7 i (fun z => absurd z (by omega)) (fun _ => gd_c42 hv.1 hi hw hv.2 (fun b19 hb => hw' b19 ⟨by omega, hb⟩))
end
section
/-- fractions: t over b, all that is below b above 0 -/
theorem gd_fr1 {S t1 b1 t2 b2 : Int} (p1 : 0 < b1) (p2 : 0 < b2) (h : t1 * b2 ≤ t2 * b1) (hs : S * b1 ≤ t1 * 3) : S * b2 ≤ t2 * 3 := by
  have e1 : b2 * (S * b1) ≤ b2 * (t1 * 3) := Int.mul_le_mul_of_nonneg_left hs (by omega)
  have e2 : (t1 * b2) * 3 ≤ (t2 * b1) * 3 := Int.mul_le_mul_of_nonneg_right h (by omega)
  have e3 : b1 * (S * b2) ≤ b1 * (t2 * 3) := by
    have a1 : b1 * (S * b2) = b2 * (S * b1) := by grind
    have a2 : b2 * (t1 * 3) = (t1 * b2) * 3 := by grind
    have a3 : (t2 * b1) * 3 = b1 * (t2 * 3) := by grind
    omega
  exact Int.le_of_mul_le_mul_left e3 p1
theorem gd_fr2 {S t1 b1 t2 b2 : Int} (p1 : 0 < b1) (p2 : 0 < b2) (h : t1 * b2 ≤ t2 * b1) (hs : t2 * 3 ≤ S * b2) : t1 * 3 ≤ S * b1 := by
  have e1 : b1 * (t2 * 3) ≤ b1 * (S * b2) := Int.mul_le_mul_of_nonneg_left hs (by omega)
  have e2 : (t1 * b2) * 3 ≤ (t2 * b1) * 3 := Int.mul_le_mul_of_nonneg_right h (by omega)
  have e3 : b2 * (t1 * 3) ≤ b2 * (S * b1) := by
    have a1 : b2 * (t1 * 3) = (t1 * b2) * 3 := by grind
    have a2 : (t2 * b1) * 3 = b1 * (t2 * 3) := by grind
    have a3 : b1 * (S * b2) = b2 * (S * b1) := by grind
    omega
  exact Int.le_of_mul_le_mul_left e3 p2
theorem gd_mulb {x a B : Int} (h1 : -B ≤ x) (h2 : x ≤ B) (a0 : 0 ≤ a) (a7 : a ≤ 7) : -(7 * B) ≤ x * a ∧ x * a ≤ 7 * B := by
  have c : a = 0 ∨ a = 1 ∨ a = 2 ∨ a = 3 ∨ a = 4 ∨ a = 5 ∨ a = 6 ∨ a = 7 := by omega
  rcases c with c | c | c | c | c | c | c | c <;> subst c <;> omega
/-- a point at which no part of the ring is dearer than its mean -/
def gd_gv (P Q R : Int) (v : Nat) : Prop := ∀ n : Nat, n < 7 → (gd_W P Q R 7 v - gd_W P Q R n v) * 3 ≤ (P + Q + R) * (7 - (n : Int))
theorem gd_gv_ex (P Q R : Int) : gd_gv P Q R 0 ∨ gd_gv P Q R 1 ∨ gd_gv P Q R 2 := by
  have key : ∀ v, v < 3 → gd_W P Q R 1 v * 3 ≤ P + Q + R → (gd_W P Q R 1 v + (P + Q + R) - gd_W P Q R 2 v) * 3 ≤ (P + Q + R) * 2 → gd_gv P Q R v := by
    intro v hv h1 h2 n hn
    have w3 : gd_W P Q R 3 v = 0 + (P + Q + R) := gd_W3 P Q R 0 v hv
    have w4 : gd_W P Q R 4 v = gd_W P Q R 1 v + (P + Q + R) := gd_W3 P Q R 1 v hv
    have w5 : gd_W P Q R 5 v = gd_W P Q R 2 v + (P + Q + R) := gd_W3 P Q R 2 v hv
    have w6 : gd_W P Q R 6 v = gd_W P Q R 3 v + (P + Q + R) := gd_W3 P Q R 3 v hv
    have w7 : gd_W P Q R 7 v = gd_W P Q R 4 v + (P + Q + R) := gd_W3 P Q R 4 v hv
    have w0 : gd_W P Q R 0 v = 0 := by rw [gd_W]
    have c : n = 0 ∨ n = 1 ∨ n = 2 ∨ n = 3 ∨ n = 4 ∨ n = 5 ∨ n = 6 := by omega
    rcases c with c | c | c | c | c | c | c <;> subst c
    · rw [show (7 : Int) - ((0 : Nat) : Int) = 7 by omega]; omega
    · rw [show (7 : Int) - ((1 : Nat) : Int) = 6 by omega]; omega
    · rw [show (7 : Int) - ((2 : Nat) : Int) = 5 by omega]; omega
    · rw [show (7 : Int) - ((3 : Nat) : Int) = 4 by omega]; omega
    · rw [show (7 : Int) - ((4 : Nat) : Int) = 3 by omega]; omega
    · rw [show (7 : Int) - ((5 : Nat) : Int) = 2 by omega]; omega
    · rw [show (7 : Int) - ((6 : Nat) : Int) = 1 by omega]; omega
  have k0 := key 0 (by omega)
  have k1 := key 1 (by omega)
  have k2 := key 2 (by omega)
  rw [show gd_W P Q R 1 0 = 0 + R from rfl, show gd_W P Q R 2 0 = 0 + Q + R from rfl] at k0
  rw [show gd_W P Q R 1 1 = 0 + P from rfl, show gd_W P Q R 2 1 = 0 + R + P from rfl] at k1
  rw [show gd_W P Q R 1 2 = 0 + Q from rfl, show gd_W P Q R 2 2 = 0 + P + Q from rfl] at k2
  by_cases c0 : (0 + R) * 3 ≤ P + Q + R ∧ (0 + R + (P + Q + R) - (0 + Q + R)) * 3 ≤ (P + Q + R) * 2
  · exact Or.inl (k0 c0.1 c0.2)
  · by_cases c1 : (0 + P) * 3 ≤ P + Q + R ∧ (0 + P + (P + Q + R) - (0 + R + P)) * 3 ≤ (P + Q + R) * 2
    · exact Or.inr (Or.inl (k1 c1.1 c1.2))
    · exact Or.inr (Or.inr (k2 (by omega) (by omega)))
/-- what a slope is: not below the mean; not above it where the point is of that kind -/
def gd_sl (P Q R : Int) (g : Prop) (t b : Int) : Prop := (-1000 ≤ t ∧ t ≤ 1000) ∧ (1 ≤ b ∧ b ≤ 7) ∧ (P + Q + R) * b ≤ t * 3 ∧ (g → t * 3 ≤ (P + Q + R) * b)
theorem gd_slope {post : St2 → Prop} {P Q R : Int} {hs tp bt : Int32} {a4 a5 a6 a7 a8 a9 a10 a11 a12 a13 a14 a15 a16 a17 a18 a19 : Nat → Int32} {v : Nat} (hv : v < 3) (hw : gd_wt P Q R) (h : ∀ m, m < 8 → ∀ v, v < 3 → a19 (m * 7 + v) = gd_z (gd_W P Q R m v))
    (H : ∀ t b : Int, gd_sl P Q R (gd_gv P Q R v) t b → post (7, hs, gd_z t, gd_z b, gd_a, gd_b, (gd_w P Q R), a4, a5, a6, a7, a8, a9, a10, a11, a12, a13, a14, a15, a16, a17, a18, a19)) : wpX_greatestSlope post (7, hs, tp, bt, gd_a, gd_b, (gd_w P Q R), a4, a5, a6, a7, a8, a9, a10, a11, a12, a13, a14, a15, a16, a17, a18, a19) (nI v) := by
  have hw' := hw
  unfold gd_wt at hw'
  have b7 := gd_W_b hw 7 v
  refine ⟨pk_in (49 + v) 56 (by omega) (nI_add 49 v), nm_r (e' := gd_z (gd_W P Q R 7 v)) (by rw [show (49 : Int32) + nI v = nI (49 + v) from nI_add 49 v, nI_clamp (by omega)]; exact h 7 (by omega) v hv) ?_⟩
  refine pk_loop (fun m n (u : Int32 × Int32) => wX_greatestSlope_23 post (nI v) (gd_z (gd_W P Q R 7 v)) 7 hs gd_a gd_b (gd_w P Q R) a4 a5 a6 a7 a8 a9 a10 a11 a12 a13 a14 a15 a16 a17 a18 a19 m (nI n) u.1 u.2)
    (fun n u => (n = 0 → u.1 = (-1048576) ∧ u.2 = 1) ∧ (1 ≤ n → ∃ t b : Int, u.1 = gd_z t ∧ u.2 = gd_z b ∧ (-1000 ≤ t ∧ t ≤ 1000) ∧ (1 ≤ b ∧ b ≤ 7) ∧ (gd_gv P Q R v → t * 3 ≤ (P + Q + R) * b) ∧ (5 ≤ n → (P + Q + R) * b ≤ t * 3))) 7 0 ((-1048576), 1) (by omega) ⟨fun _ => ⟨rfl, rfl⟩, fun z => absurd z (by omega)⟩ ?_ ?_
  · intro m u hu
    obtain ⟨t, b, e1, e2, h1, h2, h3, h4⟩ := hu.2 (by omega)
    refine pk_le 7 7 (fun _ => ?_) (fun z => absurd z (by omega))
    rw [e1, e2]
    exact H t b ⟨h1, h2, h4 (by omega), h3⟩
  · intro m n u hn hu hwl
    have bn := gd_W_b hw n v
    have d3 : n = 4 → gd_W P Q R 7 v - gd_W P Q R n v = P + Q + R := by
      intro e
      subst e
      have := gd_W3 P Q R 4 v hv
      rw [show 4 + 3 = 7 from rfl] at this
      omega
    refine pk_le 7 n (fun z => absurd z (by omega)) (fun _ => ?_)
    rw [gd_ix, nI_clamp (show n * 7 + v < 2 ^ 31 by omega), h n (by omega) v hv]
    refine ⟨pk_in (n * 7 + v) 56 (by omega), nm_e (nm_r (gd_zs _ _) (nm_r (e' := gd_z (7 - (n : Int))) (by rw [show (7 : Int32) = gd_z 7 by decide, gd_zn, gd_zs]) (br_f ?_ ?_)))⟩
    · rw [gd_far, gd_zle (by omega) (by omega) (by omega) (by omega)]
      omega
    · -- the new slope
      have new : (gd_W P Q R 7 v - gd_W P Q R n v = P + Q + R ∨ n ≠ 4) → (n = 0 ∨ 5 ≤ n → n = 0 ∨ (P + Q + R) * (7 - (n : Int)) ≤ (gd_W P Q R 7 v - gd_W P Q R n v) * 3) → wX_greatestSlope_23 post (nI v) (gd_z (gd_W P Q R 7 v)) 7 hs gd_a gd_b (gd_w P Q R) a4 a5 a6 a7 a8 a9 a10 a11 a12 a13 a14 a15 a16 a17 a18 a19 m (nI (n + 1)) (gd_z (gd_W P Q R 7 v - gd_W P Q R n v)) (gd_z (7 - (n : Int))) := by
        intro q1 q2
        refine hwl (gd_z (gd_W P Q R 7 v - gd_W P Q R n v), gd_z (7 - (n : Int))) ⟨fun z => absurd z (by omega), fun _ => ⟨_, _, rfl, rfl, by omega, by omega, fun g => g n hn, fun z => ?_⟩⟩
        by_cases n4 : n = 4
        · have e := d3 n4
          rw [e, n4]
          show (P + Q + R) * (7 - 4) ≤ (P + Q + R) * 3
          omega
        · rcases q2 (by omega) with q | q
          · omega
          · exact q
      by_cases n0 : n = 0
      · obtain ⟨e1, e2⟩ := hu.1 n0
        rw [e1, e2]
        refine br_f ?_ (nm_r (nI_1 n) (new (by omega) (fun _ => Or.inl n0)))
        rw [n0] at bn
        rw [n0, gd_z1, show (-1048576 : Int32) = gd_z (-1048576) by decide, gd_zm, gd_zm, gd_zle (by omega) (by omega) (by omega) (by omega)]
        omega
      · obtain ⟨t, b, e1, e2, h1, h2, h3, h4⟩ := hu.2 (by omega)
        have m1 := gd_mulb (x := gd_W P Q R 7 v - gd_W P Q R n v) (a := b) (B := 1000) (by omega) (by omega) (by omega) (by omega)
        have m2 := gd_mulb (x := t) (a := 7 - (n : Int)) (B := 1000) (by omega) (by omega) (by omega) (by omega)
        rw [e1, e2, gd_zm, gd_zm, gd_zle (by omega) (by omega) (by omega) (by omega)]
        refine br_c (fun g => nm_r (nI_1 n) (hwl (gd_z t, gd_z b) ⟨fun z => absurd z (by omega), fun _ => ⟨t, b, rfl, rfl, h1, h2, h3, fun z => ?_⟩⟩)) (fun g => nm_r (nI_1 n) (new (by omega) (fun q => ?_)))
        · by_cases n4 : n = 4
          · have e := d3 n4
            rw [e, n4] at g
            have g' : (P + Q + R) * b ≤ t * (7 - 4) := g
            omega
          · exact h4 (by omega)
        · rcases q with q | q
          · exact Or.inl q
          · exact Or.inr (gd_fr1 (t1 := t) (b1 := b) (by omega) (by omega) (by omega) (h4 q))
theorem gd_counts {post : Int32 → St2 → Prop} {P Q R : Int} {hs tp bt : Int32} {a4 a5 a6 a7 a8 a9 a10 a11 a12 a13 a14 a15 a16 a17 a18 a19 : Nat → Int32} (hw : gd_wt P Q R)
    (H : ∀ (t b : Int) (b19 : Nat → Int32), (-1000 ≤ t ∧ t ≤ 1000) → (1 ≤ b ∧ b ≤ 7) → t * 3 = (P + Q + R) * b → post 1 (7, hs, gd_z t, gd_z b, gd_a, gd_b, (gd_w P Q R), a4, a5, a6, a7, a8, a9, a10, a11, a12, a13, a14, a15, a16, a17, a18, b19)) : wpX_findMeanByCounts post (7, hs, tp, bt, gd_a, gd_b, (gd_w P Q R), a4, a5, a6, a7, a8, a9, a10, a11, a12, a13, a14, a15, a16, a17, a18, a19) := by
  unfold wpX_findMeanByCounts
  refine gd_countArcs hw (fun b19 hb hf => ?_)
  have gx := gd_gv_ex P Q R
  refine pk_loop (fun n v (u : Int32 × Int32 × Int32 × Int32) => wX_findMeanByCounts_11 post n u.1 u.2.1 (nI v) 7 hs u.2.2.1 u.2.2.2 gd_a gd_b (gd_w P Q R) a4 a5 a6 a7 a8 a9 a10 a11 a12 a13 a14 a15 a16 a17 a18 b19)
    (fun v u => (v = 0 → u.1 = 1048576 ∧ u.2.1 = 1) ∧ (1 ≤ v → ∃ t b : Int, u.1 = gd_z t ∧ u.2.1 = gd_z b ∧ gd_sl P Q R (∃ w, w < v ∧ w < 3 ∧ gd_gv P Q R w) t b)) 7 0 (1048576, 1, tp, bt) (by omega) ⟨fun _ => ⟨rfl, rfl⟩, fun z => absurd z (by omega)⟩ ?_ ?_
  · intro n u hu
    obtain ⟨t, b, e1, e2, h1, h2, h3, h4⟩ := hu.2 (by omega)
    have h5 : t * 3 ≤ (P + Q + R) * b := h4 (by
      rcases gx with g | g | g
      · exact ⟨0, by omega, by omega, g⟩
      · exact ⟨1, by omega, by omega, g⟩
      · exact ⟨2, by omega, by omega, g⟩)
    refine pk_le 7 7 (fun _ => ?_) (fun z => absurd z (by omega))
    rw [e1, e2]
    exact br_f (gd_ne gd_far (by omega) (by omega)) (H t b b19 h1 h2 (by omega))
  · intro n v u hv hu hwl
    refine pk_le 7 v (fun z => absurd z (by omega)) (fun _ => ⟨pk_in (49 + v) 56 (by omega) (nI_add 49 v), ?_⟩)
    rw [show (49 : Int32) + nI v = nI (49 + v) from nI_add 49 v, nI_clamp (show 49 + v < 2 ^ 31 by omega)]
    by_cases v3 : v < 3
    · have e7 : b19 (49 + v) = gd_z (gd_W P Q R 7 v) := hb 7 (by omega) v v3
      have b7 := gd_W_b hw 7 v
      refine br_f (by rw [e7, gd_far, gd_zle (by omega) (by omega) (by omega) (by omega)]; omega) (gd_slope v3 hw hb (fun t b hs => ?_))
      obtain ⟨s1, s2, s3, s4⟩ := hs
      have take : (v = 0 ∨ ((∃ w, w < v ∧ w < 3 ∧ gd_gv P Q R w) → t * 3 ≤ (P + Q + R) * b)) → wX_findMeanByCounts_11 post n (gd_z t) (gd_z b) (nI (v + 1)) 7 hs (gd_z t) (gd_z b) gd_a gd_b (gd_w P Q R) a4 a5 a6 a7 a8 a9 a10 a11 a12 a13 a14 a15 a16 a17 a18 b19 := fun q =>
        hwl (gd_z t, gd_z b, gd_z t, gd_z b) ⟨fun z => absurd z (by omega), fun _ => ⟨t, b, rfl, rfl, s1, s2, s3, fun g => by
          obtain ⟨w, w1, w2, w3⟩ := g
          by_cases e : w = v
          · rw [e] at w3
            exact s4 w3
          · rcases q with q | q
            · omega
            · exact q ⟨w, by omega, w2, w3⟩⟩⟩
      by_cases v0 : v = 0
      · rw [(hu.1 v0).1]
        exact br_t rfl (br_f (by decide) (br_f (by decide) (nm_r (nI_1 v) (take (Or.inl v0)))))
      · obtain ⟨t1, b1, e1, e2, h1, h2, h3, h4⟩ := hu.2 (by omega)
        have m1 := gd_mulb (x := t1) (a := b) (B := 1000) (by omega) (by omega) (by omega) (by omega)
        have m2 := gd_mulb (x := t) (a := b1) (B := 1000) (by omega) (by omega) (by omega) (by omega)
        have ec : gd_z t1 * gd_z b ≤ gd_z t * gd_z b1 ↔ t1 * b ≤ t * b1 := by
          rw [gd_zm, gd_zm, gd_zle (by omega) (by omega) (by omega) (by omega)]
        rw [e1, e2]
        refine br_f (gd_ne gd_far (by omega) (by omega)) (ek_if ec (fun g => br_t rfl (br_t rfl (nm_r (nI_1 v) (hwl (gd_z t1, gd_z b1, gd_z t, gd_z b) ⟨fun z => absurd z (by omega), fun _ => ⟨t1, b1, rfl, rfl, h1, h2, h3, fun q => ?_⟩⟩))))
          (fun g => br_f (by decide) (br_f (by decide) (nm_r (nI_1 v) (take (Or.inr (fun q => gd_fr2 (t2 := t1) (b2 := b1) (by omega) (by omega) (by omega) (h4 q))))))))
        obtain ⟨w, w1, w2, w3⟩ := q
        by_cases e : w = v
        · rw [e] at w3
          exact gd_fr2 (t2 := t) (b2 := b) (by omega) (by omega) g (s4 w3)
        · exact h4 ⟨w, by omega, w2, w3⟩
    · rw [hf v (by omega) hv]
      refine br_t (by decide) (nm_r (nI_1 v) (hwl u ⟨fun z => absurd z (by omega), fun _ => ?_⟩))
      obtain ⟨t, b, e1, e2, h1, h2, h3, h4⟩ := hu.2 (by omega)
      exact ⟨t, b, e1, e2, h1, h2, h3, fun g => h4 (by
        obtain ⟨w, w1, w2, w3⟩ := g
        exact ⟨w, by omega, w2, w3⟩)⟩
end
section
theorem gd_gcd {post : Int32 → Prop} (Y : Nat) : ∀ X : Nat, X < 2 ^ 31 → Y < 2 ^ 31 → (0 < Y ∨ 0 < X) → post (nI (Nat.gcd X Y)) → ∃ n, wX_divisor_13 post n (nI X) (nI Y) := by
  induction Y using Nat.strongRecOn with
  | _ Y ih =>
    intro X hX hY h0 hp
    by_cases y0 : Y = 0
    · subst y0
      rw [Nat.gcd_zero_right] at hp
      exact ⟨0 + 1, br_t rfl (pk_le 1 X (fun _ => hp) (fun z => absurd z (by omega)))⟩
    · have lt : X % Y < Y := Nat.mod_lt _ (by omega)
      obtain ⟨n, hn⟩ := ih (X % Y) lt Y hY (by omega) (Or.inr (by omega)) (by rw [Nat.gcd_comm, ← Nat.gcd_rec, Nat.gcd_comm]; exact hp)
      exact ⟨n + 1, br_f (nI_ne0 (by omega) hY) ⟨nI_ne0 (by omega) hY, nm_r (pk_rem hX (by omega) hY) hn⟩⟩
theorem gd_znat {t : Int} (h : 0 ≤ t) : gd_z t = nI t.toNat := by
  rw [gd_zn, Int.toNat_of_nonneg h]
theorem gd_divisor {post : Int32 → Prop} {u : St0} {t d : Int} (ht : -1000 ≤ t ∧ t ≤ 1000) (hd : 1 ≤ d ∧ d ≤ 7) (h : post (nI (Nat.gcd t.natAbs d.toNat))) : wpX_divisor post u (gd_z t) (gd_z d) := by
  have e0 : (0 : Int32) ≤ gd_z t ↔ 0 ≤ t := by rw [gd_z0, gd_zle (by omega) (by omega) (by omega) (by omega)]
  refine ek_if e0 (fun g => ?_) (fun g => ?_)
  · rw [gd_znat g, gd_znat (show 0 ≤ d by omega)]
    refine gd_gcd d.toNat t.toNat (by omega) (by omega) (by omega) ?_
    rw [show t.toNat = t.natAbs by omega]
    exact h
  · refine nm_r (gd_zg t) ?_
    rw [gd_znat (show 0 ≤ -t by omega), gd_znat (show 0 ≤ d by omega)]
    refine gd_gcd d.toNat (-t).toNat (by omega) (by omega) (by omega) ?_
    rw [show (-t).toNat = t.natAbs by omega]
    exact h
/-- the mean in least terms -/
def gd_mt (S : Int) : Int := if S % 3 = 0 then S / 3 else S
def gd_mb (S : Int) : Int := if S % 3 = 0 then 1 else 3
theorem gd_red {S t d : Int} (hd : 1 ≤ d ∧ d ≤ 7) (h : t * 3 = S * d) : 1 ≤ Nat.gcd t.natAbs d.toNat ∧ Nat.gcd t.natAbs d.toNat ≤ 7 ∧ t = (Nat.gcd t.natAbs d.toNat : Int) * gd_mt S ∧ d = (Nat.gcd t.natAbs d.toNat : Int) * gd_mb S := by
  have g1 : 0 < Nat.gcd t.natAbs d.toNat := Nat.gcd_pos_of_pos_right _ (by omega)
  have dt : Nat.gcd t.natAbs d.toNat ∣ t.natAbs := Nat.gcd_dvd_left _ _
  have dd : Nat.gcd t.natAbs d.toNat ∣ d.toNat := Nat.gcd_dvd_right _ _
  have gle : Nat.gcd t.natAbs d.toNat ≤ d.toNat := Nat.le_of_dvd (by omega) dd
  have co : ∀ c : Nat, Nat.gcd t.natAbs d.toNat * c ∣ t.natAbs → Nat.gcd t.natAbs d.toNat * c ∣ d.toNat → c ≤ 1 := by
    intro c c1 c2
    have := Nat.le_of_dvd g1 (Nat.dvd_gcd c1 c2)
    exact Nat.le_of_mul_le_mul_left (by omega) g1
  generalize Nat.gcd t.natAbs d.toNat = g at *
  obtain ⟨t', et⟩ : (g : Int) ∣ t := Int.ofNat_dvd_left.mpr dt
  obtain ⟨d', ed⟩ : (g : Int) ∣ d := Int.ofNat_dvd_left.mpr (by rw [show d.natAbs = d.toNat by omega]; exact dd)
  have gp : (0 : Int) < (g : Int) := by omega
  have co' : ∀ c : Nat, 2 ≤ c → (c : Int) ∣ t' → (c : Int) ∣ d' → False := by
    intro c c2 ⟨x, hx⟩ ⟨y, hy⟩
    have k := co c (Int.ofNat_dvd_left.mp ⟨x, by rw [et, hx, Int.natCast_mul, Int.mul_assoc]⟩) (by
      rw [← show d.natAbs = d.toNat by omega]
      exact Int.ofNat_dvd_left.mp ⟨y, by rw [ed, hy, Int.natCast_mul, Int.mul_assoc]⟩)
    omega
  have h' : t' * 3 = S * d' := by
    have e : (g : Int) * (t' * 3) = (g : Int) * (S * d') := by
      rw [et, ed] at h
      grind
    exact Int.eq_of_mul_eq_mul_left (by omega) e
  have d1 : 1 ≤ d' := by
    refine Classical.byContradiction (fun c => ?_)
    have : (g : Int) * d' ≤ (g : Int) * 0 := Int.mul_le_mul_of_nonneg_left (by omega) (by omega)
    omega
  have d7 : d' ≤ 7 := by
    refine Classical.byContradiction (fun c => ?_)
    have : (1 : Int) * 8 ≤ (g : Int) * d' := Int.mul_le_mul (by omega) (by omega) (by omega) (by omega)
    omega
  have key : t' = gd_mt S ∧ d' = gd_mb S := by
    have c : d' = 1 ∨ d' = 2 ∨ d' = 3 ∨ d' = 4 ∨ d' = 5 ∨ d' = 6 ∨ d' = 7 := by omega
    unfold gd_mt gd_mb
    rcases c with c | c | c | c | c | c | c
    · subst c
      rw [if_pos (show S % 3 = 0 by omega), if_pos (show S % 3 = 0 by omega)]
      omega
    · rw [c] at h'
      exact (co' 2 (by omega) ⟨t' / 2, by omega⟩ ⟨1, by omega⟩).elim
    · subst c
      have s3 : ¬ S % 3 = 0 := fun z => co' 3 (by omega) ⟨t' / 3, by omega⟩ ⟨1, by omega⟩
      rw [if_neg s3, if_neg s3]
      omega
    · rw [c] at h'
      exact (co' 4 (by omega) ⟨t' / 4, by omega⟩ ⟨1, by omega⟩).elim
    · rw [c] at h'
      exact (co' 5 (by omega) ⟨t' / 5, by omega⟩ ⟨1, by omega⟩).elim
    · rw [c] at h'
      exact (co' 2 (by omega) ⟨t' / 2, by omega⟩ ⟨3, by omega⟩).elim
    · rw [c] at h'
      exact (co' 7 (by omega) ⟨t' / 7, by omega⟩ ⟨1, by omega⟩).elim
  exact ⟨g1, by omega, by rw [← key.1]; exact et, by rw [← key.2]; exact ed⟩
theorem gd_zdiv {g : Nat} {x : Int} (g1 : 1 ≤ g) (g7 : g ≤ 7) (hx : -1000 ≤ (g : Int) * x ∧ (g : Int) * x ≤ 1000) : gd_z ((g : Int) * x) / nI g = gd_z x := by
  rw [gd_zn]
  unfold gd_z
  rw [← Int32.ofInt_tdiv (by rw [show Int32.minValue.toInt = -2147483648 from rfl]; omega) (by rw [show Int32.maxValue.toInt = 2147483647 from rfl]; omega) (by rw [show Int32.minValue.toInt = -2147483648 from rfl]; omega) (by rw [show Int32.maxValue.toInt = 2147483647 from rfl]; omega), Int.mul_tdiv_cancel_left _ (by omega)]
theorem gd_mean {post : Int32 → St2 → Prop} {P Q R : Int} {hs tp bt : Int32} {a4 a5 a6 a7 a8 a9 a10 a11 a12 a13 a14 a15 a16 a17 a18 a19 : Nat → Int32} {e : Nat} (he : e < 2) (hw : gd_wt P Q R)
    (H : ∀ (t b : Int) (hs : Int32) (a4 a5 a6 a7 a8 a9 a10 a11 a12 a13 a14 a15 a16 a17 a18 a19 : Nat → Int32), (-1000 ≤ t ∧ t ≤ 1000) → (1 ≤ b ∧ b ≤ 7) → t * 3 = (P + Q + R) * b → post 1 (7, hs, gd_z t, gd_z b, gd_a, gd_b, (gd_w P Q R), a4, a5, a6, a7, a8, a9, a10, a11, a12, a13, a14, a15, a16, a17, a18, a19)) : wpX_findMean post (7, hs, tp, bt, gd_a, gd_b, (gd_w P Q R), a4, a5, a6, a7, a8, a9, a10, a11, a12, a13, a14, a15, a16, a17, a18, a19) (nI e) := by
  have hw' := hw
  unfold gd_wt at hw'
  have c : e = 0 ∨ e = 1 := by omega
  rcases c with c | c
  · subst c
    exact br_t rfl (gd_counts hw (fun t b b19 h1 h2 h3 => ⟨rfl, H t b _ _ _ _ _ _ _ _ _ _ _ _ _ _ _ _ _ h1 h2 h3⟩))
  · subst c
    refine br_f (by decide) (gd_rings hw (fun b6 b16 _ => ⟨rfl, ?_⟩))
    have k := H (P + Q + R) 3 hs a4 a5 b6 a7 a8 a9 a10 a11 a12 a13 a14 a15 b16 a17 a18 a19 (by omega) (by omega) rfl
    rw [show gd_z 3 = (3 : Int32) by decide] at k
    exact k
theorem gd_topP {post : Int32 → St2 → Prop} {P Q R : Int} {hs tp bt : Int32} {a4 a5 a6 a7 a8 a9 a10 a11 a12 a13 a14 a15 a16 a17 a18 a19 : Nat → Int32} {e : Nat} (he : e < 2) (hw : gd_wt P Q R) (H : ∀ (hs tp bt : Int32) (a4 a5 a6 a7 a8 a9 a10 a11 a12 a13 a14 a15 a16 a17 a18 a19 : Nat → Int32), post (gd_z (gd_mt (P + Q + R))) (7, hs, tp, bt, gd_a, gd_b, (gd_w P Q R), a4, a5, a6, a7, a8, a9, a10, a11, a12, a13, a14, a15, a16, a17, a18, a19)) : wpX_meanTop post (7, hs, tp, bt, gd_a, gd_b, (gd_w P Q R), a4, a5, a6, a7, a8, a9, a10, a11, a12, a13, a14, a15, a16, a17, a18, a19) (nI e) := by
  refine br_f (nI_pos (by omega)) (br_t (nI_le (b := 1) (by omega) (by decide)) (gd_mean he hw (fun t b hs a4 a5 a6 a7 a8 a9 a10 a11 a12 a13 a14 a15 a16 a17 a18 a19 h1 h2 h3 => br_f (by decide) (gd_divisor h1 h2 ?_))))
  obtain ⟨r1, r2, r3, r4⟩ := gd_red h2 h3
  refine br_f (nI_nle (by omega) (by omega)) ⟨nI_ne0 (by omega) (by omega), ?_⟩
  have q : gd_z t / nI (Nat.gcd t.natAbs b.toNat) = gd_z (gd_mt (P + Q + R)) := by
    generalize Nat.gcd t.natAbs b.toNat = g at *
    rw [r3]
    exact gd_zdiv r1 r2 (by omega)
  rw [q]
  exact H _ _ _ _ _ _ _ _ _ _ _ _ _ _ _ _ _ _ _
theorem gd_bottomP {post : Int32 → St2 → Prop} {P Q R : Int} {hs tp bt : Int32} {a4 a5 a6 a7 a8 a9 a10 a11 a12 a13 a14 a15 a16 a17 a18 a19 : Nat → Int32} {e : Nat} (he : e < 2) (hw : gd_wt P Q R) (H : ∀ (hs tp bt : Int32) (a4 a5 a6 a7 a8 a9 a10 a11 a12 a13 a14 a15 a16 a17 a18 a19 : Nat → Int32), post (gd_z (gd_mb (P + Q + R))) (7, hs, tp, bt, gd_a, gd_b, (gd_w P Q R), a4, a5, a6, a7, a8, a9, a10, a11, a12, a13, a14, a15, a16, a17, a18, a19)) : wpX_meanBottom post (7, hs, tp, bt, gd_a, gd_b, (gd_w P Q R), a4, a5, a6, a7, a8, a9, a10, a11, a12, a13, a14, a15, a16, a17, a18, a19) (nI e) := by
  refine br_f (nI_pos (by omega)) (br_t (nI_le (b := 1) (by omega) (by decide)) (gd_mean he hw (fun t b hs a4 a5 a6 a7 a8 a9 a10 a11 a12 a13 a14 a15 a16 a17 a18 a19 h1 h2 h3 => br_f (by decide) (gd_divisor h1 h2 ?_))))
  obtain ⟨r1, r2, r3, r4⟩ := gd_red h2 h3
  refine br_f (nI_nle (by omega) (by omega)) ⟨nI_ne0 (by omega) (by omega), ?_⟩
  have q : gd_z b / nI (Nat.gcd t.natAbs b.toNat) = gd_z (gd_mb (P + Q + R)) := by
    generalize Nat.gcd t.natAbs b.toNat = g at *
    rw [r4]
    exact gd_zdiv r1 r2 (by omega)
  rw [q]
  exact H _ _ _ _ _ _ _ _ _ _ _ _ _ _ _ _ _ _ _
end
section
/-- leadsAlong: the arcs of one round; the rounds -/
def gd_lg (fr set : Int32) : Nat → Int32
  | 0 => set
  | k + 1 => if k < 3 ∧ ¬ ((fr >>> (gd_a k &&& 31)) &&& 1) = 0 then gd_lg fr set k ||| ((1 : Int32) <<< (gd_b k &&& 31)) else gd_lg fr set k
def gd_lr (p : Nat) : Nat → Int32
  | 0 => 0
  | r + 1 => gd_lg (if r = 0 then (1 : Int32) <<< (nI p &&& 31) else gd_lr p r) (gd_lr p r) 20
theorem gd_l29 {post : Int32 → Prop} {J : Int32 → Int32 → Prop} {P Q R : Int} {hs tp bt : Int32} {a4 a5 a6 a7 a8 a9 a10 a11 a12 a13 a14 a15 a16 a17 a18 a19 : Nat → Int32} {x2 fr set : Int32} {r : Nat} (h : J (gd_lg fr set 20) (nI (r + 1))) : ∃ n, wX_leadsAlong_29 post J 7 x2 (nI r) fr 7 hs tp bt gd_a gd_b (gd_w P Q R) a4 a5 a6 a7 a8 a9 a10 a11 a12 a13 a14 a15 a16 a17 a18 a19 n set 0 :=
  pk_loop (fun n k (u : Int32) => wX_leadsAlong_29 post J 7 x2 (nI r) fr 7 hs tp bt gd_a gd_b (gd_w P Q R) a4 a5 a6 a7 a8 a9 a10 a11 a12 a13 a14 a15 a16 a17 a18 a19 n u (nI k)) (fun k u => u = gd_lg fr set k) 20 0 set (by omega) rfl
    (fun n u hu => pk_le 20 20 (fun _ => nm_r (nI_1 r) (by rw [hu]; exact h)) (fun z => absurd z (by omega)))
    (fun n k u hk hu hw => pk_le 20 k (fun z => absurd z (by omega)) (fun _ => by
      refine br_c (fun g => br_t rfl (nm_r (gd_or0 _) (nm_r (nI_1 k) (hw _ ?_)))) (fun g => ⟨pk_in k 20 hk, ?_⟩)
      · rw [gd_lg, if_neg (fun t => absurd ((gd_bit k hk).mp g) (by omega)), ← hu]
      · have h3 : k < 3 := Classical.byContradiction (fun c => g ((gd_bit k hk).mpr (by omega)))
        rw [nI_clamp (show k < 2 ^ 31 by omega)]
        refine br_c (fun g2 => br_t rfl (nm_r (gd_or0 _) (nm_r (nI_1 k) (hw _ ?_)))) (fun g2 => br_f (by decide) ⟨pk_in k 20 hk, nm_e (nm_r (nI_1 k) (hw _ ?_))⟩)
        · rw [gd_lg, if_neg (fun t => t.2 g2), ← hu]
        · rw [gd_lg, if_pos ⟨h3, g2⟩, ← hu, nI_clamp (show k < 2 ^ 31 by omega)]))
theorem gd_leads {post : Int32 → Prop} {P Q R : Int} {hs tp bt : Int32} {a4 a5 a6 a7 a8 a9 a10 a11 a12 a13 a14 a15 a16 a17 a18 a19 : Nat → Int32} {p : Nat} (h : post (gd_lr p 8)) : wpX_leadsAlong post (7, hs, tp, bt, gd_a, gd_b, (gd_w P Q R), a4, a5, a6, a7, a8, a9, a10, a11, a12, a13, a14, a15, a16, a17, a18, a19) 7 (nI p) :=
  pk_loop (fun n r (u : Int32) => wX_leadsAlong_5 post 7 (nI p) 7 hs tp bt gd_a gd_b (gd_w P Q R) a4 a5 a6 a7 a8 a9 a10 a11 a12 a13 a14 a15 a16 a17 a18 a19 n u (nI r)) (fun r u => u = gd_lr p r) 8 0 0 (by omega) rfl
    (fun n u hu => pk_lt 7 8 (fun _ => by rw [hu]; exact h) (fun z => absurd z (by omega)))
    (fun n r u hr hu hw => pk_lt 7 r (fun z => absurd z (by omega)) (fun _ =>
      pk_eq r 0 (fun e => nm_e (gd_l29 (hw _ (by rw [gd_lr, if_pos e, hu])))) (fun e => gd_l29 (hw _ (by rw [gd_lr, if_neg e, hu])))))
theorem gd_lbit : ∀ p, p < 7 → (((gd_lr p 8 >>> (nI p &&& 31)) &&& 1) = 0 ↔ ¬ p < 3) := by decide +kernel
theorem gd_ringP {post : Int32 → St2 → Prop} {P Q R : Int} {hs tp bt : Int32} {a4 a5 a6 a7 a8 a9 a10 a11 a12 a13 a14 a15 a16 a17 a18 a19 : Nat → Int32} (hw : gd_wt P Q R) (H : ∀ (hs tp bt : Int32) (a4 a5 a6 a7 a8 a9 a10 a11 a12 a13 a14 a15 a16 a17 a18 a19 : Nat → Int32), post 7 (7, hs, tp, bt, gd_a, gd_b, (gd_w P Q R), a4, a5, a6, a7, a8, a9, a10, a11, a12, a13, a14, a15, a16, a17, a18, a19)) : wpX_onLeastRing post (7, hs, tp, bt, gd_a, gd_b, (gd_w P Q R), a4, a5, a6, a7, a8, a9, a10, a11, a12, a13, a14, a15, a16, a17, a18, a19) := by
  unfold wpX_onLeastRing
  refine gd_rings hw (fun b6 b16 ht => br_f (by decide) ?_)
  refine pk_loop (fun n k (u : Int32) => wX_onLeastRing_13 post 7 hs (gd_z (P + Q + R)) 3 gd_a gd_b (gd_w P Q R) a4 a5 b6 a7 a8 a9 a10 a11 a12 a13 a14 a15 b16 a17 a18 a19 n u (nI k)) (fun k u => u = nI (2 ^ (min k 3) - 1)) 20 0 0 (by omega) rfl ?_ ?_
  · intro n u hu
    refine pk_le 20 20 (fun _ => ?_) (fun z => absurd z (by omega))
    rw [show u = (7 : Int32) from hu]
    refine pk_loop (fun n p (v : Int32) => wX_onLeastRing_91 post 7 7 hs (gd_z (P + Q + R)) 3 gd_a gd_b (gd_w P Q R) a4 a5 b6 a7 a8 a9 a10 a11 a12 a13 a14 a15 b16 a17 a18 a19 n v (nI p)) (fun p v => v = nI (2 ^ (min p 3) - 1)) 7 0 0 (by omega) rfl ?_ ?_
    · intro n v hv
      refine pk_le 7 7 (fun _ => ?_) (fun z => absurd z (by omega))
      rw [show v = (7 : Int32) from hv]
      exact H _ _ _ _ _ _ _ _ _ _ _ _ _ _ _ _ _ _ _
    · intro n p v hp hv hw'
      refine pk_le 7 p (fun z => absurd z (by omega)) (fun _ => gd_leads (br_c (fun g => nm_r (gd_or0 _) (nm_r (nI_1 p) (hw' _ ?_))) (fun g => nm_e (nm_r (nI_1 p) (hw' _ ?_)))))
      · have p3 := (gd_lbit p hp).mp g
        rw [hv, show min (p + 1) 3 = min p 3 by omega]
      · have p3 : p < 3 := Classical.byContradiction (fun c => g ((gd_lbit p hp).mpr c))
        rw [hv, show min p 3 = p by omega, show min (p + 1) 3 = p + 1 by omega, gd_or7 p p3]
  · intro n k u hk hu hw'
    refine pk_le 20 k (fun z => absurd z (by omega)) (fun _ => ⟨pk_in k 20 hk, nm_e ?_⟩)
    by_cases h3 : k < 3
    · refine gd_has1 h3 (br_f (by decide) ?_)
      rw [nI_clamp (show k < 2 ^ 31 by omega), gd_a3 k h3, gd_b3 k h3, nI_clamp (show k < 2 ^ 31 by omega), nI_clamp (show (k + 1) % 3 < 2 ^ 31 by omega)]
      refine ⟨pk_in k 20 hk, pk_in k 7 (by omega), pk_in k 20 hk, pk_in ((k + 1) % 3) 7 (by omega), br_t (ht k h3) (nm_e (nm_r (nI_1 k) (hw' _ ?_)))⟩
      rw [hu, show min k 3 = k by omega, show min (k + 1) 3 = k + 1 by omega, gd_or7 k h3]
    · refine gd_has0 (by omega) hk (br_t rfl (nm_r (gd_or0 _) (nm_r (nI_1 k) (hw' _ ?_))))
      rw [hu, show min (k + 1) 3 = min k 3 by omega]

/-- add -/
theorem gd_kbit : ∀ k, k < 3 → ∀ j, j < 3 → (((nI (2 ^ k - 1) >>> (nI j &&& 31)) &&& 1) = 0 ↔ ¬ j < k) := by decide +kernel
theorem gd_wbyte : ∀ n : Nat, n < 41 → (gd_z ((n : Int) - 20)).toInt8.toInt32 = gd_z ((n : Int) - 20) := by decide +kernel
theorem gd_add {post : Int32 → St2 → Prop} {hs tp bt : Int32} {a1 a2 a3 a4 a5 a6 a7 a8 a9 a10 a11 a12 a13 a14 a15 a16 a17 a18 a19 : Nat → Int32} {k a b m : Nat} (hk : k < 3) (ha : a < 7) (hb : b < 7) (hm : m < 41)
    (H : post (nI k) (nI (2 ^ (k + 1) - 1), hs, tp, bt, upd a1 k (nI a), upd a2 k (nI b), upd a3 k (gd_z ((m : Int) - 20)), a4, a5, a6, a7, a8, a9, a10, a11, a12, a13, a14, a15, a16, a17, a18, a19)) :
    wpX_add post (nI (2 ^ k - 1), hs, tp, bt, a1, a2, a3, a4, a5, a6, a7, a8, a9, a10, a11, a12, a13, a14, a15, a16, a17, a18, a19) (nI a) (nI b) (gd_z ((m : Int) - 20)) := by
  unfold wpX_add
  refine gd_point ha (br_f (by decide) (gd_point hb (br_f (by decide) ?_)))
  have w1 : ¬ gd_z ((m : Int) - 20) < (-20 : Int32) := by
    rw [show (-20 : Int32) = gd_z (-20) by decide, gd_zlt (by omega) (by omega) (by omega) (by omega)]
    omega
  have w2 : ¬ (20 : Int32) < gd_z ((m : Int) - 20) := by
    rw [show (20 : Int32) = gd_z 20 by decide, gd_zlt (by omega) (by omega) (by omega) (by omega)]
    omega
  refine br_f w1 (br_f w2 (br_f (by decide) ?_))
  refine pk_loop (σ := Unit) (fun n j _ => wX_add_28 post (nI a) (nI b) (gd_z ((m : Int) - 20)) (nI (2 ^ k - 1)) hs tp bt a1 a2 a3 a4 a5 a6 a7 a8 a9 a10 a11 a12 a13 a14 a15 a16 a17 a18 a19 n (nI j)) (fun _ _ => True) k 0 () (by omega) trivial ?_ ?_
  · intro n _ _
    refine pk_le 20 k (fun z => absurd z (by omega)) (fun _ => br_f (nI_pos (by omega)) (br_f (nI_ge (b := 20) (by omega) (by decide)) (br_t ((gd_kbit k hk k hk).mpr (by omega)) (br_t rfl ?_))))
    refine nm_r (gd_or7 k hk) ⟨pk_in k 20 (by omega), nm_r (e' := upd a1 k (nI a)) (by rw [nI_clamp (by omega), gd_byte a (by omega)]) ⟨pk_in k 20 (by omega), nm_r (e' := upd a2 k (nI b)) (by rw [nI_clamp (by omega), gd_byte b (by omega)]) ⟨pk_in k 20 (by omega), nm_r (e' := upd a3 k (gd_z ((m : Int) - 20))) (by rw [nI_clamp (by omega), gd_wbyte m hm]) H⟩⟩⟩
  · intro n j _ hj _ hw
    exact pk_le 20 j (fun z => absurd z (by omega)) (fun _ => br_f (nI_pos (by omega)) (br_f (nI_ge (b := 20) (by omega) (by decide)) (br_f (fun e => absurd hj ((gd_kbit k hk j (by omega)).mp e)) (br_f (by decide) (nm_r (nI_1 j) (hw () trivial))))))
theorem gd_a_eq : upd (upd (upd (fun _ => 0) 0 (nI 0)) 1 (nI 1)) 2 (nI 2) = gd_a := by
  funext j
  unfold upd gd_a
  by_cases j2 : j = 2
  · subst j2
    rfl
  · by_cases j1 : j = 1
    · subst j1
      rfl
    · rw [if_neg j2, if_neg j1, if_neg j1, if_neg j2]
      split <;> rfl
theorem gd_b_eq : upd (upd (upd (fun _ => 0) 0 (nI 1)) 1 (nI 2)) 2 (nI 0) = gd_b := by
  funext j
  unfold upd gd_b
  by_cases j2 : j = 2
  · subst j2
    rfl
  · by_cases j1 : j = 1
    · subst j1
      rfl
    · rw [if_neg j2, if_neg j1]
      split
      · rfl
      · rfl
theorem gd_w_eq (P Q R : Int) : upd (upd (upd (fun _ => 0) 0 (gd_z P)) 1 (gd_z Q)) 2 (gd_z R) = gd_w P Q R := by
  funext j
  unfold upd gd_w
  by_cases j2 : j = 2
  · subst j2
    rfl
  · by_cases j1 : j = 1
    · subst j1
      rfl
    · rw [if_neg j2, if_neg j1, if_neg j1, if_neg j2]
end
section
theorem gd_arg (p0 : Int32) : ∃ m : Nat, m < 41 ∧ ((p0 &&& 65535) - (p0 &&& 65535) / 41 * 41) - 20 = gd_z ((m : Int) - 20) := by
  obtain ⟨j, hj, e⟩ := pk_andE p0 (m := 65535) 16 (by decide)
  refine ⟨j % 41, by omega, ?_⟩
  rw [e, show nI j - nI j / 41 * 41 = nI (j % 41) from pk_rem (d := 41) (by omega) (by omega) (by omega), gd_zn, show (20 : Int32) = gd_z 20 by decide, gd_zs]
theorem gd_arg5 (p0 : Int32) : ∃ m : Nat, m < 5 ∧ ((p0 &&& 65535) - (p0 &&& 65535) / 5 * 5) = nI m := by
  obtain ⟨j, hj, e⟩ := pk_andE p0 (m := 65535) 16 (by decide)
  refine ⟨j % 5, by omega, ?_⟩
  rw [e, show nI j - nI j / 5 * 5 = nI (j % 5) from pk_rem (d := 5) (by omega) (by omega) (by omega)]
theorem gd_and1 {n : Nat} (h : n < 100) : nI n &&& 1 = nI (n % 2) := pk_andN (by omega) 1 (by decide)
theorem gd_rem3 : ∀ n : Nat, n < 121 → ((gd_z ((n : Int) - 60) - gd_z ((n : Int) - 60) / 3 * 3 = 0) ↔ ((n : Int) - 60) % 3 = 0) := by decide +kernel
/-- the last check -/
theorem gd_check {post : Int32 → St0 → Prop} {mc ms kc ks : Nat} {P Q R : Int} (hw : gd_wt P Q R) (h : post 1 ()) :
    ((0 : Int32) ≤ gd_z (P + Q + R) → wL_lawOf_168 post mc ms (gd_z P) (gd_z Q) (if P + Q + R < 0 then (-4000) else gd_z (P + Q)) (gd_z (gd_mt (P + Q + R))) (gd_z (gd_mb (P + Q + R))) (if P + Q + R < 0 then (-4000) else gd_z (P + Q + R)) (if P + Q + R < 0 then 0 else if P + Q + R = 0 then 7 else 3) (if P + Q + R < 0 then 7 else 0) 7 (gd_z (P + Q + R)) 0 kc ks) ∧
    (¬ (0 : Int32) ≤ gd_z (P + Q + R) → wL_lawOf_168 post mc ms (gd_z P) (gd_z Q) (if P + Q + R < 0 then (-4000) else gd_z (P + Q)) (gd_z (gd_mt (P + Q + R))) (gd_z (gd_mb (P + Q + R))) (if P + Q + R < 0 then (-4000) else gd_z (P + Q + R)) (if P + Q + R < 0 then 0 else if P + Q + R = 0 then 7 else 3) (if P + Q + R < 0 then 7 else 0) 7 (gd_z (P + Q + R)) 1 kc ks) := by
  unfold gd_wt at hw
  have e0 : (0 : Int32) ≤ gd_z (P + Q + R) ↔ 0 ≤ P + Q + R := by rw [gd_z0, gd_zle (by omega) (by omega) (by omega) (by omega)]
  have em : gd_z (gd_mt (P + Q + R)) * 3 = gd_z (P + Q + R) * gd_z (gd_mb (P + Q + R)) := by
    rw [show (3 : Int32) = gd_z 3 by decide, gd_zm, gd_zm]
    congr 1
    unfold gd_mt gd_mb
    split <;> omega
  have er : (gd_z (P + Q + R) - gd_z (P + Q + R) / 3 * 3 = 0) ↔ (P + Q + R) % 3 = 0 := by
    have := gd_rem3 (P + Q + R + 60).toNat (by omega)
    rw [show ((P + Q + R + 60).toNat : Int) - 60 = P + Q + R by omega] at this
    exact this
  have mb1 : (P + Q + R) % 3 = 0 → gd_z (gd_mb (P + Q + R)) = 1 := fun c => by
    unfold gd_mb
    rw [if_pos c]
    decide
  have mb3 : ¬ (P + Q + R) % 3 = 0 → gd_z (gd_mb (P + Q + R)) = 3 := fun c => by
    unfold gd_mb
    rw [if_neg c]
    decide
  refine ek_if e0 (fun g => ?_) (fun g => ?_)
  · have g' : ¬ P + Q + R < 0 := by omega
    rw [if_neg g', if_neg g', if_neg g', if_neg g']
    have fin : wL_lawOf_235 post mc ms (if P + Q + R = 0 then 7 else 3) 0 7 (gd_z (P + Q + R)) 0 (gd_z (P + Q + R)) (gd_z (P + Q + R)) kc ks := by
      have ez : gd_z (P + Q + R) = 0 ↔ P + Q + R = 0 := by rw [gd_z0, gd_zeq (by omega) (by omega) (by omega) (by omega)]
      refine br_t rfl (br_t rfl (ek_if ez (fun c => ?_) (fun c => ?_)))
      · rw [if_pos c]
        exact br_t rfl (br_t rfl (br_t rfl (br_t rfl h)))
      · rw [if_neg c]
        exact br_t rfl (br_t rfl (br_t rfl (br_t rfl h)))
    exact br_t rfl (br_t (gd_za P Q).symm (br_t em ⟨by decide, ek_if er (fun c => br_t (mb1 c) (br_t rfl fin)) (fun c => br_t (mb3 c) (br_t rfl fin))⟩))
  · have g' : P + Q + R < 0 := by omega
    rw [if_pos g', if_pos g', if_pos g', if_pos g']
    have fin : wL_lawOf_235 post mc ms 0 7 7 (gd_z (P + Q + R)) 1 (-4000) (-4000) kc ks :=
      br_t rfl (br_f (by decide) (br_t rfl (br_f (by decide) (br_t rfl (br_t rfl h)))))
    exact br_f (by decide) (br_t rfl (br_t em ⟨by decide, ek_if er (fun c => br_t (mb1 c) (br_f (by decide) fin)) (fun c => br_t (mb3 c) (br_f (by decide) fin))⟩))
theorem gd_lawOf {post : Int32 → St0 → Prop} {u : St0} {mc ms : Nat} (h1 : 20 ≤ mc) (h2 : 414 ≤ ms) (p0 p1 p2 p3 : Int32) (h : post 1 ()) : wpL_lawOf post mc ms u p0 p1 p2 p3 := by
  obtain ⟨m0, k0, e0⟩ := gd_arg p0
  obtain ⟨m1, k1, e1⟩ := gd_arg p1
  obtain ⟨m2, k2, e2⟩ := gd_arg p2
  obtain ⟨m3, k3, e3⟩ := gd_arg5 p3
  have hw : gd_wt ((m0 : Int) - 20) ((m1 : Int) - 20) ((m2 : Int) - 20) := by
    unfold gd_wt
    omega
  unfold wpL_lawOf
  refine ⟨by omega, by omega, 19, 391, by omega, by omega, ?_⟩
  refine ⟨by decide, by decide, by decide, by decide, by decide, by decide, by decide, by decide, by decide, by decide, by decide, by decide, by decide, by decide, by decide, by decide, by decide, by decide, by decide, by decide, by decide, by decide, by decide, by decide, by decide, by decide, by decide, by decide, by decide, by decide, by decide, by decide, by decide, by decide, by decide, by decide, by decide, by decide, ?_⟩
  refine ⟨by decide, nm_r e0 ⟨by decide, nm_r e1 ⟨by decide, nm_r e2 ⟨by decide, nm_r e3 ?_⟩⟩⟩⟩
  refine gd_add (k := 0) (a := 0) (b := 1) (by omega) (by omega) (by omega) k0 (gd_add (k := 1) (a := 1) (b := 2) (by omega) (by omega) (by omega) k1 (gd_add (k := 2) (a := 2) (b := 0) (by omega) (by omega) (by omega) k2 ?_))
  rw [gd_a_eq, gd_b_eq, gd_w_eq]
  refine gd_leastP k3 hw (fun hs tp bt a4 a5 a6 a7 a8 a9 a10 a11 a12 a13 a14 a15 a16 a17 a18 a19 => ?_)
  rw [gd_and1 (by omega)]
  refine gd_topP (by omega) hw (fun hs tp bt a4 a5 a6 a7 a8 a9 a10 a11 a12 a13 a14 a15 a16 a17 a18 a19 => gd_bottomP (by omega) hw (fun hs tp bt a4 a5 a6 a7 a8 a9 a10 a11 a12 a13 a14 a15 a16 a17 a18 a19 => gd_aroundP hw (fun hs tp bt a4 a5 a6 a7 a8 a9 a10 a11 a12 a13 a14 a15 a16 a17 a18 a19 => gd_onP hw (fun hs tp bt a4 a5 a6 a7 a8 a9 a10 a11 a12 a13 a14 a15 a16 a17 a18 a19 => gd_lowP hw (fun hs tp bt a4 a5 a6 a7 a8 a9 a10 a11 a12 a13 a14 a15 a16 a17 a18 a19 => gd_ringP hw (fun hs tp bt a4 a5 a6 a7 a8 a9 a10 a11 a12 a13 a14 a15 a16 a17 a18 a19 => nm_r (e' := gd_z (((m0 : Int) - 20) + ((m1 : Int) - 20) + ((m2 : Int) - 20))) (by rw [gd_za, gd_za]) (gd_check hw h)))))))
theorem gd_cellAt {post : Int32 → Prop} {L : Nat} {xs : Nat → Int32} {u : St0} {i : Nat} (hL : L ≤ 4) (hi : i < 4) (h : ∀ r, post r) : wpL_cellAt post L xs u (nI i) :=
  pk_le L i (fun _ => h 0) (fun z => ⟨pk_in i L z, h _⟩)
theorem i_vc (xs : Nat → Int32) (L : Nat) (hL : L ≤ 4) : wpL_law (fun r => r = 1) L xs := by
  unfold wpL_law
  exact gd_cellAt (i := 0) hL (by omega) (fun r1 => gd_cellAt (i := 1) hL (by omega) (fun r2 => gd_cellAt (i := 2) hL (by omega) (fun r3 => gd_cellAt (i := 3) hL (by omega) (fun r4 => ⟨206, 3280, by omega, by omega, gd_lawOf (by omega) (by omega) r1 r2 r3 r4 rfl⟩))))
end
