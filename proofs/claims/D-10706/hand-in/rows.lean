section
/-! pure rows: stores, bits, links, rounds of the distance -/
theorem mm_put {f : Nat → Int32} {x v : Int32} {P : (Nat → Int32) → Prop} {N : Nat} (n : Nat) (h : n < N) (k : P (upd f n v)) (hx : x = nI n := by rfl) (hN : N < 2 ^ 31 := by decide) : vp_in x N ∧ ∀ a : Nat → Int32, a = upd f x.toNatClampNeg v → P a := by
  subst hx
  refine ⟨vp_in_nI h hN, fun a e => ?_⟩
  rw [nI_clamp (by omega)] at e
  subst e
  exact k
theorem mm_pv {f : Nat → Int32} {x v : Int32} {P : (Nat → Int32) → Prop} {N : Nat} (n : Nat) (v' : Int32) (h : n < N) (hv : v = v') (k : P (upd f n v')) (hx : x = nI n := by rfl) (hN : N < 2 ^ 31 := by decide) : vp_in x N ∧ ∀ a : Nat → Int32, a = upd f x.toNatClampNeg v → P a := by
  subst hv
  exact mm_put n h k hx hN
theorem mm_rd1 {f : Nat → Int32} {n : Nat} {v : Int32} (hn : n < 2 ^ 31) (h : f n = v) : f (nI n).toNatClampNeg = v := by
  rw [nI_clamp hn]; exact h
theorem mm_mad (a b c : Nat) : nI a * nI b + nI c = nI (a * b + c) := by rw [pk_mul, nI_add]
theorem mm_pr (a b : Nat) : nI a + 8 * nI b = nI (a + 8 * b) := by
  show nI a + nI 8 * nI b = nI (a + 8 * b)
  rw [pk_mul, nI_add]
theorem mm_b8 : ∀ i, i < 128 → (nI i).toInt8.toInt32 = nI i := by decide +kernel
theorem mm_nm1 : ∀ t, t < 64 → ¬ nI t = (-1 : Int32) := by decide +kernel
theorem mm_0bit : ∀ m, m < 32 → ((0 : Int32) >>> (nI m &&& 31)) &&& 1 = 0 := by decide +kernel
theorem mm_1bit : ∀ m, m < 16 → 0 < m → ((1 : Int32) >>> (nI m &&& 31)) &&& 1 = 0 := by decide +kernel
theorem mm_1bit0 : ¬ ((1 : Int32) >>> ((0 : Int32) &&& 31)) &&& 1 = 0 := by decide +kernel
theorem mm_fill {s f : Nat → Int32} {c i : Nat} {v : Int32} (h : ∀ j, j < i → s (c + j) = f j) (hv : v = f i) : ∀ j, j < i + 1 → upd s (c + i) v (c + j) = f j := by
  intro j hj
  by_cases e : j = i
  · rw [e, pk_us, hv]
  · rw [pk_un (by omega)]
    exact h j (by omega)
theorem mm_fil0 {s f : Nat → Int32} {i : Nat} {v : Int32} (h : ∀ j, j < i → s j = f j) (hv : v = f i) : ∀ j, j < i + 1 → upd s i v j = f j := by
  intro j hj
  by_cases e : j = i
  · rw [e, pk_us, hv]
  · rw [pk_un (by omega)]
    exact h j (by omega)
theorem mm_z (k : Nat) : upd (fun _ => (0 : Int32)) k 0 = fun _ => 0 := by
  funext j
  show (if j = k then (0 : Int32) else 0) = 0
  split <;> rfl
def mm_fl (c : Int32) (n : Nat) : Nat → Int32 := fun j => if j < n then c else 0
theorem mm_fl0 (c : Int32) : mm_fl c 0 = fun _ => 0 := by
  funext j
  exact if_neg (Nat.not_lt_zero j)
theorem mm_flS (c : Int32) (n : Nat) : upd (mm_fl c n) n c = mm_fl c (n + 1) := by
  funext j
  show (if j = n then c else if j < n then c else 0) = if j < n + 1 then c else 0
  by_cases h : j = n
  · rw [if_pos h, if_pos (by omega)]
  · rw [if_neg h]
    by_cases g : j < n
    · rw [if_pos g, if_pos (by omega)]
    · rw [if_neg g, if_neg (by omega)]
theorem mm_flv {c : Int32} {n j : Nat} (h : j < n) : mm_fl c n j = c := if_pos h
/-- one link between p and q -/
def mm_lk (p q : Nat) : Nat → Int32 := upd (upd (fun _ => 0) p (((0 : Int32) ||| ((1 : Int32) <<< (nI q &&& 31))).toInt8.toInt32)) q ((((upd (fun _ => 0) p (((0 : Int32) ||| ((1 : Int32) <<< (nI q &&& 31))).toInt8.toInt32)) q) ||| ((1 : Int32) <<< (nI p &&& 31))).toInt8.toInt32)
theorem mm_lkx : ∀ p, p < 8 → ∀ q, q < 8 → p ≠ q → ∀ x, x < 64 → (((mm_lk p q (x / 8) >>> (nI (x % 8) &&& 31)) &&& 1) = 0 ↔ ¬ (x = p * 8 + q ∨ x = q * 8 + p)) := by decide +kernel
theorem mm_lkb (p : Nat) (hp : p < 8) (q : Nat) (hq : q < 8) (hn : p ≠ q) (i : Nat) (hi : i < 8) (j : Nat) (hj : j < 8) : ((mm_lk p q i >>> (nI j &&& 31)) &&& 1) = 0 ↔ ¬ ((i = p ∧ j = q) ∨ (i = q ∧ j = p)) := by
  have h := mm_lkx p hp q hq hn (i * 8 + j) (by omega)
  rw [show (i * 8 + j) / 8 = i by omega, show (i * 8 + j) % 8 = j by omega] at h
  rw [h]
  omega
/-- the link's two ends, as the message goes: s to g or g to s -/
def mm_ends (s g p q : Nat) : Prop := (s = p ∧ g = q) ∨ (s = q ∧ g = p)
theorem mm_up {s g p q : Nat} (hs : s < 8) (hg : g < 8) (hn : s ≠ g) (he : mm_ends s g p q) : ¬ ((mm_lk p q s >>> (nI g &&& 31)) &&& 1) = 0 := by
  rcases he with ⟨rfl, rfl⟩ | ⟨rfl, rfl⟩
  · exact fun z => ((mm_lkb s hs g hg hn s hs g hg).mp z) (Or.inl ⟨rfl, rfl⟩)
  · exact fun z => ((mm_lkb g hg s hs hn.symm s hs g hg).mp z) (Or.inr ⟨rfl, rfl⟩)
theorem mm_dn {s g p q t : Nat} (hs : s < 8) (hg : g < 8) (hn : s ≠ g) (he : mm_ends s g p q) (ht : t < 8) (h : t ≠ g) : ((mm_lk p q s >>> (nI t &&& 31)) &&& 1) = 0 := by
  rcases he with ⟨rfl, rfl⟩ | ⟨rfl, rfl⟩
  · exact (mm_lkb s hs g hg hn s hs t ht).mpr (by omega)
  · exact (mm_lkb g hg s hs hn.symm s hs t ht).mpr (by omega)
theorem mm_ne0 {s g p q : Nat} (hs : s < 8) (hg : g < 8) (hn : s ≠ g) (he : mm_ends s g p q) : ¬ mm_lk p q s = 0 := by
  intro z
  refine mm_up hs hg hn he ?_
  rw [z]
  exact mm_0bit g (by omega)
theorem mm_sw {s g p q : Nat} (he : mm_ends s g p q) : mm_ends g s p q := by
  rcases he with ⟨a, b⟩ | ⟨a, b⟩
  · exact Or.inr ⟨b, a⟩
  · exact Or.inl ⟨b, a⟩
/-- one round of the distance: what is reached is widened -/
def mm_rd (a : Nat → Int32) (r : Int32) : Nat → Int32
  | 0 => r
  | i + 1 => if ((r >>> (nI i &&& 31)) &&& 1) = 0 then mm_rd a r i ||| 0 else mm_rd a r i ||| (a i &&& 255)
def mm_on (a : Nat) : Int32 := (1 : Int32) <<< (nI a &&& 31)
theorem mm_onb : ∀ a, a < 8 → ∀ b, b < 8 → (((mm_on a >>> (nI b &&& 31)) &&& 1) = 0 ↔ ¬ a = b) := by decide +kernel
theorem mm_rd0 : ∀ a, a < 8 → mm_rd (fun _ => 0) (mm_on a) 8 = mm_on a := by decide +kernel
theorem mm_rdl : ∀ p, p < 8 → ∀ q, q < 8 → p ≠ q → ∀ a, a < 8 → mm_rd (mm_lk p q) (mm_on a) 8 = if a = p ∨ a = q then mm_on p ||| mm_on q else mm_on a := by decide +kernel
theorem mm_rd2 : ∀ p, p < 8 → ∀ q, q < 8 → p ≠ q → mm_rd (mm_lk p q) (mm_on p ||| mm_on q) 8 = mm_on p ||| mm_on q := by decide +kernel
theorem mm_onb2 : ∀ p, p < 8 → ∀ q, q < 8 → ∀ b, b < 8 → ((((mm_on p ||| mm_on q) >>> (nI b &&& 31)) &&& 1) = 0 ↔ ¬ (b = p ∨ b = q)) := by decide +kernel
end
section
/-! small methods: pair, isStation, has, isThere, isUp, distance, ready, messages, firstWaiting -/
theorem mm_pair {post : Int32 → Prop} {u : St0} {i j : Nat} (hp : post (nI (i + 8 * j))) : wpX_pair post u (nI i) (nI j) := by
  unfold wpX_pair
  rw [mm_pr]
  exact hp
theorem mm_stn {post : Int32 → Prop} {u : St0} {i : Nat} (hi : i < 8) (hp : post 1) : wpX_isStation post u (nI i) :=
  br_f (nI_pos (by omega)) (br_f (nI_ge (b := 8) hi (by decide)) hp)
theorem mm_has1 {post : Int32 → Prop} {f0 f2 f3 f4 f5 : Int32} {a1 a2 a3 a4 a5 a6 a7 a8 a9 a10 a11 a12 a13 a14 a15 a16 a17 a18 a19 a20 a21 a22 a23 a24 a25 a26 a27 a28 a29 a30 a31 a32 a33 a34 a35 a36 a37 a38 : Nat → Int32} {m : Nat} (hm : m < 16) (h0 : 0 < m) (hp : post 0) : wpX_has post (f0, 1, f2, f3, f4, f5, a1, a2, a3, a4, a5, a6, a7, a8, a9, a10, a11, a12, a13, a14, a15, a16, a17, a18, a19, a20, a21, a22, a23, a24, a25, a26, a27, a28, a29, a30, a31, a32, a33, a34, a35, a36, a37, a38) (nI m) := br_t (mm_1bit m hm h0) hp
theorem mm_has10 {post : Int32 → Prop} {f0 f2 f3 f4 f5 : Int32} {a1 a2 a3 a4 a5 a6 a7 a8 a9 a10 a11 a12 a13 a14 a15 a16 a17 a18 a19 a20 a21 a22 a23 a24 a25 a26 a27 a28 a29 a30 a31 a32 a33 a34 a35 a36 a37 a38 : Nat → Int32} (hp : post 1) : wpX_has post (f0, 1, f2, f3, f4, f5, a1, a2, a3, a4, a5, a6, a7, a8, a9, a10, a11, a12, a13, a14, a15, a16, a17, a18, a19, a20, a21, a22, a23, a24, a25, a26, a27, a28, a29, a30, a31, a32, a33, a34, a35, a36, a37, a38) 0 := br_f mm_1bit0 hp
theorem mm_has0 {post : Int32 → Prop} {f0 f2 f3 f4 f5 : Int32} {a1 a2 a3 a4 a5 a6 a7 a8 a9 a10 a11 a12 a13 a14 a15 a16 a17 a18 a19 a20 a21 a22 a23 a24 a25 a26 a27 a28 a29 a30 a31 a32 a33 a34 a35 a36 a37 a38 : Nat → Int32} {m : Nat} (hm : m < 16) (hp : post 0) : wpX_has post (f0, 0, f2, f3, f4, f5, a1, a2, a3, a4, a5, a6, a7, a8, a9, a10, a11, a12, a13, a14, a15, a16, a17, a18, a19, a20, a21, a22, a23, a24, a25, a26, a27, a28, a29, a30, a31, a32, a33, a34, a35, a36, a37, a38) (nI m) := br_t (mm_0bit m (by omega)) hp
theorem mm_the0 {post : Int32 → Prop} {f0 f1 f3 f4 f5 : Int32} {a1 a2 a3 a4 a5 a6 a7 a8 a9 a10 a11 a12 a13 a14 a15 a16 a17 a18 a19 a20 a21 a22 a23 a24 a25 a26 a27 a28 a29 a30 a31 a32 a33 a34 a35 a36 a37 a38 : Nat → Int32} {m : Nat} (hm : m < 16) (hp : post 0) : wpX_isThere post (f0, f1, 0, f3, f4, f5, a1, a2, a3, a4, a5, a6, a7, a8, a9, a10, a11, a12, a13, a14, a15, a16, a17, a18, a19, a20, a21, a22, a23, a24, a25, a26, a27, a28, a29, a30, a31, a32, a33, a34, a35, a36, a37, a38) (nI m) := br_t (mm_0bit m (by omega)) hp
theorem mm_the10 {post : Int32 → Prop} {f0 f1 f3 f4 f5 : Int32} {a1 a2 a3 a4 a5 a6 a7 a8 a9 a10 a11 a12 a13 a14 a15 a16 a17 a18 a19 a20 a21 a22 a23 a24 a25 a26 a27 a28 a29 a30 a31 a32 a33 a34 a35 a36 a37 a38 : Nat → Int32} (hp : post 1) : wpX_isThere post (f0, f1, 1, f3, f4, f5, a1, a2, a3, a4, a5, a6, a7, a8, a9, a10, a11, a12, a13, a14, a15, a16, a17, a18, a19, a20, a21, a22, a23, a24, a25, a26, a27, a28, a29, a30, a31, a32, a33, a34, a35, a36, a37, a38) 0 := br_f mm_1bit0 hp
theorem mm_isUp1 {post : Int32 → Prop} {f0 f1 f2 f3 f4 f5 : Int32} {a1 a2 a3 a4 a5 a6 a7 a8 a9 a10 a11 a12 a13 a14 a15 a16 a17 a18 a19 a20 a21 a22 a23 a24 a25 a26 a27 a28 a29 a30 a31 a32 a33 a34 a35 a36 a37 a38 : Nat → Int32} {i j : Nat} (hi : i < 8) (h : ¬ ((a1 i >>> (nI j &&& 31)) &&& 1) = 0) (hp : post 1) : wpX_isUp post (f0, f1, f2, f3, f4, f5, a1, a2, a3, a4, a5, a6, a7, a8, a9, a10, a11, a12, a13, a14, a15, a16, a17, a18, a19, a20, a21, a22, a23, a24, a25, a26, a27, a28, a29, a30, a31, a32, a33, a34, a35, a36, a37, a38) (nI i) (nI j) :=
  ⟨pk_in i 8 hi, br_f (by rw [nI_clamp (by omega)]; exact h) hp⟩
theorem mm_isUp0 {post : Int32 → Prop} {f0 f1 f2 f3 f4 f5 : Int32} {a1 a2 a3 a4 a5 a6 a7 a8 a9 a10 a11 a12 a13 a14 a15 a16 a17 a18 a19 a20 a21 a22 a23 a24 a25 a26 a27 a28 a29 a30 a31 a32 a33 a34 a35 a36 a37 a38 : Nat → Int32} {i j : Nat} (hi : i < 8) (h : ((a1 i >>> (nI j &&& 31)) &&& 1) = 0) (hp : post 0) : wpX_isUp post (f0, f1, f2, f3, f4, f5, a1, a2, a3, a4, a5, a6, a7, a8, a9, a10, a11, a12, a13, a14, a15, a16, a17, a18, a19, a20, a21, a22, a23, a24, a25, a26, a27, a28, a29, a30, a31, a32, a33, a34, a35, a36, a37, a38) (nI i) (nI j) :=
  ⟨pk_in i 8 hi, br_t (by rw [nI_clamp (by omega)]; exact h) hp⟩
theorem mm_d47 {post : Int32 → Prop} {J : Int32 → Int32 → Prop} {x2 r x4 : Int32} {f0 f1 f2 f3 f4 f5 : Int32} {a1 a2 a3 a4 a5 a6 a7 a8 a9 a10 a11 a12 a13 a14 a15 a16 a17 a18 a19 a20 a21 a22 a23 a24 a25 a26 a27 a28 a29 a30 a31 a32 a33 a34 a35 a36 a37 a38 : Nat → Int32} (H : J (mm_rd a1 r 8) (x4 + 1)) : ∃ n, wX_distance_47 post J x2 r x4 f0 f1 f2 f3 f4 f5 a1 a2 a3 a4 a5 a6 a7 a8 a9 a10 a11 a12 a13 a14 a15 a16 a17 a18 a19 a20 a21 a22 a23 a24 a25 a26 a27 a28 a29 a30 a31 a32 a33 a34 a35 a36 a37 a38 n r 0 :=
  pk_loop (fun n i s => wX_distance_47 post J x2 r x4 f0 f1 f2 f3 f4 f5 a1 a2 a3 a4 a5 a6 a7 a8 a9 a10 a11 a12 a13 a14 a15 a16 a17 a18 a19 a20 a21 a22 a23 a24 a25 a26 a27 a28 a29 a30 a31 a32 a33 a34 a35 a36 a37 a38 n s (nI i)) (fun i s => s = mm_rd a1 r i) 8 0 r (by omega) rfl
    (fun n s h => pk_le 8 8 (fun _ => nm_e (by rw [h]; exact H)) (fun z => absurd z (by omega)))
    (fun n i s hi h hw => pk_le 8 i (fun z => absurd z (by omega)) (fun _ => br_c
      (fun g => nm_e (nm_r (nI_1 i) (hw _ (by rw [h]; exact (if_pos g).symm))))
      (fun g => ⟨pk_in i 8 hi, nm_e (nm_r (nI_1 i) (hw _ (by rw [h, nI_clamp (by omega)]; exact (if_neg g).symm)))⟩)))
theorem mm_d23n {post : Int32 → Prop} {x2 r : Int32} {f0 f1 f2 f3 f4 f5 : Int32} {a1 a2 a3 a4 a5 a6 a7 a8 a9 a10 a11 a12 a13 a14 a15 a16 a17 a18 a19 a20 a21 a22 a23 a24 a25 a26 a27 a28 a29 a30 a31 a32 a33 a34 a35 a36 a37 a38 : Nat → Int32} (hf : mm_rd a1 r 8 = r) (hb : ((r >>> (x2 &&& 31)) &&& 1) = 0) (hp : post (-1)) : ∀ d i, i + d = 8 → wX_distance_23 post x2 f0 f1 f2 f3 f4 f5 a1 a2 a3 a4 a5 a6 a7 a8 a9 a10 a11 a12 a13 a14 a15 a16 a17 a18 a19 a20 a21 a22 a23 a24 a25 a26 a27 a28 a29 a30 a31 a32 a33 a34 a35 a36 a37 a38 (d + 1) r (nI i) := by
  intro d
  induction d with
  | zero => exact fun i hi => pk_le 8 i (fun _ => hp) (fun z => absurd z (by omega))
  | succ d ih =>
    intro i hi
    refine pk_le 8 i (fun z => absurd z (by omega)) (fun _ => br_t hb (mm_d47 ?_))
    rw [hf, nI_1]
    exact ih (i + 1) (by omega)
theorem mm_dA {post : Int32 → Prop} {f0 f1 f2 f3 f4 f5 : Int32} {a1 a2 a3 a4 a5 a6 a7 a8 a9 a10 a11 a12 a13 a14 a15 a16 a17 a18 a19 a20 a21 a22 a23 a24 a25 a26 a27 a28 a29 a30 a31 a32 a33 a34 a35 a36 a37 a38 : Nat → Int32} {a b : Nat} (ha : a < 8) (hb : b < 8) (H : ∃ n, wX_distance_23 post (nI b) f0 f1 f2 f3 f4 f5 a1 a2 a3 a4 a5 a6 a7 a8 a9 a10 a11 a12 a13 a14 a15 a16 a17 a18 a19 a20 a21 a22 a23 a24 a25 a26 a27 a28 a29 a30 a31 a32 a33 a34 a35 a36 a37 a38 n (mm_on a) 0) : wpX_distance post (f0, f1, f2, f3, f4, f5, a1, a2, a3, a4, a5, a6, a7, a8, a9, a10, a11, a12, a13, a14, a15, a16, a17, a18, a19, a20, a21, a22, a23, a24, a25, a26, a27, a28, a29, a30, a31, a32, a33, a34, a35, a36, a37, a38) (nI a) (nI b) := by
  unfold wpX_distance
  exact mm_stn ha (br_f (by decide) (mm_stn hb (br_f (by decide) (nm_e H))))
theorem mm_dist0 {post : Int32 → Prop} {f0 f1 f2 f3 f4 f5 : Int32} {a1 a2 a3 a4 a5 a6 a7 a8 a9 a10 a11 a12 a13 a14 a15 a16 a17 a18 a19 a20 a21 a22 a23 a24 a25 a26 a27 a28 a29 a30 a31 a32 a33 a34 a35 a36 a37 a38 : Nat → Int32} {a : Nat} (ha : a < 8) (hp : post 0) : wpX_distance post (f0, f1, f2, f3, f4, f5, a1, a2, a3, a4, a5, a6, a7, a8, a9, a10, a11, a12, a13, a14, a15, a16, a17, a18, a19, a20, a21, a22, a23, a24, a25, a26, a27, a28, a29, a30, a31, a32, a33, a34, a35, a36, a37, a38) (nI a) (nI a) :=
  mm_dA ha ha ⟨0 + 1, br_f (by decide) (br_f (fun z => (mm_onb a ha a ha).mp z rfl) hp)⟩
theorem mm_dist1 {post : Int32 → Prop} {f0 f1 f2 f3 f4 f5 : Int32} {a1 a2 a3 a4 a5 a6 a7 a8 a9 a10 a11 a12 a13 a14 a15 a16 a17 a18 a19 a20 a21 a22 a23 a24 a25 a26 a27 a28 a29 a30 a31 a32 a33 a34 a35 a36 a37 a38 : Nat → Int32} {a b : Nat} (ha : a < 8) (hb : b < 8) (hn : ¬ a = b) (h : ¬ ((mm_rd a1 (mm_on a) 8 >>> (nI b &&& 31)) &&& 1) = 0) (hp : post 1) : wpX_distance post (f0, f1, f2, f3, f4, f5, a1, a2, a3, a4, a5, a6, a7, a8, a9, a10, a11, a12, a13, a14, a15, a16, a17, a18, a19, a20, a21, a22, a23, a24, a25, a26, a27, a28, a29, a30, a31, a32, a33, a34, a35, a36, a37, a38) (nI a) (nI b) :=
  mm_dA ha hb ⟨0 + 1 + 1, br_f (by decide) (br_t ((mm_onb a ha b hb).mpr hn) (mm_d47 (br_f (by decide) (br_f h hp))))⟩
theorem mm_distN {post : Int32 → Prop} {f0 f1 f2 f3 f4 f5 : Int32} {a1 a2 a3 a4 a5 a6 a7 a8 a9 a10 a11 a12 a13 a14 a15 a16 a17 a18 a19 a20 a21 a22 a23 a24 a25 a26 a27 a28 a29 a30 a31 a32 a33 a34 a35 a36 a37 a38 : Nat → Int32} {a b : Nat} (ha : a < 8) (hb : b < 8) (hn : ¬ a = b) (r : Int32) (h1 : mm_rd a1 (mm_on a) 8 = r) (h2 : mm_rd a1 r 8 = r) (h : ((r >>> (nI b &&& 31)) &&& 1) = 0) (hp : post (-1)) : wpX_distance post (f0, f1, f2, f3, f4, f5, a1, a2, a3, a4, a5, a6, a7, a8, a9, a10, a11, a12, a13, a14, a15, a16, a17, a18, a19, a20, a21, a22, a23, a24, a25, a26, a27, a28, a29, a30, a31, a32, a33, a34, a35, a36, a37, a38) (nI a) (nI b) :=
  mm_dA ha hb ⟨7 + 1 + 1, br_f (by decide) (br_t ((mm_onb a ha b hb).mpr hn) (mm_d47 (by rw [h1]; exact mm_d23n h2 h hp 7 1 (by omega))))⟩
/-- the distances over one link -/
theorem mm_dU {post : Int32 → Prop} {f0 f1 f2 f3 f4 f5 : Int32} {a2 a3 a4 a5 a6 a7 a8 a9 a10 a11 a12 a13 a14 a15 a16 a17 a18 a19 a20 a21 a22 a23 a24 a25 a26 a27 a28 a29 a30 a31 a32 a33 a34 a35 a36 a37 a38 : Nat → Int32} {s g p q : Nat} (hs : s < 8) (hg : g < 8) (hn : s ≠ g) (he : mm_ends s g p q) (hp : post 1) : wpX_distance post (f0, f1, f2, f3, f4, f5, mm_lk p q, a2, a3, a4, a5, a6, a7, a8, a9, a10, a11, a12, a13, a14, a15, a16, a17, a18, a19, a20, a21, a22, a23, a24, a25, a26, a27, a28, a29, a30, a31, a32, a33, a34, a35, a36, a37, a38) (nI s) (nI g) := by
  refine mm_dist1 hs hg hn ?_ hp
  rcases he with ⟨rfl, rfl⟩ | ⟨rfl, rfl⟩
  · rw [mm_rdl s hs g hg hn s hs, if_pos (Or.inl rfl)]
    exact fun z => (mm_onb2 s hs g hg g hg).mp z (Or.inr rfl)
  · rw [mm_rdl g hg s hs hn.symm s hs, if_pos (Or.inr rfl)]
    exact fun z => (mm_onb2 g hg s hs g hg).mp z (Or.inl rfl)
theorem mm_dD {post : Int32 → Prop} {f0 f1 f2 f3 f4 f5 : Int32} {a2 a3 a4 a5 a6 a7 a8 a9 a10 a11 a12 a13 a14 a15 a16 a17 a18 a19 a20 a21 a22 a23 a24 a25 a26 a27 a28 a29 a30 a31 a32 a33 a34 a35 a36 a37 a38 : Nat → Int32} {s g p q : Nat} (hs : s < 8) (hg : g < 8) (hn : s ≠ g) (hP : p < 8) (hQ : q < 8) (hpq : p ≠ q) (he : ¬ mm_ends s g p q) (hp : post (-1)) : wpX_distance post (f0, f1, f2, f3, f4, f5, mm_lk p q, a2, a3, a4, a5, a6, a7, a8, a9, a10, a11, a12, a13, a14, a15, a16, a17, a18, a19, a20, a21, a22, a23, a24, a25, a26, a27, a28, a29, a30, a31, a32, a33, a34, a35, a36, a37, a38) (nI s) (nI g) := by
  by_cases h : s = p ∨ s = q
  · refine mm_distN hs hg hn (mm_on p ||| mm_on q) (by rw [mm_rdl p hP q hQ hpq s hs, if_pos h]) (mm_rd2 p hP q hQ hpq) ((mm_onb2 p hP q hQ g hg).mpr ?_) hp
    intro z
    refine he ?_
    unfold mm_ends
    omega
  · exact mm_distN hs hg hn (mm_on s) (by rw [mm_rdl p hP q hQ hpq s hs, if_neg h]) (by rw [mm_rdl p hP q hQ hpq s hs, if_neg h]) ((mm_onb s hs g hg).mpr hn) hp
theorem mm_dZ {post : Int32 → Prop} {f0 f1 f2 f3 f4 f5 : Int32} {a2 a3 a4 a5 a6 a7 a8 a9 a10 a11 a12 a13 a14 a15 a16 a17 a18 a19 a20 a21 a22 a23 a24 a25 a26 a27 a28 a29 a30 a31 a32 a33 a34 a35 a36 a37 a38 : Nat → Int32} {s g : Nat} (hs : s < 8) (hg : g < 8) (hn : s ≠ g) (hp : post (-1)) : wpX_distance post (f0, f1, f2, f3, f4, f5, fun _ => 0, a2, a3, a4, a5, a6, a7, a8, a9, a10, a11, a12, a13, a14, a15, a16, a17, a18, a19, a20, a21, a22, a23, a24, a25, a26, a27, a28, a29, a30, a31, a32, a33, a34, a35, a36, a37, a38) (nI s) (nI g) :=
  mm_distN hs hg hn (mm_on s) (mm_rd0 s hs) (mm_rd0 s hs) ((mm_onb s hs g hg).mpr hn) hp
/-- ready: nothing present; there already; waiting (r: is it connected) -/
theorem mm_rdy0 {post : Int32 → Prop} {f0 f2 f3 f4 f5 : Int32} {a1 a2 a3 a4 a5 a6 a7 a8 a9 a10 a11 a12 a13 a14 a15 a16 a17 a18 a19 a20 a21 a22 a23 a24 a25 a26 a27 a28 a29 a30 a31 a32 a33 a34 a35 a36 a37 a38 : Nat → Int32} (hp : post 0) : wpX_ready post (f0, 0, f2, f3, f4, f5, a1, a2, a3, a4, a5, a6, a7, a8, a9, a10, a11, a12, a13, a14, a15, a16, a17, a18, a19, a20, a21, a22, a23, a24, a25, a26, a27, a28, a29, a30, a31, a32, a33, a34, a35, a36, a37, a38) :=
  pk_loop (fun n i s => wX_ready_4 post f0 0 f2 f3 f4 f5 a1 a2 a3 a4 a5 a6 a7 a8 a9 a10 a11 a12 a13 a14 a15 a16 a17 a18 a19 a20 a21 a22 a23 a24 a25 a26 a27 a28 a29 a30 a31 a32 a33 a34 a35 a36 a37 a38 n s (nI i)) (fun _ s => s = 0) 16 0 (0 : Int32) (by omega) rfl
    (fun n s h => pk_le 16 16 (fun _ => by rw [h]; exact hp) (fun z => absurd z (by omega)))
    (fun n i s hi h hw => pk_le 16 i (fun z => absurd z (by omega)) (fun _ => mm_has0 hi (br_t rfl (nm_e (nm_r (nI_1 i) (hw _ (by rw [h]; rfl)))))))
theorem mm_rdyT {post : Int32 → Prop} {f0 f2 f3 f4 f5 : Int32} {a1 a2 a3 a4 a5 a6 a7 a8 a9 a10 a11 a12 a13 a14 a15 a16 a17 a18 a19 a20 a21 a22 a23 a24 a25 a26 a27 a28 a29 a30 a31 a32 a33 a34 a35 a36 a37 a38 : Nat → Int32} {x : Int32} (hp : post x) : ∃ n, wX_ready_4 post f0 1 f2 f3 f4 f5 a1 a2 a3 a4 a5 a6 a7 a8 a9 a10 a11 a12 a13 a14 a15 a16 a17 a18 a19 a20 a21 a22 a23 a24 a25 a26 a27 a28 a29 a30 a31 a32 a33 a34 a35 a36 a37 a38 n x (nI 1) :=
  pk_loop (fun n i s => wX_ready_4 post f0 1 f2 f3 f4 f5 a1 a2 a3 a4 a5 a6 a7 a8 a9 a10 a11 a12 a13 a14 a15 a16 a17 a18 a19 a20 a21 a22 a23 a24 a25 a26 a27 a28 a29 a30 a31 a32 a33 a34 a35 a36 a37 a38 n s (nI i)) (fun i s => 0 < i ∧ s = x) 16 1 x (by omega) ⟨by omega, rfl⟩
    (fun n s h => pk_le 16 16 (fun _ => by rw [h.2]; exact hp) (fun z => absurd z (by omega)))
    (fun n i s hi h hw => pk_le 16 i (fun z => absurd z (by omega)) (fun _ => mm_has1 hi h.1 (br_t rfl (nm_e (nm_r (nI_1 i) (hw _ ⟨by omega, by rw [h.2]; exact Int32.add_zero x⟩))))))
theorem mm_rdy1 {post : Int32 → Prop} {f0 f3 f4 f5 : Int32} {a1 a2 a3 a4 a5 a6 a7 a8 a9 a10 a11 a12 a13 a14 a15 a16 a17 a18 a19 a20 a21 a22 a23 a24 a25 a26 a27 a28 a29 a30 a31 a32 a33 a34 a35 a36 a37 a38 : Nat → Int32} (hp : post 0) : wpX_ready post (f0, 1, 1, f3, f4, f5, a1, a2, a3, a4, a5, a6, a7, a8, a9, a10, a11, a12, a13, a14, a15, a16, a17, a18, a19, a20, a21, a22, a23, a24, a25, a26, a27, a28, a29, a30, a31, a32, a33, a34, a35, a36, a37, a38) :=
  Exists.elim (show ∃ n, wX_ready_4 post f0 1 1 f3 f4 f5 a1 a2 a3 a4 a5 a6 a7 a8 a9 a10 a11 a12 a13 a14 a15 a16 a17 a18 a19 a20 a21 a22 a23 a24 a25 a26 a27 a28 a29 a30 a31 a32 a33 a34 a35 a36 a37 a38 n (0 + 0) (nI 1) from mm_rdyT hp) (fun n hn => ⟨n + 1, pk_le 16 0 (fun z => absurd z (by omega)) (fun _ => mm_has10 (br_f (by decide) (mm_the10 (br_f (by decide) (nm_e (nm_e hn))))))⟩)
theorem mm_rdyN {post : Int32 → Prop} {f0 f3 f4 f5 : Int32} {a1 a2 a3 a4 a5 a6 a7 a8 a9 a10 a11 a12 a13 a14 a15 a16 a17 a18 a19 a20 a21 a22 a23 a24 a25 a26 a27 a28 a29 a30 a31 a32 a33 a34 a35 a36 a37 a38 : Nat → Int32} (hc : ∀ Q : Int32 → Prop, Q 0 → wpX_isConnected Q (f0, 1, 0, f3, f4, f5, a1, a2, a3, a4, a5, a6, a7, a8, a9, a10, a11, a12, a13, a14, a15, a16, a17, a18, a19, a20, a21, a22, a23, a24, a25, a26, a27, a28, a29, a30, a31, a32, a33, a34, a35, a36, a37, a38) 0) (hp : post 0) : wpX_ready post (f0, 1, 0, f3, f4, f5, a1, a2, a3, a4, a5, a6, a7, a8, a9, a10, a11, a12, a13, a14, a15, a16, a17, a18, a19, a20, a21, a22, a23, a24, a25, a26, a27, a28, a29, a30, a31, a32, a33, a34, a35, a36, a37, a38) :=
  Exists.elim (show ∃ n, wX_ready_4 post f0 1 0 f3 f4 f5 a1 a2 a3 a4 a5 a6 a7 a8 a9 a10 a11 a12 a13 a14 a15 a16 a17 a18 a19 a20 a21 a22 a23 a24 a25 a26 a27 a28 a29 a30 a31 a32 a33 a34 a35 a36 a37 a38 n (0 + 0) (nI 1) from mm_rdyT hp) (fun n hn => ⟨n + 1, pk_le 16 0 (fun z => absurd z (by omega)) (fun _ => mm_has10 (br_f (by decide) (mm_the0 (m := 0) (by decide) (br_t rfl (hc _ (br_t rfl (nm_e (nm_e hn))))))))⟩)
theorem mm_rdyC {post : Int32 → Prop} {f0 f3 f4 f5 : Int32} {a1 a2 a3 a4 a5 a6 a7 a8 a9 a10 a11 a12 a13 a14 a15 a16 a17 a18 a19 a20 a21 a22 a23 a24 a25 a26 a27 a28 a29 a30 a31 a32 a33 a34 a35 a36 a37 a38 : Nat → Int32} (hc : ∀ Q : Int32 → Prop, Q 1 → wpX_isConnected Q (f0, 1, 0, f3, f4, f5, a1, a2, a3, a4, a5, a6, a7, a8, a9, a10, a11, a12, a13, a14, a15, a16, a17, a18, a19, a20, a21, a22, a23, a24, a25, a26, a27, a28, a29, a30, a31, a32, a33, a34, a35, a36, a37, a38) 0) (hp : post 1) : wpX_ready post (f0, 1, 0, f3, f4, f5, a1, a2, a3, a4, a5, a6, a7, a8, a9, a10, a11, a12, a13, a14, a15, a16, a17, a18, a19, a20, a21, a22, a23, a24, a25, a26, a27, a28, a29, a30, a31, a32, a33, a34, a35, a36, a37, a38) :=
  Exists.elim (show ∃ n, wX_ready_4 post f0 1 0 f3 f4 f5 a1 a2 a3 a4 a5 a6 a7 a8 a9 a10 a11 a12 a13 a14 a15 a16 a17 a18 a19 a20 a21 a22 a23 a24 a25 a26 a27 a28 a29 a30 a31 a32 a33 a34 a35 a36 a37 a38 n (0 + 1) (nI 1) from mm_rdyT hp) (fun n hn => ⟨n + 1, pk_le 16 0 (fun z => absurd z (by omega)) (fun _ => mm_has10 (br_f (by decide) (mm_the0 (m := 0) (by decide) (br_t rfl (hc _ (br_f (by decide) (nm_e (nm_e hn))))))))⟩)
theorem mm_con {post : Int32 → Prop} {f0 f1 f2 f3 f4 f5 : Int32} {a1 a2 a3 a4 a5 a6 a7 a8 a9 a10 a11 a12 a13 a14 a15 a16 a17 a18 a19 a20 a21 a22 a23 a24 a25 a26 a27 a28 a29 a30 a31 a32 a33 a34 a35 a36 a37 a38 : Nat → Int32} {s g : Nat} (h4 : a4 0 = nI s) (h5 : a5 0 = nI g) (hd : wpX_distance (fun r_3 => ((r_3 = (-1) → post 0) ∧ (¬ r_3 = (-1) → post 1))) (f0, f1, f2, f3, f4, f5, a1, a2, a3, a4, a5, a6, a7, a8, a9, a10, a11, a12, a13, a14, a15, a16, a17, a18, a19, a20, a21, a22, a23, a24, a25, a26, a27, a28, a29, a30, a31, a32, a33, a34, a35, a36, a37, a38) (nI s) (nI g)) : wpX_isConnected post (f0, f1, f2, f3, f4, f5, a1, a2, a3, a4, a5, a6, a7, a8, a9, a10, a11, a12, a13, a14, a15, a16, a17, a18, a19, a20, a21, a22, a23, a24, a25, a26, a27, a28, a29, a30, a31, a32, a33, a34, a35, a36, a37, a38) 0 := by
  refine ⟨pk_in 0 16 (by decide), pk_in 0 16 (by decide), ?_⟩
  rw [pk_cl (x := 0) 0, h4, h5]
  exact hd
/-- messages: one is present -/
theorem mm_msg {post : Int32 → Prop} {f0 f2 f3 f4 f5 : Int32} {a1 a2 a3 a4 a5 a6 a7 a8 a9 a10 a11 a12 a13 a14 a15 a16 a17 a18 a19 a20 a21 a22 a23 a24 a25 a26 a27 a28 a29 a30 a31 a32 a33 a34 a35 a36 a37 a38 : Nat → Int32} (hp : post 1) : wpX_messages post (f0, 1, f2, f3, f4, f5, a1, a2, a3, a4, a5, a6, a7, a8, a9, a10, a11, a12, a13, a14, a15, a16, a17, a18, a19, a20, a21, a22, a23, a24, a25, a26, a27, a28, a29, a30, a31, a32, a33, a34, a35, a36, a37, a38) :=
  Exists.elim (pk_loop (fun n i s => wX_messages_4 post f0 1 f2 f3 f4 f5 a1 a2 a3 a4 a5 a6 a7 a8 a9 a10 a11 a12 a13 a14 a15 a16 a17 a18 a19 a20 a21 a22 a23 a24 a25 a26 a27 a28 a29 a30 a31 a32 a33 a34 a35 a36 a37 a38 n s (nI i)) (fun i s => 0 < i ∧ s = 1) 16 1 ((0 : Int32) + 1) (by omega) ⟨by omega, rfl⟩
    (fun n s h => pk_le 16 16 (fun _ => by rw [h.2]; exact hp) (fun z => absurd z (by omega)))
    (fun n i s hi h hw => pk_le 16 i (fun z => absurd z (by omega)) (fun _ => mm_has1 hi h.1 (br_t rfl (nm_e (nm_r (nI_1 i) (hw _ ⟨by omega, by rw [h.2]; rfl⟩)))))))
    (fun n hn => ⟨n + 1, pk_le 16 0 (fun z => absurd z (by omega)) (fun _ => mm_has10 (br_f (by decide) (nm_e (nm_e hn))))⟩)
/-- firstWaiting -/
theorem mm_fwT {post : Int32 → Prop} {x1 x2 x : Int32} {f0 f2 f3 f4 f5 : Int32} {a1 a2 a3 a4 a5 a6 a7 a8 a9 a10 a11 a12 a13 a14 a15 a16 a17 a18 a19 a20 a21 a22 a23 a24 a25 a26 a27 a28 a29 a30 a31 a32 a33 a34 a35 a36 a37 a38 : Nat → Int32} (hp : post x) : ∃ n, wX_firstWaiting_5 post x1 x2 f0 1 f2 f3 f4 f5 a1 a2 a3 a4 a5 a6 a7 a8 a9 a10 a11 a12 a13 a14 a15 a16 a17 a18 a19 a20 a21 a22 a23 a24 a25 a26 a27 a28 a29 a30 a31 a32 a33 a34 a35 a36 a37 a38 n x (nI 1) :=
  pk_loop (fun n i s => wX_firstWaiting_5 post x1 x2 f0 1 f2 f3 f4 f5 a1 a2 a3 a4 a5 a6 a7 a8 a9 a10 a11 a12 a13 a14 a15 a16 a17 a18 a19 a20 a21 a22 a23 a24 a25 a26 a27 a28 a29 a30 a31 a32 a33 a34 a35 a36 a37 a38 n s (nI i)) (fun i s => 0 < i ∧ s = x) 16 1 x (by omega) ⟨by omega, rfl⟩
    (fun n s h => pk_le 16 16 (fun _ => by rw [h.2]; exact hp) (fun z => absurd z (by omega)))
    (fun n i s hi h hw => pk_le 16 i (fun z => absurd z (by omega)) (fun _ => mm_has1 hi h.1 (br_t rfl (br_t rfl (nm_r (nI_1 i) (hw _ ⟨by omega, h.2⟩))))))
theorem mm_fw0 {post : Int32 → Prop} {s g : Nat} {f0 f3 f4 f5 : Int32} {a1 a2 a3 a4 a5 a6 a7 a8 a9 a10 a11 a12 a13 a14 a15 a16 a17 a18 a19 a20 a21 a22 a23 a24 a25 a26 a27 a28 a29 a30 a31 a32 a33 a34 a35 a36 a37 a38 : Nat → Int32} (h4 : a4 0 = nI s) (h5 : a5 0 = nI g) (hp : post 0) : wpX_firstWaiting post (f0, 1, 0, f3, f4, f5, a1, a2, a3, a4, a5, a6, a7, a8, a9, a10, a11, a12, a13, a14, a15, a16, a17, a18, a19, a20, a21, a22, a23, a24, a25, a26, a27, a28, a29, a30, a31, a32, a33, a34, a35, a36, a37, a38) (nI s) (nI g) :=
  Exists.elim (show ∃ n, wX_firstWaiting_5 post (nI s) (nI g) f0 1 0 f3 f4 f5 a1 a2 a3 a4 a5 a6 a7 a8 a9 a10 a11 a12 a13 a14 a15 a16 a17 a18 a19 a20 a21 a22 a23 a24 a25 a26 a27 a28 a29 a30 a31 a32 a33 a34 a35 a36 a37 a38 n 0 (nI 1) from mm_fwT hp) (fun n hn => ⟨n + 1, pk_le 16 0 (fun z => absurd z (by omega)) (fun _ => mm_has10 (br_f (by decide) (mm_the0 (m := 0) (by decide)
    (br_t rfl ⟨pk_in 0 16 (by decide), br_t h4 ⟨pk_in 0 16 (by decide), br_t h5 (br_f (by decide) (br_t (by decide) (nm_e hn)))⟩⟩))))⟩)
theorem mm_fwN {post : Int32 → Prop} {x1 x2 : Int32} {f0 f3 f4 f5 : Int32} {a1 a2 a3 a4 a5 a6 a7 a8 a9 a10 a11 a12 a13 a14 a15 a16 a17 a18 a19 a20 a21 a22 a23 a24 a25 a26 a27 a28 a29 a30 a31 a32 a33 a34 a35 a36 a37 a38 : Nat → Int32} (h : ¬ (a4 0 = x1 ∧ a5 0 = x2)) (hp : post (-1)) : wpX_firstWaiting post (f0, 1, 0, f3, f4, f5, a1, a2, a3, a4, a5, a6, a7, a8, a9, a10, a11, a12, a13, a14, a15, a16, a17, a18, a19, a20, a21, a22, a23, a24, a25, a26, a27, a28, a29, a30, a31, a32, a33, a34, a35, a36, a37, a38) x1 x2 :=
  Exists.elim (show ∃ n, wX_firstWaiting_5 post x1 x2 f0 1 0 f3 f4 f5 a1 a2 a3 a4 a5 a6 a7 a8 a9 a10 a11 a12 a13 a14 a15 a16 a17 a18 a19 a20 a21 a22 a23 a24 a25 a26 a27 a28 a29 a30 a31 a32 a33 a34 a35 a36 a37 a38 n (-1) (nI 1) from mm_fwT hp) (fun n hn => ⟨n + 1, pk_le 16 0 (fun z => absurd z (by omega)) (fun _ => mm_has10 (br_f (by decide) (mm_the0 (m := 0) (by decide)
    (br_t rfl ⟨pk_in 0 16 (by decide), br_c (fun h4 => ⟨pk_in 0 16 (by decide), br_f (fun h5 => h ⟨h4, h5⟩) (br_t rfl (nm_e hn))⟩) (fun _ => br_t rfl (nm_e hn))⟩))))⟩)
theorem mm_fw1 {post : Int32 → Prop} {x1 x2 : Int32} {f0 f3 f4 f5 : Int32} {a1 a2 a3 a4 a5 a6 a7 a8 a9 a10 a11 a12 a13 a14 a15 a16 a17 a18 a19 a20 a21 a22 a23 a24 a25 a26 a27 a28 a29 a30 a31 a32 a33 a34 a35 a36 a37 a38 : Nat → Int32} (hp : post (-1)) : wpX_firstWaiting post (f0, 1, 1, f3, f4, f5, a1, a2, a3, a4, a5, a6, a7, a8, a9, a10, a11, a12, a13, a14, a15, a16, a17, a18, a19, a20, a21, a22, a23, a24, a25, a26, a27, a28, a29, a30, a31, a32, a33, a34, a35, a36, a37, a38) x1 x2 :=
  Exists.elim (show ∃ n, wX_firstWaiting_5 post x1 x2 f0 1 1 f3 f4 f5 a1 a2 a3 a4 a5 a6 a7 a8 a9 a10 a11 a12 a13 a14 a15 a16 a17 a18 a19 a20 a21 a22 a23 a24 a25 a26 a27 a28 a29 a30 a31 a32 a33 a34 a35 a36 a37 a38 n (-1) (nI 1) from mm_fwT hp) (fun n hn => ⟨n + 1, pk_le 16 0 (fun z => absurd z (by omega)) (fun _ => mm_has10 (br_f (by decide) (mm_the10
    (br_f (by decide) (br_t rfl (nm_e hn))))))⟩)
end
section
/-! frames: begin, fly, send, tellAll, passOn, hasWay -/
theorem mm_begin {post : St2 → Prop} {x1 x2 x3 : Int32} {f0 f1 f2 f3 f4 f5 : Int32} {a1 a2 a3 a4 a5 a6 a7 a8 a9 a10 a11 a12 a13 a14 a15 a16 a17 a18 a19 a20 a21 a22 a23 a24 a25 a26 a27 a28 a29 a30 a31 a32 a33 a34 a35 a36 a37 a38 : Nat → Int32} (H : ∀ w : Nat → Int32, w 0 = x1 → w 1 = x2 → w 2 = x3 → (∀ j, 3 ≤ j → j < 12 → w j = 0) → post (f0, f1, f2, f3, f4, f5, a1, a2, a3, a4, a5, a6, a7, a8, a9, a10, a11, a12, a13, a14, a15, a16, a17, a18, a19, a20, a21, a22, a23, a24, a25, a26, a27, a28, a29, a30, a31, a32, a33, a34, a35, a36, w, a38)) : wpX_begin post (f0, f1, f2, f3, f4, f5, a1, a2, a3, a4, a5, a6, a7, a8, a9, a10, a11, a12, a13, a14, a15, a16, a17, a18, a19, a20, a21, a22, a23, a24, a25, a26, a27, a28, a29, a30, a31, a32, a33, a34, a35, a36, a37, a38) x1 x2 x3 := by
  refine pk_loop (fun n i s => wX_begin_3 post x1 x2 x3 f0 f1 f2 f3 f4 f5 n (nI i) a1 a2 a3 a4 a5 a6 a7 a8 a9 a10 a11 a12 a13 a14 a15 a16 a17 a18 a19 a20 a21 a22 a23 a24 a25 a26 a27 a28 a29 a30 a31 a32 a33 a34 a35 a36 s a38) (fun i s => ∀ j, j < i → s j = 0) 12 0 a37 (by omega) (fun j hj => absurd hj (by omega)) ?_ ?_
  · intro n s h
    refine pk_le 12 12 (fun _ => nm_e (nm_e (nm_e (H _ ?_ ?_ ?_ ?_)))) (fun z => absurd z (by omega))
    · rw [pk_un (by omega), pk_un (by omega), pk_us]
    · rw [pk_un (by omega), pk_us]
    · rw [pk_us]
    · intro j h3 hj
      rw [pk_un (by omega), pk_un (by omega), pk_un (by omega)]
      exact h j hj
  · intro n i s hi h hw
    exact pk_le 12 i (fun z => absurd z (by omega)) (fun _ => mm_put i hi (nm_r (nI_1 i) (hw _ (mm_fil0 (f := fun _ => 0) h rfl))))
theorem mm_fly {post : St2 → Prop} {f0 f1 f2 f3 f4 : Int32} {a1 a2 a3 a4 a5 a6 a7 a8 a9 a10 a11 a12 a13 a14 a15 a16 a17 a18 a19 a20 a21 a22 a23 a24 a25 a26 a27 a28 a29 a30 a31 a32 a33 a34 a35 a36 a37 a38 : Nat → Int32} {k i t : Nat} {d : Int32} (hk : k < 1000) (hi : i < 8) (ht : t < 8)
    (H : ∀ w : Nat → Int32, (∀ j, j < 12 → w (k * 12 + j) = a37 j) → post (f0, f1, f2, f3, f4, nI (k + 1), a1, a2, a3, a4, a5, a6, a7, a8, a9, a10, a11, a12, a13, a14, a15, a16, a17, a18, a19, a20, a21, a22, a23, a24, a25, a26, upd a27 k 1, upd a28 k (nI i), upd a29 k (nI t), upd a30 k d, w, a32, a33, a34, a35, a36, a37, a38)) : wpX_fly post (f0, f1, f2, f3, f4, nI k, a1, a2, a3, a4, a5, a6, a7, a8, a9, a10, a11, a12, a13, a14, a15, a16, a17, a18, a19, a20, a21, a22, a23, a24, a25, a26, a27, a28, a29, a30, a31, a32, a33, a34, a35, a36, a37, a38) (nI i) (nI t) d := by
  refine ⟨by decide, nm_r (e' := nI (k + 1)) ?_ (mm_put k (by omega) (mm_pv k (nI i) (by omega) (mm_b8 i (by omega)) (mm_pv k (nI t) (by omega) (mm_b8 t (by omega)) (mm_put k (by omega) ?_))))⟩
  · rw [nI_1]
    refine (pk_rem (a := k + 1) (d := 1024) (by omega) (by omega) (by omega)).trans ?_
    rw [Nat.mod_eq_of_lt (by omega)]
  · refine pk_loop (fun n j s => wX_fly_57 post (nI k) f0 f1 f2 f3 f4 (nI (k + 1)) n (nI j) a1 a2 a3 a4 a5 a6 a7 a8 a9 a10 a11 a12 a13 a14 a15 a16 a17 a18 a19 a20 a21 a22 a23 a24 a25 a26 (upd a27 k 1) (upd a28 k (nI i)) (upd a29 k (nI t)) (upd a30 k d) s a32 a33 a34 a35 a36 a37 a38) (fun i s => ∀ j, j < i → s (k * 12 + j) = a37 j) 12 0 a31 (by omega) (fun j hj => absurd hj (by omega)) ?_ ?_
    · exact fun n s h => pk_le 12 12 (fun _ => H s h) (fun z => absurd z (by omega))
    · exact fun n j s hj h hw => pk_le 12 j (fun z => absurd z (by omega)) (fun _ => ⟨pk_in j 12 hj, mm_pv (k * 12 + j) (a37 j) (by omega) (by rw [nI_clamp (by omega)]) (nm_r (nI_1 j) (hw _ (mm_fill h rfl))) (mm_mad k 12 j)⟩)
theorem mm_send {post : St2 → Prop} {f0 f1 f2 f3 f4 : Int32} {a1 a2 a3 a4 a5 a6 a7 a8 a9 a10 a11 a12 a13 a14 a15 a16 a17 a18 a19 a20 a21 a22 a23 a24 a25 a26 a27 a28 a29 a30 a31 a32 a33 a34 a35 a36 a37 a38 : Nat → Int32} {k i t : Nat} (hk : k < 1000) (hi : i < 8) (ht : t < 8) (h33 : ∀ j, j < 16 → a33 j = 0)
    (H : ∀ w c : Nat → Int32, (∀ j, j < 12 → w (k * 12 + j) = a37 j) → post (f0, f1, f2, f3, f4, nI (k + 1), a1, a2, a3, a4, a5, a6, a7, a8, a9, a10, a11, a12, a13, a14, a15, a16, a17, a18, a19, a20, a21, a22, a23, a24, a25, a26, upd a27 k 1, upd a28 k (nI i), upd a29 k (nI t), upd a30 k (f4 + 1 + 0), w, c, a33, a34, a35, a36, a37, a38)) : wpX_send post (f0, f1, f2, f3, f4, nI k, a1, a2, a3, a4, a5, a6, a7, a8, a9, a10, a11, a12, a13, a14, a15, a16, a17, a18, a19, a20, a21, a22, a23, a24, a25, a26, a27, a28, a29, a30, a31, a32, a33, a34, a35, a36, a37, a38) (nI i) (nI t) := by
  refine ⟨pk_in i 8 hi, nm_e ⟨pk_in i 8 hi, mm_put i hi ?_⟩⟩
  refine pk_loop (σ := Unit) (fun n j _ => wX_send_26 post (nI i) (nI t) (a32 (nI i).toNatClampNeg) f0 f1 f2 f3 f4 (nI k) n 1 1 (nI j) a1 a2 a3 a4 a5 a6 a7 a8 a9 a10 a11 a12 a13 a14 a15 a16 a17 a18 a19 a20 a21 a22 a23 a24 a25 a26 a27 a28 a29 a30 a31 (upd a32 i (a32 (nI i).toNatClampNeg + 1)) a33 a34 a35 a36 a37 a38) (fun _ _ => True) 16 0 () (by omega) trivial ?_ ?_
  · refine fun n _ _ => pk_le 16 16 (fun _ => ⟨0 + 1 + 1, ?_⟩) (fun z => absurd z (by omega))
    exact br_f (by decide) (mm_fly hk hi ht (fun w hw => nm_e (br_t (by decide) (H w _ hw))))
  · exact fun n j _ hj _ hw => pk_le 16 j (fun z => absurd z (by omega)) (fun _ => ⟨pk_in j 16 hj, br_t (mm_rd1 (by omega) (h33 j hj)) (nm_r (nI_1 j) (hw () trivial))⟩)
theorem mm_tellS {post : St2 → Prop} {f0 f1 f2 f3 f4 f5 : Int32} {a1 a2 a3 a4 a5 a6 a7 a8 a9 a10 a11 a12 a13 a14 a15 a16 a17 a18 a19 a20 a21 a22 a23 a24 a25 a26 a27 a28 a29 a30 a31 a32 a33 a34 a35 a36 a37 a38 : Nat → Int32} {s : Nat} (hs : s < 8) (n : Nat) : ∀ d j, (∀ t, j ≤ t → t < j + d → t < 8 ∧ ((a1 s >>> (nI t &&& 31)) &&& 1) = 0) → wX_tellAll_2 post (nI s) n (nI (j + d)) f0 f1 f2 f3 f4 f5 a1 a2 a3 a4 a5 a6 a7 a8 a9 a10 a11 a12 a13 a14 a15 a16 a17 a18 a19 a20 a21 a22 a23 a24 a25 a26 a27 a28 a29 a30 a31 a32 a33 a34 a35 a36 a37 a38 → wX_tellAll_2 post (nI s) (n + d) (nI j) f0 f1 f2 f3 f4 f5 a1 a2 a3 a4 a5 a6 a7 a8 a9 a10 a11 a12 a13 a14 a15 a16 a17 a18 a19 a20 a21 a22 a23 a24 a25 a26 a27 a28 a29 a30 a31 a32 a33 a34 a35 a36 a37 a38 := by
  intro d
  induction d with
  | zero => exact fun j _ h => h
  | succ d ih =>
    intro j hj h
    have hj8 := hj j (by omega) (by omega)
    have h8 := hj8.1
    refine pk_le 8 j (fun z => absurd z (by omega)) (fun _ => mm_isUp0 hs hj8.2 (br_t rfl (nm_r (nI_1 j) ?_)))
    refine ih (j + 1) (fun t h1 h2 => hj t (by omega) (by omega)) ?_
    rw [show j + 1 + d = j + (d + 1) by omega]
    exact h
theorem mm_tellAll {post : St2 → Prop} {f0 f1 f2 f3 f4 : Int32} {a1 a2 a3 a4 a5 a6 a7 a8 a9 a10 a11 a12 a13 a14 a15 a16 a17 a18 a19 a20 a21 a22 a23 a24 a25 a26 a27 a28 a29 a30 a31 a32 a33 a34 a35 a36 a37 a38 : Nat → Int32} {k s g : Nat} (hk : k < 1000) (hs : s < 8) (hg : g < 8) (h33 : ∀ j, j < 16 → a33 j = 0)
    (hup : ¬ ((a1 s >>> (nI g &&& 31)) &&& 1) = 0) (hdn : ∀ t, t < 8 → t ≠ g → ((a1 s >>> (nI t &&& 31)) &&& 1) = 0)
    (H : ∀ w c : Nat → Int32, (∀ j, j < 12 → w (k * 12 + j) = a37 j) → post (f0, f1, f2, f3, f4, nI (k + 1), a1, a2, a3, a4, a5, a6, a7, a8, a9, a10, a11, a12, a13, a14, a15, a16, a17, a18, a19, a20, a21, a22, a23, a24, a25, a26, upd a27 k 1, upd a28 k (nI s), upd a29 k (nI g), upd a30 k (f4 + 1 + 0), w, c, a33, a34, a35, a36, a37, a38)) : wpX_tellAll post (f0, f1, f2, f3, f4, nI k, a1, a2, a3, a4, a5, a6, a7, a8, a9, a10, a11, a12, a13, a14, a15, a16, a17, a18, a19, a20, a21, a22, a23, a24, a25, a26, a27, a28, a29, a30, a31, a32, a33, a34, a35, a36, a37, a38) (nI s) := by
  refine ⟨((0 + 1) + (7 - g) + 1) + g, mm_tellS (f5 := nI k) hs _ g 0 (fun t _ h2 => ⟨by omega, hdn t (by omega) (by omega)⟩) ?_⟩
  rw [Nat.zero_add g]
  refine pk_le 8 g (fun z => absurd z (by omega)) (fun _ => mm_isUp1 hs hup (br_f (by decide) (mm_send hk hs hg h33 (fun w c hw => nm_r (nI_1 g) ?_))))
  refine mm_tellS hs _ (7 - g) (g + 1) (fun t h1 h2 => ⟨by omega, hdn t (by omega) (by omega)⟩) ?_
  rw [show g + 1 + (7 - g) = 8 by omega]
  exact pk_le 8 8 (fun _ => H w c hw) (fun z => absurd z (by omega))
theorem mm_passOn {post : St2 → Prop} {f0 f1 f2 f3 f4 : Int32} {a1 a2 a3 a4 a5 a6 a7 a8 a9 a10 a11 a12 a13 a14 a15 a16 a17 a18 a19 a20 a21 a22 a23 a24 a25 a26 a27 a28 a29 a30 a31 a32 a33 a34 a35 a36 a37 a38 : Nat → Int32} {k i t : Nat} (hk : k < 1000) (hi : i < 8) (ht : t < 8) (h33 : ∀ j, j < 16 → a33 j = 0)
    (h37 : a37 2 = nI t) (h13 : a13 (i * 8 + t) = nI t) (hup : ¬ ((a1 i >>> (nI t &&& 31)) &&& 1) = 0)
    (H : ∀ w c : Nat → Int32, (∀ j, j < 12 → w (k * 12 + j) = a37 j) → post (f0, f1, f2, f3, f4, nI (k + 1), a1, a2, a3, a4, a5, a6, a7, a8, a9, a10, a11, a12, a13, a14, a15, a16, a17, a18, a19, a20, a21, a22, a23, a24, a25, a26, upd a27 k 1, upd a28 k (nI i), upd a29 k (nI t), upd a30 k (f4 + 1 + 0), w, c, a33, a34, a35, a36, a37, a38)) : wpX_passOn post (f0, f1, f2, f3, f4, nI k, a1, a2, a3, a4, a5, a6, a7, a8, a9, a10, a11, a12, a13, a14, a15, a16, a17, a18, a19, a20, a21, a22, a23, a24, a25, a26, a27, a28, a29, a30, a31, a32, a33, a34, a35, a36, a37, a38) (nI i) :=
  nm_r h37 (nm_r (mm_mad i 8 t) ⟨pk_in (i * 8 + t) 64 (by omega), nm_r (mm_rd1 (by omega) h13) (br_f (mm_nm1 t (by omega)) (mm_isUp1 hi hup (br_f (by decide) (mm_send hk hi ht h33 (fun w c hw => H w c hw)))))⟩)
theorem mm_way0 {post : Int32 → St2 → Prop} {f0 f1 f2 f3 f4 f5 : Int32} {a1 a2 a3 a4 a5 a6 a7 a8 a9 a10 a11 a12 a13 a14 a15 a16 a17 a18 a19 a20 a21 a22 a23 a24 a25 a26 a27 a28 a29 a30 a31 a32 a33 a34 a35 a36 a37 a38 : Nat → Int32} {s g : Nat} (hs : s < 8) (hg : g < 8) (h : a13 (s * 8 + g) = -1) (hp : post 0 (f0, f1, f2, f3, f4, f5, a1, a2, a3, a4, a5, a6, a7, a8, a9, a10, a11, a12, a13, a14, a15, a16, a17, a18, a19, a20, a21, a22, a23, a24, a25, a26, a27, a28, a29, a30, a31, a32, a33, a34, a35, a36, a37, a38)) : wpX_hasWay post (f0, f1, f2, f3, f4, f5, a1, a2, a3, a4, a5, a6, a7, a8, a9, a10, a11, a12, a13, a14, a15, a16, a17, a18, a19, a20, a21, a22, a23, a24, a25, a26, a27, a28, a29, a30, a31, a32, a33, a34, a35, a36, a37, a38) (nI s) (nI g) :=
  nm_r (mm_mad s 8 g) ⟨pk_in (s * 8 + g) 64 (by omega), nm_r (mm_rd1 (by omega) h) (br_t rfl hp)⟩
theorem mm_way1 {post : Int32 → St2 → Prop} {f0 f1 f2 f3 f4 f5 : Int32} {a1 a2 a3 a4 a5 a6 a7 a8 a9 a10 a11 a12 a13 a14 a15 a16 a17 a18 a19 a20 a21 a22 a23 a24 a25 a26 a27 a28 a29 a30 a31 a32 a33 a34 a35 a36 a37 a38 : Nat → Int32} {s g : Nat} (hs : s < 8) (hg : g < 8) (h : a13 (s * 8 + g) = nI g) (hup : ¬ ((a1 s >>> (nI g &&& 31)) &&& 1) = 0) (hp : post 1 (f0, f1, f2, f3, f4, f5, a1, a2, a3, a4, a5, a6, a7, a8, a9, a10, a11, a12, a13, a14, a15, a16, a17, a18, a19, a20, a21, a22, a23, a24, a25, a26, a27, a28, a29, a30, a31, a32, a33, a34, a35, a36, a37, a38)) : wpX_hasWay post (f0, f1, f2, f3, f4, f5, a1, a2, a3, a4, a5, a6, a7, a8, a9, a10, a11, a12, a13, a14, a15, a16, a17, a18, a19, a20, a21, a22, a23, a24, a25, a26, a27, a28, a29, a30, a31, a32, a33, a34, a35, a36, a37, a38) (nI s) (nI g) :=
  nm_r (mm_mad s 8 g) ⟨pk_in (s * 8 + g) 64 (by omega), nm_r (mm_rd1 (by omega) h) (br_f (mm_nm1 g (by omega)) (mm_isUp1 hs hup (br_f (by decide) hp)))⟩
end
section
/-! what is heard: learn, wasSeen, see, hearAsk, hearTell, keepPiece, accept, hearPiece -/
theorem mm_learn {post : St2 → Prop} {f0 f1 f2 f3 f4 f5 : Int32} {a1 a2 a3 a4 a5 a6 a7 a8 a9 a10 a11 a12 a13 a14 a15 a16 a17 a18 a19 a20 a21 a22 a23 a24 a25 a26 a27 a28 a29 a30 a31 a32 a33 a34 a35 a36 a37 a38 : Nat → Int32} {i t m : Nat} {y x4 x5 : Int32} (hi : i < 8) (ht : t < 8) (hn : i ≠ t) (hm : m < 8) (hy : y = nI t) (h : ¬ x5 ≤ a15 (i * 8 + t)) (h' : ¬ x5 = a15 (i * 8 + t))
    (H : ∀ c : Nat → Int32, post (f0, f1, f2, f3, f4, f5, a1, a2, a3, a4, a5, a6, a7, a8, a9, a10, a11, a12, upd a13 (i * 8 + t) (nI m), c, upd a15 (i * 8 + t) x5, a16, a17, a18, a19, a20, a21, a22, a23, a24, a25, a26, a27, a28, a29, a30, a31, a32, a33, a34, a35, a36, a37, a38)) : wpX_learn post (f0, f1, f2, f3, f4, f5, a1, a2, a3, a4, a5, a6, a7, a8, a9, a10, a11, a12, a13, a14, a15, a16, a17, a18, a19, a20, a21, a22, a23, a24, a25, a26, a27, a28, a29, a30, a31, a32, a33, a34, a35, a36, a37, a38) (nI i) y (nI m) x4 x5 := by
  subst hy
  refine br_f (fun z => hn ((nI_eq (by omega) (by omega)).mp z)) (nm_r (mm_mad i 8 t) ⟨pk_in (i * 8 + t) 64 (by omega), br_f (by rw [nI_clamp (by omega)]; exact h) ⟨pk_in (i * 8 + t) 64 (by omega), br_f (by rw [nI_clamp (by omega)]; exact h') ?_⟩⟩)
  exact br_f (by decide) (mm_pv (i * 8 + t) (nI m) (by omega) (mm_b8 m (by omega)) (mm_put (i * 8 + t) (by omega) (mm_put (i * 8 + t) (by omega) (H _))))
theorem mm_wasSeen {post : Int32 → Prop} {f0 f1 f2 f3 f4 f5 : Int32} {a1 a2 a3 a4 a5 a6 a7 a8 a9 a10 a11 a12 a13 a14 a15 a16 a17 a18 a19 a20 a21 a22 a23 a24 a25 a26 a27 a28 a29 a30 a31 a32 a33 a34 a35 a36 a37 a38 : Nat → Int32} {i f : Nat} {y : Int32} (hi : i < 8) (h : ∀ j, j < 64 → ¬ a17 (i * 64 + j) = nI f) (hp : post 0) : wpX_wasSeen post (f0, f1, f2, f3, f4, f5, a1, a2, a3, a4, a5, a6, a7, a8, a9, a10, a11, a12, a13, a14, a15, a16, a17, a18, a19, a20, a21, a22, a23, a24, a25, a26, a27, a28, a29, a30, a31, a32, a33, a34, a35, a36, a37, a38) (nI i) (nI f) y :=
  nm_r (pk_mul i 64) (pk_loop (σ := Unit) (fun n j _ => wX_wasSeen_6 post (nI i) (nI f) y f0 f1 f2 f3 f4 f5 a1 a2 a3 a4 a5 a6 a7 a8 a9 a10 a11 a12 a13 a14 a15 a16 a17 a18 a19 a20 a21 a22 a23 a24 a25 a26 a27 a28 a29 a30 a31 a32 a33 a34 a35 a36 a37 a38 n (nI j)) (fun j _ => i * 64 ≤ j) (i * 64 + 64) (i * 64) () (by omega) (Nat.le_refl _)
    (fun n _ _ => pk_le (i * 64 + 64) (i * 64 + 64) (fun _ => hp) (fun z => absurd z (by omega)) (mm_mad i 64 64))
    (fun n j _ hj h0 hw => pk_le (i * 64 + 64) j (fun z => absurd z (by omega)) (fun _ => ⟨pk_in j 512 (by omega), br_f (by
      rw [nI_clamp (by omega)]
      have e := h (j - i * 64) (by omega)
      rw [show i * 64 + (j - i * 64) = j by omega] at e
      exact e) (nm_r (nI_1 j) (hw () (by omega)))⟩) (mm_mad i 64 64)))
theorem mm_see {post : St2 → Prop} {f0 f1 f2 f3 f4 f5 : Int32} {a1 a2 a3 a4 a5 a6 a7 a8 a9 a10 a11 a12 a13 a14 a15 a16 a17 a18 a19 a20 a21 a22 a23 a24 a25 a26 a27 a28 a29 a30 a31 a32 a33 a34 a35 a36 a37 a38 : Nat → Int32} {i f : Nat} {y : Int32} (hi : i < 8) (hf : f < 8) (h19 : a19 i = 0)
    (H : ∀ (c : Nat → Int32) (v : Int32), post (f0, f1, f2, f3, f4, f5, a1, a2, a3, a4, a5, a6, a7, a8, a9, a10, a11, a12, a13, a14, a15, a16, upd a17 (i * 64) (nI f), c, upd a19 i v, a20, a21, a22, a23, a24, a25, a26, a27, a28, a29, a30, a31, a32, a33, a34, a35, a36, a37, a38)) : wpX_see post (f0, f1, f2, f3, f4, f5, a1, a2, a3, a4, a5, a6, a7, a8, a9, a10, a11, a12, a13, a14, a15, a16, a17, a18, a19, a20, a21, a22, a23, a24, a25, a26, a27, a28, a29, a30, a31, a32, a33, a34, a35, a36, a37, a38) (nI i) (nI f) y :=
  ⟨pk_in i 8 hi, nm_r (e' := nI (i * 64)) (by rw [mm_rd1 (by omega) h19, Int32.add_zero]; exact pk_mul i 64) (mm_pv (i * 64) (nI f) (by omega) (mm_b8 f (by omega)) (mm_put (i * 64) (by omega) ⟨pk_in i 8 hi, by decide, mm_put i hi (H _ _)⟩))⟩
theorem mm_hearAsk {post : St2 → Prop} {f0 f1 f2 f3 f4 : Int32} {a1 a2 a3 a4 a5 a6 a7 a8 a9 a10 a11 a12 a13 a14 a15 a16 a17 a18 a19 a20 a21 a22 a23 a24 a25 a26 a27 a28 a29 a30 a31 a32 a33 a34 a35 a36 a37 a38 : Nat → Int32} {k s g : Nat} (hk : k < 1000) (hs : s < 8) (hg : g < 8) (hn : s ≠ g) (h33 : ∀ j, j < 16 → a33 j = 0) (hup : ¬ ((a1 g >>> (nI s &&& 31)) &&& 1) = 0)
    (r1 : a38 1 = nI s) (r2 : a38 2 = nI g) (r3 : a38 3 = 2) (h17 : ∀ j, j < 64 → a17 (g * 64 + j) = -1) (h19 : a19 g = 0) (h15 : a15 (g * 8 + s) = 0)
    (H : ∀ (c14 c17 c18 c19 w c31 c32 : Nat → Int32), w 0 = 1 → w 1 = nI g → w 2 = nI s → w 3 = a11 g + 1 → (∀ j, j < 12 → c31 (k * 12 + j) = w j) →
      post (f0, f1, f2, f3, f4, nI (k + 1), a1, a2, a3, a4, a5, a6, a7, a8, a9, a10, upd a11 g (a11 g + 1), a12, upd a13 (g * 8 + s) (nI s), c14, upd a15 (g * 8 + s) (a38 3), a16, c17, c18, c19, a20, a21, a22, a23, a24, a25, a26, upd a27 k 1, upd a28 k (nI g), upd a29 k (nI s), upd a30 k (f4 + 1 + 0), c31, c32, a33, a34, a35, a36, w, a38)) : wpX_hearAsk post (f0, f1, f2, f3, f4, nI k, a1, a2, a3, a4, a5, a6, a7, a8, a9, a10, a11, a12, a13, a14, a15, a16, a17, a18, a19, a20, a21, a22, a23, a24, a25, a26, a27, a28, a29, a30, a31, a32, a33, a34, a35, a36, a37, a38) (nI g) (nI s) := by
  refine nm_r r1 (mm_wasSeen hg (fun j hj => by rw [h17 j hj]; exact fun z => mm_nm1 s (by omega) z.symm) (br_t rfl (mm_see hg hs h19 (fun c18 v => ?_))))
  refine mm_learn hg hs hn.symm hs rfl (by rw [r3, h15]; decide) (by rw [r3, h15]; decide) (fun c14 => ?_)
  refine br_t r2 ⟨pk_in g 8 hg, mm_pv g (a11 g + 1) hg (by rw [nI_clamp (by omega)]) (mm_begin (fun w w0 w1 w2 w3 => ⟨pk_in g 8 hg, nm_r (e' := upd w 3 (a11 g + 1)) (by rw [nI_clamp (by omega), pk_us]) ?_⟩))⟩
  refine mm_passOn hk hg hs h33 (by rw [pk_un (by decide)]; exact w2) pk_us hup (fun c31 c32 hw => H c14 _ c18 _ _ c31 c32 ?_ ?_ ?_ pk_us hw)
  · rw [pk_un (by decide)]; exact w0
  · rw [pk_un (by decide)]; exact w1
  · rw [pk_un (by decide)]; exact w2
theorem mm_hearTell {post : St2 → Prop} {f0 f1 f2 f3 f4 f5 : Int32} {a1 a2 a3 a4 a5 a6 a7 a8 a9 a10 a11 a12 a13 a14 a15 a16 a17 a18 a19 a20 a21 a22 a23 a24 a25 a26 a27 a28 a29 a30 a31 a32 a33 a34 a35 a36 a37 a38 : Nat → Int32} {s g : Nat} (hs : s < 8) (hg : g < 8) (hn : s ≠ g) (r1 : a38 1 = nI g) (r2 : a38 2 = nI s) (r3 : a38 3 = 2) (h15 : a15 (s * 8 + g) = 0)
    (H : ∀ c14 : Nat → Int32, post (f0, f1, f2, f3, f4, f5, a1, a2, a3, a4, a5, a6, a7, a8, a9, a10, a11, a12, upd a13 (s * 8 + g) (nI g), c14, upd a15 (s * 8 + g) (a38 3), a16, a17, a18, a19, a20, a21, a22, a23, a24, a25, a26, a27, a28, a29, a30, a31, a32, a33, a34, a35, a36, a37, a38)) : wpX_hearTell post (f0, f1, f2, f3, f4, f5, a1, a2, a3, a4, a5, a6, a7, a8, a9, a10, a11, a12, a13, a14, a15, a16, a17, a18, a19, a20, a21, a22, a23, a24, a25, a26, a27, a28, a29, a30, a31, a32, a33, a34, a35, a36, a37, a38) (nI s) (nI g) := by
  unfold wpX_hearTell
  refine mm_learn hs hg hn hg r1 (by rw [r3, h15]; decide) (by rw [r3, h15]; decide) (fun c14 => ?_)
  exact br_t r2 (H c14)
theorem mm_keep {post : St2 → Prop} {f0 f1 f2 f3 f4 f5 : Int32} {a1 a2 a3 a4 a5 a6 a7 a8 a9 a10 a11 a12 a13 a14 a15 a16 a17 a18 a19 a20 a21 a22 a23 a24 a25 a26 a27 a28 a29 a30 a31 a32 a33 a34 a35 a36 a37 a38 : Nat → Int32} {p len : Nat} (hp : p < 64) (hl : len ≤ 1) (r6 : a38 6 = nI len) (h25 : a25 p = 0)
    (H : ∀ c25 c26 : Nat → Int32, c25 p = nI len → (len = 1 → c26 (p * 8) = (a38 8).toInt8.toInt32) → post (f0, f1, f2, f3, f4, f5, a1, a2, a3, a4, a5, a6, a7, a8, a9, a10, a11, a12, a13, a14, a15, a16, a17, a18, a19, a20, a21, a22, a23, a24, c25, c26, a27, a28, a29, a30, a31, a32, a33, a34, a35, a36, a37, a38)) : wpX_keepPiece post (f0, f1, f2, f3, f4, f5, a1, a2, a3, a4, a5, a6, a7, a8, a9, a10, a11, a12, a13, a14, a15, a16, a17, a18, a19, a20, a21, a22, a23, a24, a25, a26, a27, a28, a29, a30, a31, a32, a33, a34, a35, a36, a37, a38) (nI p) := by
  have hc : len = 0 ∨ len = 1 := by omega
  rcases hc with e | e
  · subst e
    exact ⟨0 + 1, br_t (by rw [r6]; decide) (H _ _ h25 (fun z => absurd z (by decide)))⟩
  · subst e
    refine ⟨0 + 1 + 1, br_f (by rw [r6]; decide) ⟨pk_in p 64 hp, br_f (by rw [mm_rd1 (by omega) h25]; decide) ⟨pk_in p 64 hp, pk_in 8 12 (by decide), ?_⟩⟩⟩
    refine mm_pv (p * 8) ((a38 8).toInt8.toInt32) (by omega) rfl ⟨pk_in p 64 hp, mm_pv p 1 hp (by rw [mm_rd1 (by omega) h25]; decide) (nm_e (br_t (by rw [r6]; decide) (H _ _ pk_us (fun _ => pk_us))))⟩ ?_
    rw [mm_rd1 (by omega) h25, Int32.add_zero]
    exact pk_mul p 8
theorem mm_acc90 {post : St2 → Prop} {f0 f1 f2 f3 f4 f5 : Int32} {a1 a2 a3 a4 a5 a6 a7 a8 a9 a10 a11 a12 a13 a14 a15 a16 a17 a18 a19 a20 a21 a22 a23 a24 a25 a26 a27 a28 a29 a30 a31 a32 a33 a34 a35 a36 a37 a38 : Nat → Int32} {p : Nat} (hp : p < 64) (H : post (f0, f1, f2, f3, f4, f5, a1, a2, a3, a4, a5, a6, a7, a8, a9, upd a10 p (a10 p + 1), a11, a12, a13, a14, a15, a16, a17, a18, a19, a20, a21, a22, a23, upd a24 p 0, upd a25 p 0, a26, a27, a28, a29, a30, a31, a32, a33, a34, a35, a36, a37, a38)) : wX_accept_90 post (nI p) f0 f1 f2 f3 f4 f5 a1 a2 a3 a4 a5 a6 a7 a8 a9 a10 a11 a12 a13 a14 a15 a16 a17 a18 a19 a20 a21 a22 a23 a24 a25 a26 a27 a28 a29 a30 a31 a32 a33 a34 a35 a36 a37 a38 :=
  ⟨pk_in p 64 hp, mm_pv p (a10 p + 1) hp (by rw [nI_clamp (by omega)]) (mm_put p hp (mm_put p hp H))⟩
theorem mm_accept {post : St2 → Prop} {f0 f3 f4 f5 : Int32} {a1 a2 a3 a4 a5 a6 a7 a8 a9 a10 a11 a12 a13 a14 a15 a16 a17 a18 a19 a20 a21 a22 a23 a24 a25 a26 a27 a28 a29 a30 a31 a32 a33 a34 a35 a36 a37 a38 : Nat → Int32} {s g len : Nat} (hs : s < 8) (hg : g < 8) (hl : len ≤ 1) (h4 : a4 0 = nI s) (h5 : a5 0 = nI g) (h25 : a25 (s + 8 * g) = nI len)
    (H : ∀ c8 : Nat → Int32, (len = 1 → c8 0 = (a26 ((s + 8 * g) * 8)).toInt8.toInt32) → post (f0, 1, 1, f3, f4, f5, a1, a2, a3, a4, a5, upd a6 0 (nI len), a7, c8, a9, upd a10 (s + 8 * g) (a10 (s + 8 * g) + 1), a11, a12, a13, a14, a15, a16, a17, a18, a19, a20, a21, a22, a23, upd a24 (s + 8 * g) 0, upd a25 (s + 8 * g) 0, a26, a27, a28, a29, a30, a31, a32, a33, a34, a35, a36, a37, a38)) : wpX_accept post (f0, 1, 0, f3, f4, f5, a1, a2, a3, a4, a5, a6, a7, a8, a9, a10, a11, a12, a13, a14, a15, a16, a17, a18, a19, a20, a21, a22, a23, a24, a25, a26, a27, a28, a29, a30, a31, a32, a33, a34, a35, a36, a37, a38) (nI s) (nI g) := by
  have hp : s + 8 * g < 64 := by omega
  unfold wpX_accept
  refine mm_pair (mm_fw0 h4 h5 (br_f (by decide) ⟨pk_in (s + 8 * g) 64 hp, mm_pv 0 (nI len) (by decide) (by rw [mm_rd1 (by omega) h25, vp_nar_byte]; exact mm_b8 len (by omega)) ?_⟩))
  have hc : len = 0 ∨ len = 1 := by omega
  rcases hc with e | e
  · subst e
    exact ⟨0 + 1, pk_in (s + 8 * g) 64 hp, br_t (by rw [mm_rd1 (by omega) h25]; decide) (nm_r (e' := 1) (by decide) (mm_acc90 hp (H _ (fun z => absurd z (by decide)))))⟩
  · subst e
    refine ⟨0 + 1 + 1, pk_in (s + 8 * g) 64 hp, br_f (by rw [mm_rd1 (by omega) h25]; decide) ⟨pk_in ((s + 8 * g) * 8) 512 (by omega) (by rw [Int32.add_zero]; exact pk_mul (s + 8 * g) 8), ?_⟩⟩
    refine mm_pv 0 ((a26 ((s + 8 * g) * 8)).toInt8.toInt32) (by decide) ?_ (nm_e ⟨pk_in (s + 8 * g) 64 hp, br_t (by rw [mm_rd1 (by omega) h25]; decide) (nm_r (e' := 1) (by decide) (mm_acc90 hp (H _ (fun _ => pk_us))))⟩)
    rw [vp_nar_byte, Int32.add_zero]
    exact congrArg (fun x => (a26 x).toInt8.toInt32) (pk_cl ((s + 8 * g) * 8) (pk_mul (s + 8 * g) 8))
theorem mm_hearPiece {post : St2 → Prop} {f0 f3 f4 : Int32} {a1 a2 a3 a4 a5 a6 a7 a8 a9 a10 a11 a12 a13 a14 a15 a16 a17 a18 a19 a20 a21 a22 a23 a24 a25 a26 a27 a28 a29 a30 a31 a32 a33 a34 a35 a36 a37 a38 : Nat → Int32} {k s g len : Nat} (hk : k < 1000) (hs : s < 8) (hg : g < 8) (hl : len ≤ 1) (h33 : ∀ j, j < 16 → a33 j = 0) (hup : ¬ ((a1 g >>> (nI s &&& 31)) &&& 1) = 0)
    (r1 : a38 1 = nI s) (r2 : a38 2 = nI g) (r3 : a38 3 = 0) (r4 : a38 4 = 0) (r6 : a38 6 = nI len) (r7 : a38 7 = 1) (h4 : a4 0 = nI s) (h5 : a5 0 = nI g)
    (h10 : a10 (s + 8 * g) = 0) (h24 : a24 (s + 8 * g) = 0) (h25 : a25 (s + 8 * g) = 0) (h13 : a13 (g * 8 + s) = nI s)
    (H : ∀ (c8 c24 c25 c26 w c31 c32 : Nat → Int32), (len = 1 → c8 0 = ((a38 8).toInt8.toInt32).toInt8.toInt32) →
      post (f0, 1, 1, f3, f4, nI (k + 1), a1, a2, a3, a4, a5, upd a6 0 (nI len), a7, c8, a9, upd a10 (s + 8 * g) (a10 (s + 8 * g) + 1), a11, a12, a13, a14, a15, a16, a17, a18, a19, a20, a21, a22, a23, c24, c25, c26, upd a27 k 1, upd a28 k (nI g), upd a29 k (nI s), upd a30 k (f4 + 1 + 0), c31, c32, a33, a34, a35, a36, w, a38)) : wpX_hearPiece post (f0, 1, 0, f3, f4, nI k, a1, a2, a3, a4, a5, a6, a7, a8, a9, a10, a11, a12, a13, a14, a15, a16, a17, a18, a19, a20, a21, a22, a23, a24, a25, a26, a27, a28, a29, a30, a31, a32, a33, a34, a35, a36, a37, a38) (nI g) := by
  have hp : s + 8 * g < 64 := by omega
  refine br_t r2 (nm_r r1 (mm_pair ⟨pk_in (s + 8 * g) 64 hp, br_t (by rw [mm_rd1 (by omega) h10]; exact r3) ⟨pk_in (s + 8 * g) 64 hp, br_t (by rw [mm_rd1 (by omega) h24]; exact r4) (mm_keep hp hl r6 h25 (fun c25 c26 e25 e26 => ?_))⟩⟩))
  refine ⟨pk_in (s + 8 * g) 64 hp, mm_put (s + 8 * g) hp (br_t r7 (mm_accept hs hg hl h4 h5 e25 (fun c8 e8 => ?_)))⟩
  refine mm_begin (fun w w0 w1 w2 w3 => ⟨pk_in (s + 8 * g) 64 hp, nm_e ⟨pk_in (s + 8 * g) 64 hp, nm_e (nm_e ?_)⟩⟩)
  refine mm_passOn hk hg hs h33 (by rw [pk_un (by decide), pk_un (by decide), pk_un (by decide)]; exact w2) h13 hup (fun c31 c32 hw => H c8 _ _ c26 _ c31 c32 (fun z => ?_))
  rw [e8 z, e26 z]
end
section
/-! urge: writePiece, ask, urge; the loops of listen and moment -/
theorem mm_writePiece {post : St2 → Prop} {f0 f1 f2 f3 f4 f5 : Int32} {a1 a2 a3 a4 a5 a6 a7 a8 a9 a10 a11 a12 a13 a14 a15 a16 a17 a18 a19 a20 a21 a22 a23 a24 a25 a26 a27 a28 a29 a30 a31 a32 a33 a34 a35 a36 a37 a38 : Nat → Int32} {s g len : Nat} (hs : s < 8) (hg : g < 8) (hl : len ≤ 1) (h6 : a6 0 = nI len) (h20 : a20 (s + 8 * g) = 0) (h9 : a9 (s + 8 * g) = 0)
    (H : ∀ w : Nat → Int32, w 0 = 3 → w 1 = nI s → w 2 = nI g → w 3 = 0 → w 4 = 0 → w 6 = nI len → w 7 = 1 → (len = 1 → w 8 = a7 0 &&& 255) → post (f0, f1, f2, f3, f4, f5, a1, a2, a3, a4, a5, a6, a7, a8, a9, a10, a11, a12, a13, a14, a15, a16, a17, a18, a19, a20, a21, a22, a23, a24, a25, a26, a27, a28, a29, a30, a31, a32, a33, a34, a35, a36, w, a38)) : wpX_writePiece post (f0, f1, f2, f3, f4, f5, a1, a2, a3, a4, a5, a6, a7, a8, a9, a10, a11, a12, a13, a14, a15, a16, a17, a18, a19, a20, a21, a22, a23, a24, a25, a26, a27, a28, a29, a30, a31, a32, a33, a34, a35, a36, a37, a38) (nI s) (nI g) 0 := by
  have hp : s + 8 * g < 64 := by omega
  have hc : len = 0 ∨ len = 1 := by omega
  unfold wpX_writePiece
  refine mm_pair ⟨pk_in (s + 8 * g) 64 hp, nm_r (mm_rd1 (by omega) h20) ⟨pk_in 0 16 (by decide), ?_⟩⟩
  rcases hc with e | e
  · subst e
    refine nm_r (e' := nI 0) (by rw [pk_cl (x := 0) 0, h6]; decide) (br_t (by decide) (br_f (by decide) (mm_begin (fun w w0 w1 w2 w3 => ⟨pk_in (s + 8 * g) 64 hp, nm_e (nm_e (nm_e (nm_e (br_f (by decide) (nm_e ⟨0 + 1, br_t (by decide) (H _ ?_ ?_ ?_ ?_ ?_ ?_ ?_ ?_)⟩)))))⟩))))
    · rw [pk_un (by decide), pk_un (by decide), pk_un (by decide), pk_un (by decide), pk_un (by decide)]; exact w0
    · rw [pk_un (by decide), pk_un (by decide), pk_un (by decide), pk_un (by decide), pk_un (by decide)]; exact w1
    · rw [pk_un (by decide), pk_un (by decide), pk_un (by decide), pk_un (by decide), pk_un (by decide)]; exact w2
    · rw [pk_un (by decide), pk_un (by decide), pk_un (by decide), pk_un (by decide), pk_us]; exact mm_rd1 (by omega) h9
    · rw [pk_un (by decide), pk_un (by decide), pk_un (by decide), pk_us]
    · rw [pk_un (by decide), pk_us]
    · rw [pk_us]
    · exact fun z => absurd z (by decide)
  · subst e
    refine nm_r (e' := nI 1) (by rw [pk_cl (x := 0) 0, h6]; decide) (br_t (by decide) (br_f (by decide) (mm_begin (fun w w0 w1 w2 w3 => ⟨pk_in (s + 8 * g) 64 hp, nm_e (nm_e (nm_e (nm_e (br_f (by decide) (nm_e ⟨0 + 1 + 1, br_f (by decide) ⟨pk_in 0 128 (by decide), mm_pv 8 (a7 0 &&& 255) (by decide) rfl (nm_e (br_t (by decide) (H _ ?_ ?_ ?_ ?_ ?_ ?_ ?_ ?_)))⟩⟩)))))⟩))))
    · rw [pk_un (by decide), pk_un (by decide), pk_un (by decide), pk_un (by decide), pk_un (by decide), pk_un (by decide)]; exact w0
    · rw [pk_un (by decide), pk_un (by decide), pk_un (by decide), pk_un (by decide), pk_un (by decide), pk_un (by decide)]; exact w1
    · rw [pk_un (by decide), pk_un (by decide), pk_un (by decide), pk_un (by decide), pk_un (by decide), pk_un (by decide)]; exact w2
    · rw [pk_un (by decide), pk_un (by decide), pk_un (by decide), pk_un (by decide), pk_un (by decide), pk_us]; exact mm_rd1 (by omega) h9
    · rw [pk_un (by decide), pk_un (by decide), pk_un (by decide), pk_un (by decide), pk_us]
    · rw [pk_un (by decide), pk_un (by decide), pk_us]
    · rw [pk_un (by decide), pk_us]
    · exact fun _ => pk_us
theorem mm_ask1 {post : St2 → Prop} {f0 f1 f2 f3 f4 : Int32} {a1 a2 a3 a4 a5 a6 a7 a8 a9 a10 a11 a12 a13 a14 a15 a16 a17 a18 a19 a20 a21 a22 a23 a24 a25 a26 a27 a28 a29 a30 a31 a32 a33 a34 a35 a36 a37 a38 : Nat → Int32} {k s g : Nat} (hk : k < 1000) (hs : s < 8) (hg : g < 8) (h33 : ∀ j, j < 16 → a33 j = 0)
    (hup : ¬ ((a1 s >>> (nI g &&& 31)) &&& 1) = 0) (hdn : ∀ t, t < 8 → t ≠ g → ((a1 s >>> (nI t &&& 31)) &&& 1) = 0) (h16 : 24 ≤ f4 - a16 (s * 8 + g)) (h19 : a19 s = 0)
    (H : ∀ (c12 c18 : Nat → Int32) (v : Int32) (w c31 c32 : Nat → Int32), w 0 = 0 → w 1 = nI s → w 2 = nI g → w 3 = a11 s + 1 → (∀ j, j < 12 → c31 (k * 12 + j) = w j) →
      post (f0, f1, f2, f3, f4, nI (k + 1), a1, a2, a3, a4, a5, a6, a7, a8, a9, a10, upd a11 s (a11 s + 1), c12, a13, a14, a15, upd a16 (s * 8 + g) f4, upd a17 (s * 64) (nI s), c18, upd a19 s v, a20, a21, a22, a23, a24, a25, a26, upd a27 k 1, upd a28 k (nI s), upd a29 k (nI g), upd a30 k (f4 + 1 + 0), c31, c32, a33, a34, a35, a36, w, a38)) : wpX_ask post (f0, f1, f2, f3, f4, nI k, a1, a2, a3, a4, a5, a6, a7, a8, a9, a10, a11, a12, a13, a14, a15, a16, a17, a18, a19, a20, a21, a22, a23, a24, a25, a26, a27, a28, a29, a30, a31, a32, a33, a34, a35, a36, a37, a38) (nI s) (nI g) := by
  refine nm_r (mm_mad s 8 g) ⟨pk_in (s * 8 + g) 64 (by omega), br_t (by rw [nI_clamp (by omega)]; exact h16) (mm_put (s * 8 + g) (by omega) ⟨pk_in s 8 hs, mm_pv s (a11 s + 1) hs (by rw [nI_clamp (by omega)]) ⟨pk_in s 8 hs, mm_put s hs ⟨pk_in s 8 hs, mm_see hs hs h19 (fun c18 v => ?_)⟩⟩⟩)⟩
  refine mm_begin (fun w w0 w1 w2 w3 => ⟨pk_in s 8 hs, nm_r (e' := upd w 3 (a11 s + 1)) (by rw [nI_clamp (by omega), pk_us]) (nm_e ⟨pk_in s 8 hs, nm_e ?_⟩)⟩)
  refine mm_tellAll hk hs hg h33 hup hdn (fun c31 c32 hw => H _ c18 v _ c31 c32 ?_ ?_ ?_ ?_ hw)
  · rw [pk_un (by decide), pk_un (by decide), pk_un (by decide)]; exact w0
  · rw [pk_un (by decide), pk_un (by decide), pk_un (by decide)]; exact w1
  · rw [pk_un (by decide), pk_un (by decide), pk_un (by decide)]; exact w2
  · rw [pk_un (by decide), pk_un (by decide), pk_us]
theorem mm_ask0 {post : St2 → Prop} {f0 f1 f2 f3 f4 f5 : Int32} {a1 a2 a3 a4 a5 a6 a7 a8 a9 a10 a11 a12 a13 a14 a15 a16 a17 a18 a19 a20 a21 a22 a23 a24 a25 a26 a27 a28 a29 a30 a31 a32 a33 a34 a35 a36 a37 a38 : Nat → Int32} {s g : Nat} (hs : s < 8) (hg : g < 8) (h16 : ¬ 24 ≤ f4 - a16 (s * 8 + g)) (hp : post (f0, f1, f2, f3, f4, f5, a1, a2, a3, a4, a5, a6, a7, a8, a9, a10, a11, a12, a13, a14, a15, a16, a17, a18, a19, a20, a21, a22, a23, a24, a25, a26, a27, a28, a29, a30, a31, a32, a33, a34, a35, a36, a37, a38)) : wpX_ask post (f0, f1, f2, f3, f4, f5, a1, a2, a3, a4, a5, a6, a7, a8, a9, a10, a11, a12, a13, a14, a15, a16, a17, a18, a19, a20, a21, a22, a23, a24, a25, a26, a27, a28, a29, a30, a31, a32, a33, a34, a35, a36, a37, a38) (nI s) (nI g) :=
  nm_r (mm_mad s 8 g) ⟨pk_in (s * 8 + g) 64 (by omega), br_f (by rw [nI_clamp (by omega)]; exact h16) hp⟩
/-- a message waits and nothing is under way for it: as far as the look for a way -/
theorem mm_urgeG {post : St2 → Prop} {f0 f3 f4 f5 : Int32} {a1 a2 a3 a4 a5 a6 a7 a8 a9 a10 a11 a12 a13 a14 a15 a16 a17 a18 a19 a20 a21 a22 a23 a24 a25 a26 a27 a28 a29 a30 a31 a32 a33 a34 a35 a36 a37 a38 : Nat → Int32} {s g : Nat} (hs : s < 8) (hg : g < 8) (h4 : a4 0 = nI s) (h5 : a5 0 = nI g) (h9 : a9 (s + 8 * g) = 0) (h10 : a10 (s + 8 * g) = 0) (h1 : ¬ a1 s = 0) (h23 : a23 (s + 8 * g) = 0)
    (H : wX_urge_142 post (nI s) (nI g) (nI (s + 8 * g)) 0 f0 1 0 f3 f4 f5 a1 a2 a3 a4 a5 a6 a7 a8 a9 a10 a11 a12 a13 a14 a15 a16 a17 a18 a19 a20 a21 (upd a22 (s + 8 * g) 0) a23 a24 a25 a26 a27 a28 a29 a30 a31 a32 a33 a34 a35 a36 a37 a38) : wpX_urge post (f0, 1, 0, f3, f4, f5, a1, a2, a3, a4, a5, a6, a7, a8, a9, a10, a11, a12, a13, a14, a15, a16, a17, a18, a19, a20, a21, a22, a23, a24, a25, a26, a27, a28, a29, a30, a31, a32, a33, a34, a35, a36, a37, a38) (nI s) (nI g) := by
  have hp : s + 8 * g < 64 := by omega
  have hle : a10 (nI (s + 8 * g)).toNatClampNeg ≤ a9 (nI (s + 8 * g)).toNatClampNeg := by
    rw [mm_rd1 (by omega) h10, mm_rd1 (by omega) h9]; decide
  have i64 : vp_in (nI (s + 8 * g)) 64 := pk_in (s + 8 * g) 64 hp
  have e23 : a23 (nI (s + 8 * g)).toNatClampNeg = 0 := mm_rd1 (by omega) h23
  unfold wpX_urge
  refine mm_pair ⟨i64, i64, br_t hle ?_⟩
  unfold wX_urge_26 wpX_sending
  refine mm_pair ⟨i64, i64, br_t hle (mm_fw0 h4 h5 (br_t (by decide) ⟨pk_in s 8 hs, br_f (by rw [nI_clamp (by omega)]; exact h1) ⟨i64, br_t e23 ⟨i64, br_t e23 ?_⟩⟩⟩))⟩
  exact mm_pv (s + 8 * g) 0 hp (by decide) ⟨i64, br_t (by rw [nI_clamp (by omega), pk_us]; decide) H⟩
/-- the message is there, its source does not know it yet -/
theorem mm_urgeU {post : St2 → Prop} {f0 f1 f2 f3 f4 f5 : Int32} {a1 a2 a3 a4 a5 a6 a7 a8 a9 a10 a11 a12 a13 a14 a15 a16 a17 a18 a19 a20 a21 a22 a23 a24 a25 a26 a27 a28 a29 a30 a31 a32 a33 a34 a35 a36 a37 a38 : Nat → Int32} {s g : Nat} (hs : s < 8) (hg : g < 8) (h9 : a9 (s + 8 * g) = 0) (h10 : a10 (s + 8 * g) = 1) (h1 : ¬ a1 s = 0) (h23 : a23 (s + 8 * g) = 1) (h21 : ¬ 26 ≤ f4 - a21 (s + 8 * g))
    (H : post (f0, f1, f2, f3, f4, f5, a1, a2, a3, a4, a5, a6, a7, a8, a9, a10, a11, a12, a13, a14, a15, a16, a17, a18, a19, a20, a21, a22, a23, a24, a25, a26, a27, a28, a29, a30, a31, a32, a33, a34, a35, a36, a37, a38)) : wpX_urge post (f0, f1, f2, f3, f4, f5, a1, a2, a3, a4, a5, a6, a7, a8, a9, a10, a11, a12, a13, a14, a15, a16, a17, a18, a19, a20, a21, a22, a23, a24, a25, a26, a27, a28, a29, a30, a31, a32, a33, a34, a35, a36, a37, a38) (nI s) (nI g) := by
  have hp : s + 8 * g < 64 := by omega
  have hle : ¬ a10 (nI (s + 8 * g)).toNatClampNeg ≤ a9 (nI (s + 8 * g)).toNatClampNeg := by
    rw [mm_rd1 (by omega) h10, mm_rd1 (by omega) h9]; decide
  have i64 : vp_in (nI (s + 8 * g)) 64 := pk_in (s + 8 * g) 64 hp
  unfold wpX_urge
  refine mm_pair ⟨i64, i64, br_f hle ?_⟩
  unfold wX_urge_26 wpX_sending
  exact mm_pair ⟨i64, i64, br_f hle (br_f (by decide) (br_f (by decide) ⟨pk_in s 8 hs, br_f (by rw [nI_clamp (by omega)]; exact h1) ⟨i64, br_f (by rw [mm_rd1 (by omega) h23]; decide) ⟨i64, br_f (by rw [nI_clamp (by omega)]; exact h21) H⟩⟩⟩))⟩
def mm_idle (s g : Nat) (u : St2) : Prop := ∀ i j, i < 8 → j < 8 → ¬ (i = s ∧ j = g) → ∀ post : St2 → Prop, post u → wpX_urge post u (nI i) (nI j)
theorem mm_idleA {f0 f2 f3 f4 f5 : Int32} {a1 a2 a3 a4 a5 a6 a7 a8 a9 a10 a11 a12 a13 a14 a15 a16 a17 a18 a19 a20 a21 a22 a23 a24 a25 a26 a27 a28 a29 a30 a31 a32 a33 a34 a35 a36 a37 a38 : Nat → Int32} {s g : Nat} (hs : s < 8) (hg : g < 8) (h2 : f2 = 0 ∨ f2 = 1) (h4 : a4 0 = nI s) (h5 : a5 0 = nI g) (h9 : ∀ x, x < 64 → a9 x = 0) (h10 : ∀ x, x < 64 → x ≠ s + 8 * g → a10 x = 0) : mm_idle s g (f0, 1, f2, f3, f4, f5, a1, a2, a3, a4, a5, a6, a7, a8, a9, a10, a11, a12, a13, a14, a15, a16, a17, a18, a19, a20, a21, a22, a23, a24, a25, a26, a27, a28, a29, a30, a31, a32, a33, a34, a35, a36, a37, a38) := by
  intro i j hi hj hne post hpost
  have hp : i + 8 * j < 64 := by omega
  have hle : a10 (nI (i + 8 * j)).toNatClampNeg ≤ a9 (nI (i + 8 * j)).toNatClampNeg := by
    rw [mm_rd1 (by omega) (h10 (i + 8 * j) hp (by omega)), mm_rd1 (by omega) (h9 (i + 8 * j) hp)]; decide
  have i64 : vp_in (nI (i + 8 * j)) 64 := pk_in (i + 8 * j) 64 hp
  unfold wpX_urge
  refine mm_pair ⟨i64, i64, br_t hle ?_⟩
  unfold wX_urge_26 wpX_sending
  refine mm_pair ⟨i64, i64, br_t hle ?_⟩
  rcases h2 with e | e
  · subst e
    refine mm_fwN (fun z => hne ?_) (br_f (by decide) (br_t rfl hpost))
    rw [h4, h5] at z
    exact ⟨((nI_eq (by omega) (by omega)).mp z.1).symm, ((nI_eq (by omega) (by omega)).mp z.2).symm⟩
  · subst e
    exact mm_fw1 (br_f (by decide) (br_t rfl hpost))
theorem mm_m24S {post : St2 → Prop} {J : Int32 → Int32 → Int32 → Int32 → Int32 → Int32 → Int32 → (Nat → Int32) → (Nat → Int32) → (Nat → Int32) → (Nat → Int32) → (Nat → Int32) → (Nat → Int32) → (Nat → Int32) → (Nat → Int32) → (Nat → Int32) → (Nat → Int32) → (Nat → Int32) → (Nat → Int32) → (Nat → Int32) → (Nat → Int32) → (Nat → Int32) → (Nat → Int32) → (Nat → Int32) → (Nat → Int32) → (Nat → Int32) → (Nat → Int32) → (Nat → Int32) → (Nat → Int32) → (Nat → Int32) → (Nat → Int32) → (Nat → Int32) → (Nat → Int32) → (Nat → Int32) → (Nat → Int32) → (Nat → Int32) → (Nat → Int32) → (Nat → Int32) → (Nat → Int32) → (Nat → Int32) → (Nat → Int32) → (Nat → Int32) → (Nat → Int32) → (Nat → Int32) → (Nat → Int32) → Prop} {f0 f1 f2 f3 f4 f5 : Int32} {a1 a2 a3 a4 a5 a6 a7 a8 a9 a10 a11 a12 a13 a14 a15 a16 a17 a18 a19 a20 a21 a22 a23 a24 a25 a26 a27 a28 a29 a30 a31 a32 a33 a34 a35 a36 a37 a38 : Nat → Int32} {s g i : Nat} (hi : i < 8) (hid : mm_idle s g (f0, f1, f2, f3, f4, f5, a1, a2, a3, a4, a5, a6, a7, a8, a9, a10, a11, a12, a13, a14, a15, a16, a17, a18, a19, a20, a21, a22, a23, a24, a25, a26, a27, a28, a29, a30, a31, a32, a33, a34, a35, a36, a37, a38)) (n : Nat) : ∀ d j, (∀ t, j ≤ t → t < j + d → t < 8 ∧ ¬ (i = s ∧ t = g)) → wX_moment_24 post J (nI i) n (nI (j + d)) f0 f1 f2 f3 f4 f5 a1 a2 a3 a4 a5 a6 a7 a8 a9 a10 a11 a12 a13 a14 a15 a16 a17 a18 a19 a20 a21 a22 a23 a24 a25 a26 a27 a28 a29 a30 a31 a32 a33 a34 a35 a36 a37 a38 → wX_moment_24 post J (nI i) (n + d) (nI j) f0 f1 f2 f3 f4 f5 a1 a2 a3 a4 a5 a6 a7 a8 a9 a10 a11 a12 a13 a14 a15 a16 a17 a18 a19 a20 a21 a22 a23 a24 a25 a26 a27 a28 a29 a30 a31 a32 a33 a34 a35 a36 a37 a38 := by
  intro d
  induction d with
  | zero => exact fun j _ h => h
  | succ d ih =>
    intro j hj h
    have hj8 := hj j (by omega) (by omega)
    have h8 := hj8.1
    have key : wX_moment_24 post J (nI i) (n + d) (nI (j + 1)) f0 f1 f2 f3 f4 f5 a1 a2 a3 a4 a5 a6 a7 a8 a9 a10 a11 a12 a13 a14 a15 a16 a17 a18 a19 a20 a21 a22 a23 a24 a25 a26 a27 a28 a29 a30 a31 a32 a33 a34 a35 a36 a37 a38 := by
      refine ih (j + 1) (fun t h1 h2 => hj t (by omega) (by omega)) ?_
      rw [show j + 1 + d = j + (d + 1) by omega]
      exact h
    exact pk_le 8 j (fun z => absurd z (by omega)) (fun _ => br_c (fun _ => nm_r (nI_1 j) key) (fun _ => hid i j hi h8 hj8.2 _ (nm_r (nI_1 j) key)))
theorem mm_m16S {post : St2 → Prop} {f0 f1 f2 f3 f4 f5 : Int32} {a1 a2 a3 a4 a5 a6 a7 a8 a9 a10 a11 a12 a13 a14 a15 a16 a17 a18 a19 a20 a21 a22 a23 a24 a25 a26 a27 a28 a29 a30 a31 a32 a33 a34 a35 a36 a37 a38 : Nat → Int32} {s g : Nat} (hid : mm_idle s g (f0, f1, f2, f3, f4, f5, a1, a2, a3, a4, a5, a6, a7, a8, a9, a10, a11, a12, a13, a14, a15, a16, a17, a18, a19, a20, a21, a22, a23, a24, a25, a26, a27, a28, a29, a30, a31, a32, a33, a34, a35, a36, a37, a38)) (n : Nat) : ∀ d i, (∀ t, i ≤ t → t < i + d → t < 8 ∧ t ≠ s) → wX_moment_16 post n (nI (i + d)) f0 f1 f2 f3 f4 f5 a1 a2 a3 a4 a5 a6 a7 a8 a9 a10 a11 a12 a13 a14 a15 a16 a17 a18 a19 a20 a21 a22 a23 a24 a25 a26 a27 a28 a29 a30 a31 a32 a33 a34 a35 a36 a37 a38 → wX_moment_16 post (n + d) (nI i) f0 f1 f2 f3 f4 f5 a1 a2 a3 a4 a5 a6 a7 a8 a9 a10 a11 a12 a13 a14 a15 a16 a17 a18 a19 a20 a21 a22 a23 a24 a25 a26 a27 a28 a29 a30 a31 a32 a33 a34 a35 a36 a37 a38 := by
  intro d
  induction d with
  | zero => exact fun i _ h => h
  | succ d ih =>
    intro i hi h
    have hi8 := hi i (by omega) (by omega)
    have h8 := hi8.1
    have key : wX_moment_16 post (n + d) (nI (i + 1)) f0 f1 f2 f3 f4 f5 a1 a2 a3 a4 a5 a6 a7 a8 a9 a10 a11 a12 a13 a14 a15 a16 a17 a18 a19 a20 a21 a22 a23 a24 a25 a26 a27 a28 a29 a30 a31 a32 a33 a34 a35 a36 a37 a38 := by
      refine ih (i + 1) (fun t h1 h2 => hi t (by omega) (by omega)) ?_
      rw [show i + 1 + d = i + (d + 1) by omega]
      exact h
    refine pk_le 8 i (fun z => absurd z (by omega)) (fun _ => ⟨0 + 1 + 8, mm_m24S h8 hid (0 + 1) 8 0 (fun t _ h2 => ⟨by omega, fun z => hi8.2 z.1⟩) ?_⟩)
    exact pk_le 8 8 (fun _ => nm_r (nI_1 i) key) (fun z => absurd z (by omega))
theorem mm_m16 {post R : St2 → Prop} {f0 f1 f2 f3 f4 f5 : Int32} {a1 a2 a3 a4 a5 a6 a7 a8 a9 a10 a11 a12 a13 a14 a15 a16 a17 a18 a19 a20 a21 a22 a23 a24 a25 a26 a27 a28 a29 a30 a31 a32 a33 a34 a35 a36 a37 a38 : Nat → Int32} {s g : Nat} (hs : s < 8) (hg : g < 8) (hn : s ≠ g) (hid : mm_idle s g (f0, f1, f2, f3, f4, f5, a1, a2, a3, a4, a5, a6, a7, a8, a9, a10, a11, a12, a13, a14, a15, a16, a17, a18, a19, a20, a21, a22, a23, a24, a25, a26, a27, a28, a29, a30, a31, a32, a33, a34, a35, a36, a37, a38))
    (hur : ∀ Q : St2 → Prop, (∀ v, R v → Q v) → wpX_urge Q (f0, f1, f2, f3, f4, f5, a1, a2, a3, a4, a5, a6, a7, a8, a9, a10, a11, a12, a13, a14, a15, a16, a17, a18, a19, a20, a21, a22, a23, a24, a25, a26, a27, a28, a29, a30, a31, a32, a33, a34, a35, a36, a37, a38) (nI s) (nI g)) (hR : ∀ v, R v → mm_idle s g v) (H : ∀ v, R v → post v) : ∃ n, wX_moment_16 post n 0 f0 f1 f2 f3 f4 f5 a1 a2 a3 a4 a5 a6 a7 a8 a9 a10 a11 a12 a13 a14 a15 a16 a17 a18 a19 a20 a21 a22 a23 a24 a25 a26 a27 a28 a29 a30 a31 a32 a33 a34 a35 a36 a37 a38 := by
  refine ⟨((0 + 1) + (7 - s) + 1) + s, mm_m16S hid _ s 0 (fun t _ h2 => ⟨by omega, by omega⟩) ?_⟩
  rw [Nat.zero_add s]
  refine pk_le 8 s (fun z => absurd z (by omega)) (fun _ => ⟨((0 + 1) + (7 - g) + 1) + g, mm_m24S hs hid _ g 0 (fun t _ h2 => ⟨by omega, by omega⟩) ?_⟩)
  rw [Nat.zero_add g]
  refine pk_le 8 g (fun z => absurd z (by omega)) (fun _ => br_f (fun z => hn ((nI_eq (by omega) (by omega)).mp z)) (hur _ (fun v hv => ?_)))
  obtain ⟨f0', f1', f2', f3', f4', f5', a1', a2', a3', a4', a5', a6', a7', a8', a9', a10', a11', a12', a13', a14', a15', a16', a17', a18', a19', a20', a21', a22', a23', a24', a25', a26', a27', a28', a29', a30', a31', a32', a33', a34', a35', a36', a37', a38'⟩ := v
  refine nm_r (nI_1 g) (mm_m24S hs (hR _ hv) _ (7 - g) (g + 1) (fun t h1 h2 => ⟨by omega, by omega⟩) ?_)
  rw [show g + 1 + (7 - g) = 8 by omega]
  refine pk_le 8 8 (fun _ => nm_r (nI_1 s) (mm_m16S (hR _ hv) _ (7 - s) (s + 1) (fun t h1 h2 => ⟨by omega, by omega⟩) ?_)) (fun z => absurd z (by omega))
  rw [show s + 1 + (7 - s) = 8 by omega]
  exact pk_le 8 8 (fun _ => H _ hv) (fun z => absurd z (by omega))
theorem mm_lisS {post : St2 → Prop} {f0 f1 f2 f3 f4 f5 : Int32} {a1 a2 a3 a4 a5 a6 a7 a8 a9 a10 a11 a12 a13 a14 a15 a16 a17 a18 a19 a20 a21 a22 a23 a24 a25 a26 a27 a28 a29 a30 a31 a32 a33 a34 a35 a36 a37 a38 : Nat → Int32} (n : Nat) : ∀ d j, (∀ t, j ≤ t → t < j + d → t < 1024 ∧ (a27 t = 0 ∨ f4 < a30 t)) → wX_listen_2 post n (nI (j + d)) f0 f1 f2 f3 f4 f5 a1 a2 a3 a4 a5 a6 a7 a8 a9 a10 a11 a12 a13 a14 a15 a16 a17 a18 a19 a20 a21 a22 a23 a24 a25 a26 a27 a28 a29 a30 a31 a32 a33 a34 a35 a36 a37 a38 → wX_listen_2 post (n + d) (nI j) f0 f1 f2 f3 f4 f5 a1 a2 a3 a4 a5 a6 a7 a8 a9 a10 a11 a12 a13 a14 a15 a16 a17 a18 a19 a20 a21 a22 a23 a24 a25 a26 a27 a28 a29 a30 a31 a32 a33 a34 a35 a36 a37 a38 := by
  intro d
  induction d with
  | zero => exact fun j _ h => h
  | succ d ih =>
    intro j hj h
    have hj8 := hj j (by omega) (by omega)
    have h8 := hj8.1
    have key : wX_listen_2 post (n + d) (nI (j + 1)) f0 f1 f2 f3 f4 f5 a1 a2 a3 a4 a5 a6 a7 a8 a9 a10 a11 a12 a13 a14 a15 a16 a17 a18 a19 a20 a21 a22 a23 a24 a25 a26 a27 a28 a29 a30 a31 a32 a33 a34 a35 a36 a37 a38 := by
      refine ih (j + 1) (fun t h1 h2 => hj t (by omega) (by omega)) ?_
      rw [show j + 1 + d = j + (d + 1) by omega]
      exact h
    refine pk_le 1024 j (fun z => absurd z (by omega)) (fun _ => ⟨pk_in j 1024 h8, br_c (fun _ => nm_r (nI_1 j) key) (fun z => ⟨pk_in j 1024 h8, br_t ?_ (nm_r (nI_1 j) key)⟩)⟩)
    rw [nI_clamp (by omega)] at z ⊢
    exact hj8.2.resolve_left z
theorem mm_lis0 {post : St2 → Prop} {f0 f1 f2 f3 f4 f5 : Int32} {a1 a2 a3 a4 a5 a6 a7 a8 a9 a10 a11 a12 a13 a14 a15 a16 a17 a18 a19 a20 a21 a22 a23 a24 a25 a26 a27 a28 a29 a30 a31 a32 a33 a34 a35 a36 a37 a38 : Nat → Int32} (N : Nat) (hN : N = 1024) (h27 : ∀ j, j < 1024 → a27 j = 0) (H : post (f0, f1, f2, f3, f4, f5, a1, a2, a3, a4, a5, a6, a7, a8, a9, a10, a11, a12, a13, a14, a15, a16, a17, a18, a19, a20, a21, a22, a23, a24, a25, a26, a27, a28, a29, a30, a31, a32, a33, a34, a35, a36, a37, a38)) : wpX_listen post (f0, f1, f2, f3, f4, f5, a1, a2, a3, a4, a5, a6, a7, a8, a9, a10, a11, a12, a13, a14, a15, a16, a17, a18, a19, a20, a21, a22, a23, a24, a25, a26, a27, a28, a29, a30, a31, a32, a33, a34, a35, a36, a37, a38) := by
  refine ⟨(0 + 1) + N, mm_lisS (0 + 1) N 0 (fun t _ h2 => ⟨by omega, Or.inl (h27 t (by omega))⟩) ?_⟩
  rw [Nat.zero_add N, hN]
  exact pk_le 1024 1024 (fun _ => H) (fun z => absurd z (by omega))
theorem mm_lis1 {post R : St2 → Prop} {f0 f1 f2 f3 f4 f5 : Int32} {a1 a2 a3 a4 a5 a6 a7 a8 a9 a10 a11 a12 a13 a14 a15 a16 a17 a18 a19 a20 a21 a22 a23 a24 a25 a26 a27 a28 a29 a30 a31 a32 a33 a34 a35 a36 a37 a38 : Nat → Int32} (k : Nat) {i t : Nat} (hk : k < 1000) (hi : i < 8) (ht : t < 8) (h27 : ∀ j, j < 1024 → j ≠ k → a27 j = 0) (hu : a27 k = 1) (hd : a30 k = f4) (h28 : a28 k = nI i) (h29 : a29 k = nI t) (hup : ¬ ((a1 i >>> (nI t &&& 31)) &&& 1) = 0)
    (hh : ∀ (Q : St2 → Prop) (c : Nat → Int32), (∀ v, R v → Q v) → (∀ j, j < 12 → c j = a31 (k * 12 + j)) → wpX_hear Q (f0, f1, f2, f3, f4, f5, a1, a2, a3, a4, a5, a6, a7, a8, a9, a10, a11, a12, a13, a14, a15, a16, a17, a18, a19, a20, a21, a22, a23, a24, a25, a26, upd a27 k 0, a28, a29, a30, a31, a32, a33, a34, a35, a36, a37, c) (nI t) (nI i))
    (hR : ∀ (f0' f1' f2' f3' f4' f5' : Int32) (a1' a2' a3' a4' a5' a6' a7' a8' a9' a10' a11' a12' a13' a14' a15' a16' a17' a18' a19' a20' a21' a22' a23' a24' a25' a26' a27' a28' a29' a30' a31' a32' a33' a34' a35' a36' a37' a38' : Nat → Int32), R (f0', f1', f2', f3', f4', f5', a1', a2', a3', a4', a5', a6', a7', a8', a9', a10', a11', a12', a13', a14', a15', a16', a17', a18', a19', a20', a21', a22', a23', a24', a25', a26', a27', a28', a29', a30', a31', a32', a33', a34', a35', a36', a37', a38') → ∀ j, k < j → j < 1024 → a27' j = 0 ∨ f4' < a30' j) (H : ∀ v, R v → post v) : wpX_listen post (f0, f1, f2, f3, f4, f5, a1, a2, a3, a4, a5, a6, a7, a8, a9, a10, a11, a12, a13, a14, a15, a16, a17, a18, a19, a20, a21, a22, a23, a24, a25, a26, a27, a28, a29, a30, a31, a32, a33, a34, a35, a36, a37, a38) := by
  refine ⟨((0 + 1) + (1023 - k) + 1) + k, mm_lisS _ k 0 (fun t _ h2 => ⟨by omega, Or.inl (h27 t (by omega) (by omega))⟩) ?_⟩
  rw [Nat.zero_add k]
  refine pk_le 1024 k (fun z => absurd z (by omega)) (fun _ => ⟨pk_in k 1024 (by omega), br_f (by rw [mm_rd1 (by omega) hu]; decide) ⟨pk_in k 1024 (by omega), br_f (by rw [mm_rd1 (by omega) hd]; exact Int32.lt_irrefl) (mm_put k (by omega) ⟨pk_in k 1024 (by omega), nm_r (mm_rd1 (by omega) h29) ⟨pk_in k 1024 (by omega), nm_r (mm_rd1 (by omega) h28) (mm_isUp1 hi hup (br_f (by decide) ?_))⟩⟩)⟩⟩)
  refine pk_loop (fun n j c => wX_listen_64 post (wX_listen_2 post ((0 + 1) + (1023 - k))) (nI k) (nI t) (nI i) f0 f1 f2 f3 f4 f5 n (nI j) a1 a2 a3 a4 a5 a6 a7 a8 a9 a10 a11 a12 a13 a14 a15 a16 a17 a18 a19 a20 a21 a22 a23 a24 a25 a26 (upd a27 k 0) a28 a29 a30 a31 a32 a33 a34 a35 a36 a37 c) (fun i' c => ∀ j, j < i' → c j = a31 (k * 12 + j)) 12 0 a38 (by omega) (fun j hj => absurd hj (by omega)) ?_ ?_
  · refine fun n c hc => pk_le 12 12 (fun _ => hh _ c (fun v hv => ?_) hc) (fun z => absurd z (by omega))
    obtain ⟨f0', f1', f2', f3', f4', f5', a1', a2', a3', a4', a5', a6', a7', a8', a9', a10', a11', a12', a13', a14', a15', a16', a17', a18', a19', a20', a21', a22', a23', a24', a25', a26', a27', a28', a29', a30', a31', a32', a33', a34', a35', a36', a37', a38'⟩ := v
    refine nm_r (nI_1 k) (mm_lisS _ (1023 - k) (k + 1) (fun t h1 h2 => ⟨by omega, hR f0' f1' f2' f3' f4' f5' a1' a2' a3' a4' a5' a6' a7' a8' a9' a10' a11' a12' a13' a14' a15' a16' a17' a18' a19' a20' a21' a22' a23' a24' a25' a26' a27' a28' a29' a30' a31' a32' a33' a34' a35' a36' a37' a38' hv t (by omega) (by omega)⟩) ?_)
    rw [show k + 1 + (1023 - k) = 1024 by omega]
    exact pk_le 1024 1024 (fun _ => H _ hv) (fun z => absurd z (by omega))
  · exact fun n j c hj hc hw => pk_le 12 j (fun z => absurd z (by omega)) (fun _ => ⟨pk_in (k * 12 + j) 12288 (by omega) (mm_mad k 12 j), mm_pv j (a31 (k * 12 + j)) hj (congrArg a31 (pk_cl (k * 12 + j) (mm_mad k 12 j))) (nm_r (nI_1 j) (hw _ (mm_fil0 (f := fun j => a31 (k * 12 + j)) hc rfl)))⟩)
end
section
/-! the four moments, each from its picture to the next -/
def mm_P0 (s g p q len : Nat) (b : Int32) (u : St2) : Prop := match u with
  | (f0, f1, f2, f3, f4, f5, a1, a2, a3, a4, a5, a6, a7, a8, a9, a10, a11, a12, a13, a14, a15, a16, a17, a18, a19, a20, a21, a22, a23, a24, a25, a26, a27, a28, a29, a30, a31, a32, a33, a34, a35, a36, a37, a38) => f1 = 1 ∧ f2 = 0 ∧ f4 = 0 ∧ f5 = nI 0 ∧ a1 = mm_lk p q ∧ a4 0 = nI s ∧ a5 0 = nI g ∧ a6 0 = nI len ∧ (len = 1 → a7 0 = b) ∧ (∀ x, x < 64 → a9 x = 0) ∧ (∀ x, x < 64 → a10 x = 0)
    ∧ a11 s = 1 ∧ a11 g = 1 ∧ a13 (s * 8 + g) = -1 ∧ a15 (g * 8 + s) = 0 ∧ a15 (s * 8 + g) = 0 ∧ a16 (s * 8 + g) = -24 ∧ (∀ j, j < 64 → a17 (g * 64 + j) = -1) ∧ a19 s = 0 ∧ a19 g = 0
    ∧ a20 (s + 8 * g) = 0 ∧ a23 (s + 8 * g) = 0 ∧ a24 (s + 8 * g) = 0 ∧ a25 (s + 8 * g) = 0 ∧ (∀ j, j < 1024 → a27 j = 0) ∧ (∀ j, j < 16 → a33 j = 0)
def mm_P1 (s g p q len : Nat) (b : Int32) (u : St2) : Prop := match u with
  | (f0, f1, f2, f3, f4, f5, a1, a2, a3, a4, a5, a6, a7, a8, a9, a10, a11, a12, a13, a14, a15, a16, a17, a18, a19, a20, a21, a22, a23, a24, a25, a26, a27, a28, a29, a30, a31, a32, a33, a34, a35, a36, a37, a38) => f1 = 1 ∧ f2 = 0 ∧ f4 = 1 ∧ f5 = nI 1 ∧ a1 = mm_lk p q ∧ a4 0 = nI s ∧ a5 0 = nI g ∧ a6 0 = nI len ∧ (len = 1 → a7 0 = b) ∧ (∀ x, x < 64 → a9 x = 0) ∧ (∀ x, x < 64 → a10 x = 0)
    ∧ a11 g = 1 ∧ a13 (s * 8 + g) = -1 ∧ a15 (g * 8 + s) = 0 ∧ a15 (s * 8 + g) = 0 ∧ a16 (s * 8 + g) = 1 ∧ (∀ j, j < 64 → a17 (g * 64 + j) = -1) ∧ a19 g = 0
    ∧ a20 (s + 8 * g) = 0 ∧ a23 (s + 8 * g) = 0 ∧ a24 (s + 8 * g) = 0 ∧ a25 (s + 8 * g) = 0 ∧ (∀ j, j < 1024 → j ≠ 0 → a27 j = 0) ∧ (∀ j, j < 16 → a33 j = 0)
    ∧ a27 0 = 1 ∧ a28 0 = nI s ∧ a29 0 = nI g ∧ a30 0 = 2 ∧ a31 (0 * 12 + 0) = 0 ∧ a31 (0 * 12 + 1) = nI s ∧ a31 (0 * 12 + 2) = nI g ∧ a31 (0 * 12 + 3) = 2
/-- the second moment, its frame heard -/
def mm_L2 (s g p q len : Nat) (b : Int32) (u : St2) : Prop := match u with
  | (f0, f1, f2, f3, f4, f5, a1, a2, a3, a4, a5, a6, a7, a8, a9, a10, a11, a12, a13, a14, a15, a16, a17, a18, a19, a20, a21, a22, a23, a24, a25, a26, a27, a28, a29, a30, a31, a32, a33, a34, a35, a36, a37, a38) => f1 = 1 ∧ f2 = 0 ∧ f4 = 2 ∧ f5 = nI 2 ∧ a1 = mm_lk p q ∧ a4 0 = nI s ∧ a5 0 = nI g ∧ a6 0 = nI len ∧ (len = 1 → a7 0 = b) ∧ (∀ x, x < 64 → a9 x = 0) ∧ (∀ x, x < 64 → a10 x = 0)
    ∧ a13 (s * 8 + g) = -1 ∧ a13 (g * 8 + s) = nI s ∧ a15 (s * 8 + g) = 0 ∧ a16 (s * 8 + g) = 1
    ∧ a20 (s + 8 * g) = 0 ∧ a23 (s + 8 * g) = 0 ∧ a24 (s + 8 * g) = 0 ∧ a25 (s + 8 * g) = 0 ∧ (∀ j, j < 1024 → j ≠ 1 → a27 j = 0) ∧ (∀ j, j < 16 → a33 j = 0)
    ∧ a27 1 = 1 ∧ a28 1 = nI g ∧ a29 1 = nI s ∧ a30 1 = 3 ∧ a31 (1 * 12 + 0) = 1 ∧ a31 (1 * 12 + 1) = nI g ∧ a31 (1 * 12 + 2) = nI s ∧ a31 (1 * 12 + 3) = 2
def mm_L3 (s g p q len : Nat) (b : Int32) (u : St2) : Prop := match u with
  | (f0, f1, f2, f3, f4, f5, a1, a2, a3, a4, a5, a6, a7, a8, a9, a10, a11, a12, a13, a14, a15, a16, a17, a18, a19, a20, a21, a22, a23, a24, a25, a26, a27, a28, a29, a30, a31, a32, a33, a34, a35, a36, a37, a38) => f1 = 1 ∧ f2 = 0 ∧ f4 = 3 ∧ f5 = nI 2 ∧ a1 = mm_lk p q ∧ a4 0 = nI s ∧ a5 0 = nI g ∧ a6 0 = nI len ∧ (len = 1 → a7 0 = b) ∧ (∀ x, x < 64 → a9 x = 0) ∧ (∀ x, x < 64 → a10 x = 0)
    ∧ a13 (s * 8 + g) = nI g ∧ a13 (g * 8 + s) = nI s
    ∧ a20 (s + 8 * g) = 0 ∧ a23 (s + 8 * g) = 0 ∧ a24 (s + 8 * g) = 0 ∧ a25 (s + 8 * g) = 0 ∧ (∀ j, j < 1024 → a27 j = 0) ∧ (∀ j, j < 16 → a33 j = 0)
def mm_P3 (s g p q len : Nat) (b : Int32) (u : St2) : Prop := match u with
  | (f0, f1, f2, f3, f4, f5, a1, a2, a3, a4, a5, a6, a7, a8, a9, a10, a11, a12, a13, a14, a15, a16, a17, a18, a19, a20, a21, a22, a23, a24, a25, a26, a27, a28, a29, a30, a31, a32, a33, a34, a35, a36, a37, a38) => f1 = 1 ∧ f2 = 0 ∧ f4 = 3 ∧ f5 = nI 3 ∧ a1 = mm_lk p q ∧ a4 0 = nI s ∧ a5 0 = nI g ∧ (∀ x, x < 64 → a9 x = 0) ∧ (∀ x, x < 64 → a10 x = 0)
    ∧ a13 (g * 8 + s) = nI s
    ∧ a21 (s + 8 * g) = 3 ∧ a23 (s + 8 * g) = 1 ∧ a24 (s + 8 * g) = 0 ∧ a25 (s + 8 * g) = 0 ∧ (∀ j, j < 1024 → j ≠ 2 → a27 j = 0) ∧ (∀ j, j < 16 → a33 j = 0)
    ∧ a27 2 = 1 ∧ a28 2 = nI s ∧ a29 2 = nI g ∧ a30 2 = 4 ∧ a31 (2 * 12 + 0) = 3 ∧ a31 (2 * 12 + 1) = nI s ∧ a31 (2 * 12 + 2) = nI g ∧ a31 (2 * 12 + 3) = 0 ∧ a31 (2 * 12 + 4) = 0 ∧ a31 (2 * 12 + 6) = nI len ∧ a31 (2 * 12 + 7) = 1 ∧ (len = 1 → a31 (2 * 12 + 8) = b &&& 255)
def mm_P4 (s g p q len : Nat) (b : Int32) (u : St2) : Prop := match u with
  | (f0, f1, f2, f3, f4, f5, a1, a2, a3, a4, a5, a6, a7, a8, a9, a10, a11, a12, a13, a14, a15, a16, a17, a18, a19, a20, a21, a22, a23, a24, a25, a26, a27, a28, a29, a30, a31, a32, a33, a34, a35, a36, a37, a38) => f1 = 1 ∧ f2 = 1 ∧ f4 = 4 ∧ a1 = mm_lk p q ∧ a4 0 = nI s ∧ a5 0 = nI g ∧ a6 0 = nI len ∧ (len = 1 → a8 0 = ((b &&& 255).toInt8.toInt32).toInt8.toInt32) ∧ (∀ x, x < 64 → a9 x = 0) ∧ (∀ x, x < 64 → x ≠ s + 8 * g → a10 x = 0)
    ∧ a10 (s + 8 * g) = 1 ∧ a21 (s + 8 * g) = 3 ∧ a23 (s + 8 * g) = 1 ∧ (∀ j, 2 < j → j < 1024 → a27 j = 0 ∨ f4 < a30 j)
theorem mm_i1 {s g p q len : Nat} {b : Int32} (hs : s < 8) (hg : g < 8) : ∀ v, mm_P1 s g p q len b v → mm_idle s g v := by
  rintro ⟨f0, f1, f2, f3, f4, f5, a1, a2, a3, a4, a5, a6, a7, a8, a9, a10, a11, a12, a13, a14, a15, a16, a17, a18, a19, a20, a21, a22, a23, a24, a25, a26, a27, a28, a29, a30, a31, a32, a33, a34, a35, a36, a37, a38⟩ ⟨rfl, rfl, _, _, _, h4, h5, _, _, h9, h10, _⟩
  exact mm_idleA hs hg (Or.inl rfl) h4 h5 h9 (fun x hx _ => h10 x hx)
theorem mm_i2 {s g p q len : Nat} {b : Int32} (hs : s < 8) (hg : g < 8) : ∀ v, mm_L2 s g p q len b v → mm_idle s g v := by
  rintro ⟨f0, f1, f2, f3, f4, f5, a1, a2, a3, a4, a5, a6, a7, a8, a9, a10, a11, a12, a13, a14, a15, a16, a17, a18, a19, a20, a21, a22, a23, a24, a25, a26, a27, a28, a29, a30, a31, a32, a33, a34, a35, a36, a37, a38⟩ ⟨rfl, rfl, _, _, _, h4, h5, _, _, h9, h10, _⟩
  exact mm_idleA hs hg (Or.inl rfl) h4 h5 h9 (fun x hx _ => h10 x hx)
theorem mm_i3 {s g p q len : Nat} {b : Int32} (hs : s < 8) (hg : g < 8) : ∀ v, mm_P3 s g p q len b v → mm_idle s g v := by
  rintro ⟨f0, f1, f2, f3, f4, f5, a1, a2, a3, a4, a5, a6, a7, a8, a9, a10, a11, a12, a13, a14, a15, a16, a17, a18, a19, a20, a21, a22, a23, a24, a25, a26, a27, a28, a29, a30, a31, a32, a33, a34, a35, a36, a37, a38⟩ ⟨rfl, rfl, _, _, _, h4, h5, h9, h10, _⟩
  exact mm_idleA hs hg (Or.inl rfl) h4 h5 h9 (fun x hx _ => h10 x hx)
theorem mm_i4 {s g p q len : Nat} {b : Int32} (hs : s < 8) (hg : g < 8) : ∀ v, mm_P4 s g p q len b v → mm_idle s g v := by
  rintro ⟨f0, f1, f2, f3, f4, f5, a1, a2, a3, a4, a5, a6, a7, a8, a9, a10, a11, a12, a13, a14, a15, a16, a17, a18, a19, a20, a21, a22, a23, a24, a25, a26, a27, a28, a29, a30, a31, a32, a33, a34, a35, a36, a37, a38⟩ ⟨rfl, rfl, _, _, h4, h5, _, _, h9, h10, _⟩
  exact mm_idleA hs hg (Or.inr rfl) h4 h5 h9 h10
theorem mm_one {f : Nat → Int32} {k : Nat} (h : ∀ j, j < 1024 → f j = 0) : ∀ j, j < 1024 → j ≠ k → upd f k 1 j = 0 := by
  intro j hj hn
  rw [pk_un hn]
  exact h j hj
theorem mm_off {f : Nat → Int32} {k : Nat} (h : ∀ j, j < 1024 → j ≠ k → f j = 0) : ∀ j, j < 1024 → upd f k 0 j = 0 := by
  intro j hj
  by_cases e : j = k
  · rw [e, pk_us]
  · rw [pk_un e]
    exact h j hj e
theorem mm_M1 {post : St2 → Prop} {s g p q len : Nat} {b : Int32} (hs : s < 8) (hg : g < 8) (hn : s ≠ g) (he : mm_ends s g p q) (u : St2) (h : mm_P0 s g p q len b u) (H : ∀ v, mm_P1 s g p q len b v → post v) : wpX_moment post u := by
  obtain ⟨f0, f1, f2, f3, f4, f5, a1, a2, a3, a4, a5, a6, a7, a8, a9, a10, a11, a12, a13, a14, a15, a16, a17, a18, a19, a20, a21, a22, a23, a24, a25, a26, a27, a28, a29, a30, a31, a32, a33, a34, a35, a36, a37, a38⟩ := u
  obtain ⟨rfl, rfl, rfl, rfl, rfl, h4, h5, h6, h7, h9, h10, h11s, h11g, h13, h15a, h15b, h16, h17, h19s, h19g, h20, h23, h24, h25, h27, h33⟩ := h
  refine nm_r (e' := 1) (by decide) (mm_lis0 1024 rfl h27 (mm_m16 hs hg hn (mm_idleA hs hg (Or.inl rfl) h4 h5 h9 (fun x hx _ => h10 x hx)) ?_ (mm_i1 hs hg) H))
  intro Q hQ
  refine mm_urgeG hs hg h4 h5 (h9 _ (by omega)) (h10 _ (by omega)) (mm_ne0 hs hg hn he) h23 (mm_way0 hs hg h13 (br_t rfl (mm_put (s + 8 * g) (by omega) ?_)))
  refine mm_ask1 (by decide) hs hg h33 (mm_up hs hg hn he) (fun t ht hne => mm_dn hs hg hn he ht hne) (by rw [h16]; decide) h19s (fun c12 c18 v w c31 c32 w0 w1 w2 w3 hw => hQ _ ?_)
  refine ⟨rfl, rfl, rfl, rfl, rfl, h4, h5, h6, h7, h9, h10, ?_, h13, h15a, h15b, pk_us, ?_, ?_, h20, pk_us, h24, h25, mm_one h27, h33, pk_us, pk_us, pk_us, ?_, ?_, ?_, ?_, ?_⟩
  · rw [pk_un hn.symm]; exact h11g
  · intro j hj
    rw [pk_un (by omega)]; exact h17 j hj
  · rw [pk_un hn.symm]; exact h19g
  · rw [pk_us]; decide
  · rw [hw 0 (by decide)]; exact w0
  · rw [hw 1 (by decide)]; exact w1
  · rw [hw 2 (by decide)]; exact w2
  · rw [hw 3 (by decide), w3, h11s]; decide
theorem mm_M2 {post : St2 → Prop} {s g p q len : Nat} {b : Int32} (hs : s < 8) (hg : g < 8) (hn : s ≠ g) (he : mm_ends s g p q) (u : St2) (h : mm_P1 s g p q len b u) (H : ∀ v, mm_L2 s g p q len b v → post v) : wpX_moment post u := by
  obtain ⟨f0, f1, f2, f3, f4, f5, a1, a2, a3, a4, a5, a6, a7, a8, a9, a10, a11, a12, a13, a14, a15, a16, a17, a18, a19, a20, a21, a22, a23, a24, a25, a26, a27, a28, a29, a30, a31, a32, a33, a34, a35, a36, a37, a38⟩ := u
  obtain ⟨rfl, rfl, rfl, rfl, rfl, h4, h5, h6, h7, h9, h10, h11g, h13, h15a, h15b, h16, h17, h19g, h20, h23, h24, h25, h27, h33, h270, h28, h29, h30, h31a, h31b, h31c, h31d⟩ := h
  refine nm_r (e' := 2) (by decide) (mm_lis1 (R := mm_L2 s g p q len b) 0 (by decide) hs hg h27 h270 h30 h28 h29 (mm_up hs hg hn he) ?_ ?_ ?_)
  · intro Q c hQ hc
    refine nm_r (e' := 0) (by rw [hc 0 (by decide)]; exact h31a) (br_t rfl (mm_hearAsk (by decide) hs hg hn h33 (mm_up hg hs hn.symm (mm_sw he)) (by rw [hc 1 (by decide)]; exact h31b) (by rw [hc 2 (by decide)]; exact h31c) (by rw [hc 3 (by decide)]; exact h31d) h17 h19g h15a (fun c14 c17 c18 c19 w c31 c32 w0 w1 w2 w3 hw => hQ _ ?_)))
    refine ⟨rfl, rfl, rfl, rfl, rfl, h4, h5, h6, h7, h9, h10, ?_, pk_us, ?_, h16, h20, h23, h24, h25, mm_one (mm_off h27), h33, pk_us, pk_us, pk_us, ?_, ?_, ?_, ?_, ?_⟩
    · rw [pk_un (by omega)]; exact h13
    · rw [pk_un (by omega)]; exact h15b
    · rw [pk_us]; decide
    · rw [hw 0 (by decide)]; exact w0
    · rw [hw 1 (by decide)]; exact w1
    · rw [hw 2 (by decide)]; exact w2
    · rw [hw 3 (by decide), w3, h11g]; decide
  · rintro f0' f1' f2' f3' f4' f5' a1' a2' a3' a4' a5' a6' a7' a8' a9' a10' a11' a12' a13' a14' a15' a16' a17' a18' a19' a20' a21' a22' a23' a24' a25' a26' a27' a28' a29' a30' a31' a32' a33' a34' a35' a36' a37' a38' ⟨_, _, rfl, _, _, _, _, _, _, _, _, _, _, _, _, _, _, _, _, k27, _, _, _, _, k30, _⟩ j hj hj2
    by_cases e : j = 1
    · subst e
      rw [k30]
      exact Or.inr (by decide)
    · exact Or.inl (k27 j hj2 e)
  · rintro ⟨f0', f1', f2', f3', f4', f5', a1', a2', a3', a4', a5', a6', a7', a8', a9', a10', a11', a12', a13', a14', a15', a16', a17', a18', a19', a20', a21', a22', a23', a24', a25', a26', a27', a28', a29', a30', a31', a32', a33', a34', a35', a36', a37', a38'⟩ ⟨rfl, rfl, rfl, rfl, rfl, k4, k5, k6, k7, k9, k10, k13, k13b, k15b, k16, k20, k23, k24, k25, k27, k33, k271, k28, k29, k30, k31a, k31b, k31c, k31d⟩
    refine mm_m16 (R := mm_L2 s g p q len b) hs hg hn (mm_idleA hs hg (Or.inl rfl) k4 k5 k9 (fun x hx _ => k10 x hx)) ?_ (mm_i2 hs hg) H
    intro Q hQ
    refine mm_urgeG hs hg k4 k5 (k9 _ (by omega)) (k10 _ (by omega)) (mm_ne0 hs hg hn he) k23 (mm_way0 hs hg k13 (br_t rfl (mm_put (s + 8 * g) (by omega) ?_)))
    refine mm_ask0 hs hg (by rw [k16]; decide) (hQ _ ?_)
    exact ⟨rfl, rfl, rfl, rfl, rfl, k4, k5, k6, k7, k9, k10, k13, k13b, k15b, k16, k20, pk_us, k24, k25, k27, k33, k271, k28, k29, k30, k31a, k31b, k31c, k31d⟩
theorem mm_M3 {post : St2 → Prop} {s g p q len : Nat} {b : Int32} (hs : s < 8) (hg : g < 8) (hn : s ≠ g) (he : mm_ends s g p q) (hl : len ≤ 1) (u : St2) (h : mm_L2 s g p q len b u) (H : ∀ v, mm_P3 s g p q len b v → post v) : wpX_moment post u := by
  obtain ⟨f0, f1, f2, f3, f4, f5, a1, a2, a3, a4, a5, a6, a7, a8, a9, a10, a11, a12, a13, a14, a15, a16, a17, a18, a19, a20, a21, a22, a23, a24, a25, a26, a27, a28, a29, a30, a31, a32, a33, a34, a35, a36, a37, a38⟩ := u
  obtain ⟨rfl, rfl, rfl, rfl, rfl, h4, h5, h6, h7, h9, h10, h13, h13b, h15b, h16, h20, h23, h24, h25, h27, h33, h271, h28, h29, h30, h31a, h31b, h31c, h31d⟩ := h
  refine nm_r (e' := 3) (by decide) (mm_lis1 (R := mm_L3 s g p q len b) 1 (by decide) hg hs h27 h271 h30 h28 h29 (mm_up hg hs hn.symm (mm_sw he)) ?_ ?_ ?_)
  · intro Q c hQ hc
    refine nm_r (e' := 1) (by rw [hc 0 (by decide)]; exact h31a) (br_f (by decide) (br_t rfl (mm_hearTell hs hg hn (by rw [hc 1 (by decide)]; exact h31b) (by rw [hc 2 (by decide)]; exact h31c) (by rw [hc 3 (by decide)]; exact h31d) h15b (fun c14 => hQ _ ?_))))
    refine ⟨rfl, rfl, rfl, rfl, rfl, h4, h5, h6, h7, h9, h10, pk_us, ?_, h20, h23, h24, h25, mm_off h27, h33⟩
    rw [pk_un (by omega)]; exact h13b
  · rintro f0' f1' f2' f3' f4' f5' a1' a2' a3' a4' a5' a6' a7' a8' a9' a10' a11' a12' a13' a14' a15' a16' a17' a18' a19' a20' a21' a22' a23' a24' a25' a26' a27' a28' a29' a30' a31' a32' a33' a34' a35' a36' a37' a38' ⟨_, _, _, _, _, _, _, _, _, _, _, _, _, _, _, _, _, k27, _⟩ j hj hj2
    exact Or.inl (k27 j hj2)
  · rintro ⟨f0', f1', f2', f3', f4', f5', a1', a2', a3', a4', a5', a6', a7', a8', a9', a10', a11', a12', a13', a14', a15', a16', a17', a18', a19', a20', a21', a22', a23', a24', a25', a26', a27', a28', a29', a30', a31', a32', a33', a34', a35', a36', a37', a38'⟩ ⟨rfl, rfl, rfl, rfl, rfl, k4, k5, k6, k7, k9, k10, k13, k13b, k20, k23, k24, k25, k27, k33⟩
    refine mm_m16 (R := mm_P3 s g p q len b) hs hg hn (mm_idleA hs hg (Or.inl rfl) k4 k5 k9 (fun x hx _ => k10 x hx)) ?_ (mm_i3 hs hg) H
    intro Q hQ
    refine mm_urgeG hs hg k4 k5 (k9 _ (by omega)) (k10 _ (by omega)) (mm_ne0 hs hg hn he) k23 (mm_way1 hs hg k13 (mm_up hs hg hn he) (br_f (by decide) (br_f (by decide) ?_)))
    refine mm_writePiece hs hg hl k6 k20 (k9 _ (by omega)) (fun w w0 w1 w2 w3 w4 w6 w7 w8 => ?_)
    refine mm_put (s + 8 * g) (by omega) (mm_put (s + 8 * g) (by omega) (mm_passOn (by decide) hs hg k33 w2 k13 (mm_up hs hg hn he) (fun c31 c32 hw => hQ _ ?_)))
    refine ⟨rfl, rfl, rfl, rfl, rfl, k4, k5, k9, k10, k13b, pk_us, pk_us, k24, k25, mm_one k27, k33, pk_us, pk_us, pk_us, ?_, ?_, ?_, ?_, ?_, ?_, ?_, ?_, ?_⟩
    · rw [pk_us]; decide
    · rw [hw 0 (by decide)]; exact w0
    · rw [hw 1 (by decide)]; exact w1
    · rw [hw 2 (by decide)]; exact w2
    · rw [hw 3 (by decide)]; exact w3
    · rw [hw 4 (by decide)]; exact w4
    · rw [hw 6 (by decide)]; exact w6
    · rw [hw 7 (by decide)]; exact w7
    · intro z
      rw [hw 8 (by decide), w8 z, k7 z]
theorem mm_M4 {post : St2 → Prop} {s g p q len : Nat} {b : Int32} (hs : s < 8) (hg : g < 8) (hn : s ≠ g) (he : mm_ends s g p q) (hl : len ≤ 1) (u : St2) (h : mm_P3 s g p q len b u) (H : ∀ v, mm_P4 s g p q len b v → post v) : wpX_moment post u := by
  obtain ⟨f0, f1, f2, f3, f4, f5, a1, a2, a3, a4, a5, a6, a7, a8, a9, a10, a11, a12, a13, a14, a15, a16, a17, a18, a19, a20, a21, a22, a23, a24, a25, a26, a27, a28, a29, a30, a31, a32, a33, a34, a35, a36, a37, a38⟩ := u
  obtain ⟨rfl, rfl, rfl, rfl, rfl, h4, h5, h9, h10, h13, h21, h23, h24, h25, h27, h33, h272, h28, h29, h30, h31a, h31b, h31c, h31d, h31e, h31f, h31g, h31h⟩ := h
  refine nm_r (e' := 4) (by decide) (mm_lis1 (R := mm_P4 s g p q len b) 2 (by decide) hs hg h27 h272 h30 h28 h29 (mm_up hs hg hn he) ?_ ?_ ?_)
  · intro Q c hQ hc
    refine nm_r (e' := 3) (by rw [hc 0 (by decide)]; exact h31a) (br_f (by decide) (br_f (by decide) (br_f (by decide) (br_t rfl (mm_hearPiece (by decide) hs hg hl h33 (mm_up hg hs hn.symm (mm_sw he)) (by rw [hc 1 (by decide)]; exact h31b) (by rw [hc 2 (by decide)]; exact h31c) (by rw [hc 3 (by decide)]; exact h31d) (by rw [hc 4 (by decide)]; exact h31e) (by rw [hc 6 (by decide)]; exact h31f) (by rw [hc 7 (by decide)]; exact h31g) h4 h5 (h10 _ (by omega)) h24 h25 h13 (fun c8 c24 c25 c26 w c31 c32 e8 => hQ _ ?_))))))
    refine ⟨rfl, rfl, rfl, rfl, h4, h5, pk_us, ?_, h9, ?_, ?_, h21, h23, ?_⟩
    · intro z
      rw [e8 z, hc 8 (by decide), h31h z]
    · intro x hx hne
      rw [pk_un hne]; exact h10 x hx
    · rw [pk_us, h10 _ (by omega)]; decide
    · intro j hj hj2
      by_cases e : j = 3
      · subst e
        exact Or.inr (by rw [pk_us]; decide)
      · exact Or.inl (mm_one (mm_off h27) j hj2 e)
  · rintro f0' f1' f2' f3' f4' f5' a1' a2' a3' a4' a5' a6' a7' a8' a9' a10' a11' a12' a13' a14' a15' a16' a17' a18' a19' a20' a21' a22' a23' a24' a25' a26' a27' a28' a29' a30' a31' a32' a33' a34' a35' a36' a37' a38' ⟨_, _, _, _, _, _, _, _, _, _, _, _, _, k27⟩ j hj hj2
    exact k27 j hj hj2
  · rintro ⟨f0', f1', f2', f3', f4', f5', a1', a2', a3', a4', a5', a6', a7', a8', a9', a10', a11', a12', a13', a14', a15', a16', a17', a18', a19', a20', a21', a22', a23', a24', a25', a26', a27', a28', a29', a30', a31', a32', a33', a34', a35', a36', a37', a38'⟩ ⟨rfl, rfl, rfl, rfl, k4, k5, k6, k8, k9, k10, k10b, k21, k23, k27⟩
    refine mm_m16 (R := mm_P4 s g p q len b) hs hg hn (mm_idleA hs hg (Or.inr rfl) k4 k5 k9 k10) ?_ (mm_i4 hs hg) H
    intro Q hQ
    refine mm_urgeU hs hg (k9 _ (by omega)) k10b (mm_ne0 hs hg hn he) k23 (by rw [k21]; decide) (hQ _ ?_)
    exact ⟨rfl, rfl, rfl, rfl, k4, k5, k6, k8, k9, k10, k10b, k21, k23, k27⟩
end
section
/-! settle; the making of the object; write, post, link, find, byteAt -/
theorem mm_s66 {post : Int32 → St2 → Prop} {f0 f1 f2 f3 f4 f5 : Int32} {a1 a2 a3 a4 a5 a6 a7 a8 a9 a10 a11 a12 a13 a14 a15 a16 a17 a18 a19 a20 a21 a22 a23 a24 a25 a26 a27 a28 a29 a30 a31 a32 a33 a34 a35 a36 a37 a38 : Nat → Int32} {x r : Int32} (hr : 0 + ((x >>> ((0 : Int32) &&& 31)) &&& 1) = r) (h : ∀ m, m < 16 → 0 < m → ((x >>> (nI m &&& 31)) &&& 1) = 0) (H : post r (f0, f1, f2, f3, f4, f5, a1, a2, a3, a4, a5, a6, a7, a8, a9, a10, a11, a12, a13, a14, a15, a16, a17, a18, a19, a20, a21, a22, a23, a24, a25, a26, a27, a28, a29, a30, a31, a32, a33, a34, a35, a36, a37, a38)) : ∃ n, wX_settle_66 post x f0 f1 f2 f3 f4 f5 a1 a2 a3 a4 a5 a6 a7 a8 a9 a10 a11 a12 a13 a14 a15 a16 a17 a18 a19 a20 a21 a22 a23 a24 a25 a26 a27 a28 a29 a30 a31 a32 a33 a34 a35 a36 a37 a38 n 0 0 :=
  Exists.elim (pk_loop (fun n i s => wX_settle_66 post x f0 f1 f2 f3 f4 f5 a1 a2 a3 a4 a5 a6 a7 a8 a9 a10 a11 a12 a13 a14 a15 a16 a17 a18 a19 a20 a21 a22 a23 a24 a25 a26 a27 a28 a29 a30 a31 a32 a33 a34 a35 a36 a37 a38 n s (nI i)) (fun i s => 0 < i ∧ s = r) 16 1 r (by omega) ⟨by omega, rfl⟩
    (fun n s h => pk_le 16 16 (fun _ => by rw [h.2]; exact H) (fun z => absurd z (by omega)))
    (fun n i s hi hh hw => pk_le 16 i (fun z => absurd z (by omega)) (fun _ => nm_e (nm_r (nI_1 i) (hw _ ⟨by omega, by rw [hh.2, h i hi hh.1]; exact Int32.add_zero r⟩)))))
    (fun n hn => ⟨n + 1, pk_le 16 0 (fun z => absurd z (by omega)) (fun _ => nm_r hr (nm_e hn))⟩)
theorem mm_s0 {post : Int32 → St2 → Prop} {f0 f1 f3 f4 f5 : Int32} {a1 a2 a3 a4 a5 a6 a7 a8 a9 a10 a11 a12 a13 a14 a15 a16 a17 a18 a19 a20 a21 a22 a23 a24 a25 a26 a27 a28 a29 a30 a31 a32 a33 a34 a35 a36 a37 a38 : Nat → Int32} (H : post 0 (f0, f1, 0, f3, f4, f5, a1, a2, a3, a4, a5, a6, a7, a8, a9, a10, a11, a12, a13, a14, a15, a16, a17, a18, a19, a20, a21, a22, a23, a24, a25, a26, a27, a28, a29, a30, a31, a32, a33, a34, a35, a36, a37, a38)) : wX_settle_52 post 0 f0 f1 0 f3 f4 f5 a1 a2 a3 a4 a5 a6 a7 a8 a9 a10 a11 a12 a13 a14 a15 a16 a17 a18 a19 a20 a21 a22 a23 a24 a25 a26 a27 a28 a29 a30 a31 a32 a33 a34 a35 a36 a37 a38 :=
  nm_r (e' := 0) (by decide) (mm_s66 (by decide) (fun m hm _ => mm_0bit m (by omega)) H)
theorem mm_s1 {post : Int32 → St2 → Prop} {f0 f1 f3 f4 f5 : Int32} {a1 a2 a3 a4 a5 a6 a7 a8 a9 a10 a11 a12 a13 a14 a15 a16 a17 a18 a19 a20 a21 a22 a23 a24 a25 a26 a27 a28 a29 a30 a31 a32 a33 a34 a35 a36 a37 a38 : Nat → Int32} (H : post 1 (f0, f1, 1, f3, f4, f5, a1, a2, a3, a4, a5, a6, a7, a8, a9, a10, a11, a12, a13, a14, a15, a16, a17, a18, a19, a20, a21, a22, a23, a24, a25, a26, a27, a28, a29, a30, a31, a32, a33, a34, a35, a36, a37, a38)) : wX_settle_52 post 0 f0 f1 1 f3 f4 f5 a1 a2 a3 a4 a5 a6 a7 a8 a9 a10 a11 a12 a13 a14 a15 a16 a17 a18 a19 a20 a21 a22 a23 a24 a25 a26 a27 a28 a29 a30 a31 a32 a33 a34 a35 a36 a37 a38 :=
  nm_r (e' := 1) (by decide) (mm_s66 (by decide) (fun m hm h0 => mm_1bit m hm h0) H)
theorem mm_setA {post : Int32 → St2 → Prop} {f0 f1 f2 f3 f4 f5 : Int32} {a1 a2 a3 a4 a5 a6 a7 a8 a9 a10 a11 a12 a13 a14 a15 a16 a17 a18 a19 a20 a21 a22 a23 a24 a25 a26 a27 a28 a29 a30 a31 a32 a33 a34 a35 a36 a37 a38 : Nat → Int32} (H : ∀ c : Nat → Int32, (∀ j, j < 1024 → c j = 0) → ∃ n, wX_settle_29 post f2 n 0 f0 f1 f2 f3 f4 f5 a1 a2 a3 a4 a5 a6 a7 a8 a9 a10 a11 a12 a13 a14 a15 a16 a17 a18 a19 a20 a21 a22 a23 a24 a25 a26 c a28 a29 a30 a31 a32 a33 a34 a35 a36 a37 a38) : wpX_settle post (f0, f1, f2, f3, f4, f5, a1, a2, a3, a4, a5, a6, a7, a8, a9, a10, a11, a12, a13, a14, a15, a16, a17, a18, a19, a20, a21, a22, a23, a24, a25, a26, a27, a28, a29, a30, a31, a32, a33, a34, a35, a36, a37, a38) :=
  pk_loop (fun n i s => wX_settle_7 post f2 f0 f1 f2 f3 f4 f5 n (nI i) a1 a2 a3 a4 a5 a6 a7 a8 a9 a10 a11 a12 a13 a14 a15 a16 a17 a18 a19 a20 a21 a22 a23 a24 a25 a26 s a28 a29 a30 a31 a32 a33 a34 a35 a36 a37 a38) (fun i s => ∀ j, j < i → s j = 0) 1024 0 a27 (by omega) (fun j hj => absurd hj (by omega))
    (fun n s h => pk_le 1024 1024 (fun _ => H s h) (fun z => absurd z (by omega)))
    (fun n i s hi h hw => pk_le 1024 i (fun z => absurd z (by omega)) (fun _ => mm_put i hi (nm_r (nI_1 i) (hw _ (mm_fil0 (f := fun _ => 0) h rfl)))))
/-- nothing can go -/
theorem mm_setN {post : Int32 → St2 → Prop} {f0 f1 f3 f4 f5 : Int32} {a1 a2 a3 a4 a5 a6 a7 a8 a9 a10 a11 a12 a13 a14 a15 a16 a17 a18 a19 a20 a21 a22 a23 a24 a25 a26 a27 a28 a29 a30 a31 a32 a33 a34 a35 a36 a37 a38 : Nat → Int32} (hr : ∀ (c : Nat → Int32) (Q : Int32 → Prop), Q 0 → wpX_ready Q (f0, f1, 0, f3, f4, f5, a1, a2, a3, a4, a5, a6, a7, a8, a9, a10, a11, a12, a13, a14, a15, a16, a17, a18, a19, a20, a21, a22, a23, a24, a25, a26, c, a28, a29, a30, a31, a32, a33, a34, a35, a36, a37, a38)) (H : ∀ c : Nat → Int32, post 0 (f0, f1, 0, f3, f4, f5, a1, a2, a3, a4, a5, a6, a7, a8, a9, a10, a11, a12, a13, a14, a15, a16, a17, a18, a19, a20, a21, a22, a23, a24, a25, a26, c, a28, a29, a30, a31, a32, a33, a34, a35, a36, a37, a38)) : wpX_settle post (f0, f1, 0, f3, f4, f5, a1, a2, a3, a4, a5, a6, a7, a8, a9, a10, a11, a12, a13, a14, a15, a16, a17, a18, a19, a20, a21, a22, a23, a24, a25, a26, a27, a28, a29, a30, a31, a32, a33, a34, a35, a36, a37, a38) :=
  mm_setA (fun c _ => ⟨0 + 1, br_f (by decide) (hr c _ (br_t (by decide) (mm_s0 (H c))))⟩)
/-- the message goes, in four moments -/
theorem mm_setG {post : Int32 → St2 → Prop} {f0 f3 f4 f5 : Int32} {a2 a3 a4 a5 a6 a7 a8 a9 a10 a11 a12 a13 a14 a15 a16 a17 a18 a19 a20 a21 a22 a23 a24 a25 a26 a27 a28 a29 a30 a31 a32 a33 a34 a35 a36 a37 a38 : Nat → Int32} {s g p q len : Nat} {b : Int32} (hs : s < 8) (hg : g < 8) (hn : s ≠ g) (he : mm_ends s g p q) (hl : len ≤ 1) (h4 : a4 0 = nI s) (h5 : a5 0 = nI g)
    (h0 : ∀ c : Nat → Int32, (∀ j, j < 1024 → c j = 0) → mm_P0 s g p q len b (f0, 1, 0, f3, f4, f5, mm_lk p q, a2, a3, a4, a5, a6, a7, a8, a9, a10, a11, a12, a13, a14, a15, a16, a17, a18, a19, a20, a21, a22, a23, a24, a25, a26, c, a28, a29, a30, a31, a32, a33, a34, a35, a36, a37, a38)) (H : ∀ v, mm_P4 s g p q len b v → post 1 v) : wpX_settle post (f0, 1, 0, f3, f4, f5, mm_lk p q, a2, a3, a4, a5, a6, a7, a8, a9, a10, a11, a12, a13, a14, a15, a16, a17, a18, a19, a20, a21, a22, a23, a24, a25, a26, a27, a28, a29, a30, a31, a32, a33, a34, a35, a36, a37, a38) := by
  refine mm_setA (fun c hc => ⟨0 + 1 + 1 + 1 + 1 + 1, br_f (by decide) (mm_rdyC (fun Q hQ => mm_con h4 h5 (mm_dU hs hg hn he (br_f (by decide) hQ))) (br_f (by decide) (mm_M1 hs hg hn he _ (h0 c hc) ?_)))⟩)
  rintro ⟨f0', f1', f2', f3', f4', f5', a1', a2', a3', a4', a5', a6', a7', a8', a9', a10', a11', a12', a13', a14', a15', a16', a17', a18', a19', a20', a21', a22', a23', a24', a25', a26', a27', a28', a29', a30', a31', a32', a33', a34', a35', a36', a37', a38'⟩ v1
  have w1 := v1
  obtain ⟨rfl, rfl, _, _, rfl, k4, k5, _⟩ := w1
  refine nm_e (br_f (by decide) (mm_rdyC (fun Q hQ => mm_con k4 k5 (mm_dU hs hg hn he (br_f (by decide) hQ))) (br_f (by decide) (mm_M2 hs hg hn he _ v1 ?_))))
  clear v1 k4 k5
  rintro ⟨f0'', f1'', f2'', f3'', f4'', f5'', a1'', a2'', a3'', a4'', a5'', a6'', a7'', a8'', a9'', a10'', a11'', a12'', a13'', a14'', a15'', a16'', a17'', a18'', a19'', a20'', a21'', a22'', a23'', a24'', a25'', a26'', a27'', a28'', a29'', a30'', a31'', a32'', a33'', a34'', a35'', a36'', a37'', a38''⟩ v1
  have w1 := v1
  obtain ⟨rfl, rfl, _, _, rfl, k4, k5, _⟩ := w1
  refine nm_e (br_f (by decide) (mm_rdyC (fun Q hQ => mm_con k4 k5 (mm_dU hs hg hn he (br_f (by decide) hQ))) (br_f (by decide) (mm_M3 hs hg hn he hl _ v1 ?_))))
  clear v1 k4 k5
  rintro ⟨f0_3, f1_3, f2_3, f3_3, f4_3, f5_3, a1_3, a2_3, a3_3, a4_3, a5_3, a6_3, a7_3, a8_3, a9_3, a10_3, a11_3, a12_3, a13_3, a14_3, a15_3, a16_3, a17_3, a18_3, a19_3, a20_3, a21_3, a22_3, a23_3, a24_3, a25_3, a26_3, a27_3, a28_3, a29_3, a30_3, a31_3, a32_3, a33_3, a34_3, a35_3, a36_3, a37_3, a38_3⟩ v1
  have w1 := v1
  obtain ⟨rfl, rfl, _, _, rfl, k4, k5, _⟩ := w1
  refine nm_e (br_f (by decide) (mm_rdyC (fun Q hQ => mm_con k4 k5 (mm_dU hs hg hn he (br_f (by decide) hQ))) (br_f (by decide) (mm_M4 hs hg hn he hl _ v1 ?_))))
  clear v1 k4 k5
  rintro ⟨f0_4, f1_4, f2_4, f3_4, f4_4, f5_4, a1_4, a2_4, a3_4, a4_4, a5_4, a6_4, a7_4, a8_4, a9_4, a10_4, a11_4, a12_4, a13_4, a14_4, a15_4, a16_4, a17_4, a18_4, a19_4, a20_4, a21_4, a22_4, a23_4, a24_4, a25_4, a26_4, a27_4, a28_4, a29_4, a30_4, a31_4, a32_4, a33_4, a34_4, a35_4, a36_4, a37_4, a38_4⟩ v1
  have w1 := v1
  obtain ⟨rfl, rfl, _⟩ := w1
  exact nm_e (br_f (by decide) (mm_rdy1 (br_t (by decide) (mm_s1 (H _ v1)))))
theorem mm_pf {f : Nat → Int32} {x v : Int32} {P : (Nat → Int32) → Prop} {N : Nat} (n : Nat) {f' : Nat → Int32} (h : n < N) (hf : upd f n v = f') (k : P f') (hx : x = nI n := by rfl) (hN : N < 2 ^ 31 := by decide) : vp_in x N ∧ ∀ a : Nat → Int32, a = upd f x.toNatClampNeg v → P a := by
  subst hf
  exact mm_put n h k hx hN
theorem mm_clear {post : St2 → Prop} {f0 f1 f2 f3 f5 : Int32} {a1 a2 a3 a4 a5 a6 a7 a8 a9 a10 a11 a12 a18 a19 a21 a26 a27 a28 a29 a30 a31 a32 a33 a34 a35 a36 a37 a38 : Nat → Int32} {s : Nat} (hs : s < 8)
    (H : post (f0, f1, f2, f3, 0, f5, a1, a2, a3, a4, a5, a6, a7, a8, a9, a10, a11, a12, mm_fl (-1) (s * 8 + 8), fun _ => 0, fun _ => 0, mm_fl (-24) (s * 8 + 8), mm_fl (-1) (s * 64 + 64), a18, a19, fun _ => 0, a21, fun _ => 0, fun _ => 0, fun _ => 0, fun _ => 0, a26, a27, a28, a29, a30, a31, a32, a33, a34, a35, a36, a37, a38)) :
    wpX_clear post (f0, f1, f2, f3, 0, f5, a1, a2, a3, a4, a5, a6, a7, a8, a9, a10, a11, a12, mm_fl (-1) (s * 8), fun _ => 0, fun _ => 0, mm_fl (-24) (s * 8), mm_fl (-1) (s * 64), a18, a19, fun _ => 0, a21, fun _ => 0, fun _ => 0, fun _ => 0, fun _ => 0, a26, a27, a28, a29, a30, a31, a32, a33, a34, a35, a36, a37, a38) (nI s) := by
  refine pk_loop (σ := Unit) (fun n i _ => wX_clear_2 post (nI s) f0 f1 f2 f3 0 f5 n (nI i) a1 a2 a3 a4 a5 a6 a7 a8 a9 a10 a11 a12 (mm_fl (-1) (s * 8 + i)) (fun _ => 0) (fun _ => 0) (mm_fl (-24) (s * 8 + i)) (mm_fl (-1) (s * 64)) a18 a19 (fun _ => 0) a21 (fun _ => 0) (fun _ => 0) (fun _ => 0) (fun _ => 0) a26 a27 a28 a29 a30 a31 a32 a33 a34 a35 a36 a37 a38) (fun _ _ => True) 8 0 () (by omega) trivial ?_ ?_
  · refine fun n _ _ => pk_le 8 8 (fun _ => ?_) (fun z => absurd z (by omega))
    refine pk_loop (σ := Unit) (fun n i _ => wX_clear_111 post (nI s) f0 f1 f2 f3 0 f5 n (nI i) a1 a2 a3 a4 a5 a6 a7 a8 a9 a10 a11 a12 (mm_fl (-1) (s * 8 + 8)) (fun _ => 0) (fun _ => 0) (mm_fl (-24) (s * 8 + 8)) (mm_fl (-1) (s * 64 + i)) a18 a19 (fun _ => 0) a21 (fun _ => 0) (fun _ => 0) (fun _ => 0) (fun _ => 0) a26 a27 a28 a29 a30 a31 a32 a33 a34 a35 a36 a37 a38) (fun _ _ => True) 64 0 () (by omega) trivial ?_ ?_
    · exact fun n _ _ => pk_le 64 64 (fun _ => H) (fun z => absurd z (by omega))
    · exact fun n i _ hi _ hw => pk_le 64 i (fun z => absurd z (by omega)) (fun _ => mm_pf (s * 64 + i) (by omega) (mm_flS _ _) (nm_r (nI_1 i) (hw () trivial)) (mm_mad s 64 i))
  · intro n i _ hi _ hw
    refine pk_le 8 i (fun z => absurd z (by omega)) (fun _ => nm_r (mm_mad s 8 i) (mm_pf (s * 8 + i) (by omega) (mm_flS _ _) (mm_pf (s * 8 + i) (by omega) (mm_z _) (mm_pf (s * 8 + i) (by omega) (mm_z _) (mm_pf (s * 8 + i) (by omega) (mm_flS (-24) (s * 8 + i)) ?_)))))
    refine mm_pair (mm_pf (s + 8 * i) (by omega) (mm_z _) (mm_pf (s + 8 * i) (by omega) (mm_z _) (mm_pf (s + 8 * i) (by omega) (mm_z _) (mm_pair (mm_pf (i + 8 * s) (by omega) (mm_z _) (mm_pf (i + 8 * s) (by omega) (mm_z _) (nm_r (nI_1 i) (hw () trivial))))))))
theorem mm_i320 {post : St2 → Prop} {mc ms kc ks : Nat}
    (H : post (0, 0, 0, 0, 0, 0, fun _ => 0, fun _ => 0, fun _ => 0, fun _ => 0, fun _ => 0, fun _ => 0, fun _ => 0, fun _ => 0, fun _ => 0, fun _ => 0, mm_fl 1 8, fun _ => 0, mm_fl (-1) 64, fun _ => 0, fun _ => 0, mm_fl (-24) 64, mm_fl (-1) 512, fun _ => 0, fun _ => 0, fun _ => 0, fun _ => 0, fun _ => 0, fun _ => 0, fun _ => 0, fun _ => 0, fun _ => 0, fun _ => 0, fun _ => 0, fun _ => 0, fun _ => 0, fun _ => 0, fun _ => 0, fun _ => 0, fun _ => 0, fun _ => 0, fun _ => 0, fun _ => 0, fun _ => 0)) : ∃ n, wX_init_320 post mc ms kc ks n 0 0 0 0 0 0 0 (fun _ => 0) (fun _ => 0) (fun _ => 0) (fun _ => 0) (fun _ => 0) (fun _ => 0) (fun _ => 0) (fun _ => 0) (fun _ => 0) (fun _ => 0) (fun _ => 0) (fun _ => 0) (fun _ => 0) (fun _ => 0) (fun _ => 0) (fun _ => 0) (fun _ => 0) (fun _ => 0) (fun _ => 0) (fun _ => 0) (fun _ => 0) (fun _ => 0) (fun _ => 0) (fun _ => 0) (fun _ => 0) (fun _ => 0) (fun _ => 0) (fun _ => 0) (fun _ => 0) (fun _ => 0) (fun _ => 0) (fun _ => 0) (fun _ => 0) (fun _ => 0) (fun _ => 0) (fun _ => 0) (fun _ => 0) (fun _ => 0) := by
  have key : ∃ n, wX_init_320 post mc ms kc ks n (nI 0) 0 0 0 0 0 0 (fun _ => 0) (fun _ => 0) (fun _ => 0) (fun _ => 0) (fun _ => 0) (fun _ => 0) (fun _ => 0) (fun _ => 0) (fun _ => 0) (fun _ => 0) (mm_fl 1 0) (fun _ => 0) (mm_fl (-1) 0) (fun _ => 0) (fun _ => 0) (mm_fl (-24) 0) (mm_fl (-1) 0) (fun _ => 0) (fun _ => 0) (fun _ => 0) (fun _ => 0) (fun _ => 0) (fun _ => 0) (fun _ => 0) (fun _ => 0) (fun _ => 0) (fun _ => 0) (fun _ => 0) (fun _ => 0) (fun _ => 0) (fun _ => 0) (fun _ => 0) (fun _ => 0) (fun _ => 0) (fun _ => 0) (fun _ => 0) (fun _ => 0) (fun _ => 0) := by
    refine pk_loop (σ := Unit) (fun n i _ => wX_init_320 post mc ms kc ks n (nI i) 0 0 0 0 0 0 (fun _ => 0) (fun _ => 0) (fun _ => 0) (fun _ => 0) (fun _ => 0) (fun _ => 0) (fun _ => 0) (fun _ => 0) (fun _ => 0) (fun _ => 0) (mm_fl 1 i) (fun _ => 0) (mm_fl (-1) (i * 8)) (fun _ => 0) (fun _ => 0) (mm_fl (-24) (i * 8)) (mm_fl (-1) (i * 64)) (fun _ => 0) (fun _ => 0) (fun _ => 0) (fun _ => 0) (fun _ => 0) (fun _ => 0) (fun _ => 0) (fun _ => 0) (fun _ => 0) (fun _ => 0) (fun _ => 0) (fun _ => 0) (fun _ => 0) (fun _ => 0) (fun _ => 0) (fun _ => 0) (fun _ => 0) (fun _ => 0) (fun _ => 0) (fun _ => 0) (fun _ => 0)) (fun _ _ => True) 8 0 () (by omega) trivial ?_ ?_
    · exact fun n _ _ => pk_le 8 8 (fun _ => H) (fun z => absurd z (by omega))
    · intro n i _ hi _ hw
      have e := hw () trivial
      rw [show (i + 1) * 8 = i * 8 + 8 by omega, show (i + 1) * 64 = i * 64 + 64 by omega] at e
      exact pk_le 8 i (fun z => absurd z (by omega)) (fun _ => mm_pf i hi (mm_flS 1 i) (mm_clear hi (nm_r (nI_1 i) e)))
  rw [mm_fl0, mm_fl0, mm_fl0] at key
  exact key
theorem mm_init {post : St2 → Prop} (H : post (0, 0, 0, 0, 0, 0, fun _ => 0, fun _ => 0, fun _ => 0, fun _ => 0, fun _ => 0, fun _ => 0, fun _ => 0, fun _ => 0, fun _ => 0, fun _ => 0, mm_fl 1 8, fun _ => 0, mm_fl (-1) 64, fun _ => 0, fun _ => 0, mm_fl (-24) 64, mm_fl (-1) 512, fun _ => 0, fun _ => 0, fun _ => 0, fun _ => 0, fun _ => 0, fun _ => 0, fun _ => 0, fun _ => 0, fun _ => 0, fun _ => 0, fun _ => 0, fun _ => 0, fun _ => 0, fun _ => 0, fun _ => 0, fun _ => 0, fun _ => 0, fun _ => 0, fun _ => 0, fun _ => 0, fun _ => 0)) : wpX_init post 38 19144 (0, 0, 0, 0, 0, 0) :=
  ⟨by decide, by decide, by decide, by decide, by decide, by decide, by decide, by decide, by decide, by decide, by decide, by decide, by decide, by decide, by decide, by decide, by decide, by decide, by decide, by decide, by decide, by decide, by decide, by decide, by decide, by decide, by decide, by decide, by decide, by decide, by decide, by decide, by decide, by decide, by decide, by decide, by decide, by decide, by decide, by decide, by decide, by decide, by decide, by decide, by decide, by decide, by decide, by decide, by decide, by decide, by decide, by decide, by decide, by decide, by decide, by decide, by decide, by decide, by decide, by decide, by decide, by decide, by decide, by decide, by decide, by decide, by decide, by decide, by decide, by decide, by decide, by decide, by decide, by decide, by decide, by decide, mm_i320 H⟩
theorem mm_write {post : Int32 → St2 → Prop} {f1 f2 f3 f4 f5 : Int32} {a1 a2 a3 a4 a5 a6 a7 a8 a9 a10 a11 a12 a13 a14 a15 a16 a17 a18 a19 a20 a21 a22 a23 a24 a25 a26 a27 a28 a29 a30 a31 a32 a33 a34 a35 a36 a37 a38 : Nat → Int32} {b : Int32} (H : ∀ (len : Nat) (r : Int32) (c : Nat → Int32), len ≤ 1 → ((¬ b < 0 ∧ ¬ 255 < b) → len = 1 ∧ r = 1 ∧ c 0 = b) → (¬ (¬ b < 0 ∧ ¬ 255 < b) → len = 0 ∧ r = -1) → post r (nI len, f1, f2, f3, f4, f5, a1, c, a3, a4, a5, a6, a7, a8, a9, a10, a11, a12, a13, a14, a15, a16, a17, a18, a19, a20, a21, a22, a23, a24, a25, a26, a27, a28, a29, a30, a31, a32, a33, a34, a35, a36, a37, a38)) : wpX_write post (0, f1, f2, f3, f4, f5, a1, a2, a3, a4, a5, a6, a7, a8, a9, a10, a11, a12, a13, a14, a15, a16, a17, a18, a19, a20, a21, a22, a23, a24, a25, a26, a27, a28, a29, a30, a31, a32, a33, a34, a35, a36, a37, a38) b := by
  have hN : ¬ (¬ b < 0 ∧ ¬ 255 < b) → post (-1) (nI 0, f1, f2, f3, f4, f5, a1, a2, a3, a4, a5, a6, a7, a8, a9, a10, a11, a12, a13, a14, a15, a16, a17, a18, a19, a20, a21, a22, a23, a24, a25, a26, a27, a28, a29, a30, a31, a32, a33, a34, a35, a36, a37, a38) := fun h => H 0 (-1) a2 (by omega) (fun z => absurd z h) (fun _ => ⟨rfl, rfl⟩)
  refine br_c (fun h => hN (fun z => z.1 h)) (fun h => br_c (fun h2 => br_t (by decide) (mm_put 0 (by decide) (nm_r (e' := 1) (by decide) ?_))) (fun h2 => hN (fun z => h2 (Int32.not_lt.mp z.2))))
  exact H 1 1 _ (by omega) (fun _ => ⟨rfl, rfl, pk_us⟩) (fun z => absurd ⟨h, Int32.not_lt.mpr h2⟩ z)
theorem mm_stc {Q : Int32 → Prop} {u : St0} {x : Int32} (h0 : x < 0 ∨ 8 ≤ x → Q 0) (h1 : ¬ x < 0 → ¬ 8 ≤ x → Q 1) : wpX_isStation Q u x :=
  br_c (fun h => h0 (Or.inl h)) (fun h => br_c (fun h2 => h0 (Or.inr h2)) (fun h2 => h1 h h2))
theorem mm_postN {post : Int32 → St2 → Prop} {f0 f1 f2 f3 f4 f5 : Int32} {a1 a2 a3 a4 a5 a6 a7 a8 a9 a10 a11 a12 a13 a14 a15 a16 a17 a18 a19 a20 a21 a22 a23 a24 a25 a26 a27 a28 a29 a30 a31 a32 a33 a34 a35 a36 a37 a38 : Nat → Int32} {x y : Int32} (h : ¬ x < 0 → ¬ 8 ≤ x → ¬ y < 0 → ¬ 8 ≤ y → x = y) (H : post (-1) (f0, f1, f2, f3, f4, f5, a1, a2, a3, a4, a5, a6, a7, a8, a9, a10, a11, a12, a13, a14, a15, a16, a17, a18, a19, a20, a21, a22, a23, a24, a25, a26, a27, a28, a29, a30, a31, a32, a33, a34, a35, a36, a37, a38)) : wpX_post post (f0, f1, f2, f3, f4, f5, a1, a2, a3, a4, a5, a6, a7, a8, a9, a10, a11, a12, a13, a14, a15, a16, a17, a18, a19, a20, a21, a22, a23, a24, a25, a26, a27, a28, a29, a30, a31, a32, a33, a34, a35, a36, a37, a38) x y := by
  unfold wpX_post
  exact mm_stc (fun _ => br_t rfl H) (fun h1 h2 => br_f (by decide) (mm_stc (fun _ => br_t rfl H) (fun h3 h4 => br_f (by decide) (br_t (h h1 h2 h3 h4) H))))
theorem mm_linkN {post : Int32 → St2 → Prop} {f0 f1 f2 f3 f4 f5 : Int32} {a1 a2 a3 a4 a5 a6 a7 a8 a9 a10 a11 a12 a13 a14 a15 a16 a17 a18 a19 a20 a21 a22 a23 a24 a25 a26 a27 a28 a29 a30 a31 a32 a33 a34 a35 a36 a37 a38 : Nat → Int32} {x y z : Int32} (h : ¬ x < 0 → ¬ 8 ≤ x → ¬ y < 0 → ¬ 8 ≤ y → x = y) (H : post 0 (f0, f1, f2, f3, f4, f5, a1, a2, a3, a4, a5, a6, a7, a8, a9, a10, a11, a12, a13, a14, a15, a16, a17, a18, a19, a20, a21, a22, a23, a24, a25, a26, a27, a28, a29, a30, a31, a32, a33, a34, a35, a36, a37, a38)) : wpX_link post (f0, f1, f2, f3, f4, f5, a1, a2, a3, a4, a5, a6, a7, a8, a9, a10, a11, a12, a13, a14, a15, a16, a17, a18, a19, a20, a21, a22, a23, a24, a25, a26, a27, a28, a29, a30, a31, a32, a33, a34, a35, a36, a37, a38) x y z := by
  unfold wpX_link
  exact mm_stc (fun _ => br_t rfl H) (fun h1 h2 => br_f (by decide) (mm_stc (fun _ => br_t rfl H) (fun h3 h4 => br_f (by decide) (br_t (h h1 h2 h3 h4) H))))
theorem mm_link {post : Int32 → St2 → Prop} {f0 f1 f2 f3 f4 f5 : Int32} {a2 a3 a4 a5 a6 a7 a8 a9 a10 a11 a12 a13 a14 a15 a16 a17 a18 a19 a20 a21 a22 a23 a24 a25 a26 a27 a28 a29 a30 a31 a32 a33 a34 a35 a36 a37 a38 : Nat → Int32} {p q : Nat} (hp : p < 8) (hq : q < 8) (hn : p ≠ q) (H : post 1 (f0, f1, f2, f3, f4, f5, mm_lk p q, a2, a3, a4, a5, a6, a7, a8, a9, a10, a11, a12, a13, a14, a15, a16, a17, a18, a19, a20, a21, a22, a23, a24, a25, a26, a27, a28, a29, a30, a31, a32, a33, a34, a35, a36, a37, a38)) : wpX_link post (f0, f1, f2, f3, f4, f5, fun _ => 0, a2, a3, a4, a5, a6, a7, a8, a9, a10, a11, a12, a13, a14, a15, a16, a17, a18, a19, a20, a21, a22, a23, a24, a25, a26, a27, a28, a29, a30, a31, a32, a33, a34, a35, a36, a37, a38) (nI p) (nI q) 1 := by
  unfold wpX_link
  refine mm_stn hp (br_f (by decide) (mm_stn hq (br_f (by decide) (br_f (fun z => hn ((nI_eq (by omega) (by omega)).mp z)) (br_f (by decide) ⟨pk_in p 8 hp, mm_put p hp (br_f (by decide) ⟨pk_in q 8 hq, mm_pf q hq ?_ H⟩)⟩)))))
  rw [nI_clamp (show p < 2 ^ 31 by omega), nI_clamp (show q < 2 ^ 31 by omega)]
  rfl
theorem mm_post {post : Int32 → St2 → Prop} {f4 f5 : Int32} {a1 a2 a3 a4 a5 a6 a7 a8 a9 a10 a11 a12 a13 a14 a15 a16 a17 a18 a19 a20 a21 a22 a23 a24 a25 a26 a27 a28 a29 a30 a31 a32 a33 a34 a35 a36 a37 a38 : Nat → Int32} {s g len : Nat} (hs : s < 8) (hg : g < 8) (hn : s ≠ g) (hl : len ≤ 1)
    (H : ∀ c3 c7 : Nat → Int32, (len = 1 → c7 0 = (a2 0).toInt8.toInt32) → post 1 (0, 1, 0, 1, f4, f5, a1, a2, c3, upd a4 0 (nI s), upd a5 0 (nI g), upd a6 0 (nI len), c7, a8, a9, a10, a11, a12, a13, a14, a15, a16, a17, a18, a19, a20, a21, a22, a23, a24, a25, a26, a27, a28, a29, a30, a31, a32, a33, a34, a35, a36, a37, a38)) : wpX_post post (nI len, 0, 0, 0, f4, f5, a1, a2, a3, a4, a5, a6, a7, a8, a9, a10, a11, a12, a13, a14, a15, a16, a17, a18, a19, a20, a21, a22, a23, a24, a25, a26, a27, a28, a29, a30, a31, a32, a33, a34, a35, a36, a37, a38) (nI s) (nI g) := by
  unfold wpX_post
  refine mm_stn hs (br_f (by decide) (mm_stn hg (br_f (by decide) (br_f (fun z => hn ((nI_eq (by omega) (by omega)).mp z)) ⟨0 + 1, br_f (by decide) (mm_has0 (m := 0) (by decide) (br_t rfl (br_f (by decide) ?_)))⟩))))
  refine nm_r (e' := 1) (by decide) (nm_r (e' := 0) (by decide) (mm_put 0 (by decide) (nm_r (e' := 1) (by decide) (mm_pv 0 (nI s) (by decide) (mm_b8 s (by omega)) (mm_pv 0 (nI g) (by decide) (mm_b8 g (by omega)) (mm_pv 0 (nI len) (by decide) (mm_b8 len (by omega)) ?_))))))
  have hc : len = 0 ∨ len = 1 := by omega
  rcases hc with e | e
  · subst e
    exact ⟨0 + 1, br_t (by decide) (mm_msg (H _ _ (fun z => absurd z (by decide))))⟩
  · subst e
    exact ⟨0 + 1 + 1, br_f (by decide) ⟨pk_in 0 8 (by decide), mm_pv 0 ((a2 0).toInt8.toInt32) (by decide) rfl (nm_e (br_t (by decide) (mm_msg (H _ _ (fun _ => pk_us)))))⟩⟩
theorem mm_dOff {post : Int32 → Prop} {f0 f1 f2 f3 f4 f5 : Int32} {a2 a3 a4 a5 a6 a7 a8 a9 a10 a11 a12 a13 a14 a15 a16 a17 a18 a19 a20 a21 a22 a23 a24 a25 a26 a27 a28 a29 a30 a31 a32 a33 a34 a35 a36 a37 a38 : Nat → Int32} {x y : Int32} (h : ¬ x < 0 → ¬ 8 ≤ x → ¬ y < 0 → ¬ 8 ≤ y → x = y) (H0 : ¬ x < 0 → ¬ 8 ≤ x → x = y → post 0) (HN : ¬ (¬ x < 0 ∧ ¬ 8 ≤ x ∧ x = y) → post (-1)) : wpX_distance post (f0, f1, f2, f3, f4, f5, fun _ => 0, a2, a3, a4, a5, a6, a7, a8, a9, a10, a11, a12, a13, a14, a15, a16, a17, a18, a19, a20, a21, a22, a23, a24, a25, a26, a27, a28, a29, a30, a31, a32, a33, a34, a35, a36, a37, a38) x y := by
  by_cases hc : ¬ x < 0 ∧ ¬ 8 ≤ x ∧ x = y
  · obtain ⟨h1, h2, h3⟩ := hc
    subst h3
    obtain ⟨j, hj, e⟩ := nI_of h1
    subst e
    have hj8 : j < 8 := by
      rcases Nat.lt_or_ge j 8 with z | z
      · exact z
      · exact absurd (nI_le z hj) h2
    exact mm_dist0 hj8 (H0 h1 h2 rfl)
  · unfold wpX_distance
    exact mm_stc (fun _ => br_t rfl (HN hc)) (fun h1 h2 => br_f (by decide) (mm_stc (fun _ => br_t rfl (HN hc)) (fun h3 h4 => absurd ⟨h1, h2, h h1 h2 h3 h4⟩ hc)))
/-- isAt, find, byteAt -/
theorem mm_atZ {post : Int32 → Prop} {f0 f2 f3 f4 f5 : Int32} {a1 a2 a3 a4 a5 a6 a7 a8 a9 a10 a11 a12 a13 a14 a15 a16 a17 a18 a19 a20 a21 a22 a23 a24 a25 a26 a27 a28 a29 a30 a31 a32 a33 a34 a35 a36 a37 a38 : Nat → Int32} {m : Nat} {x y : Int32} (hm : m < 16) (hp : post 0) : wpX_isAt post (f0, 0, f2, f3, f4, f5, a1, a2, a3, a4, a5, a6, a7, a8, a9, a10, a11, a12, a13, a14, a15, a16, a17, a18, a19, a20, a21, a22, a23, a24, a25, a26, a27, a28, a29, a30, a31, a32, a33, a34, a35, a36, a37, a38) (nI m) x y := by
  unfold wpX_isAt
  exact mm_has0 hm (br_t rfl hp)
theorem mm_atM {post : Int32 → Prop} {f0 f2 f3 f4 f5 : Int32} {a1 a2 a3 a4 a5 a6 a7 a8 a9 a10 a11 a12 a13 a14 a15 a16 a17 a18 a19 a20 a21 a22 a23 a24 a25 a26 a27 a28 a29 a30 a31 a32 a33 a34 a35 a36 a37 a38 : Nat → Int32} {m : Nat} {x y : Int32} (hm : m < 16) (h0 : 0 < m) (hp : post 0) : wpX_isAt post (f0, 1, f2, f3, f4, f5, a1, a2, a3, a4, a5, a6, a7, a8, a9, a10, a11, a12, a13, a14, a15, a16, a17, a18, a19, a20, a21, a22, a23, a24, a25, a26, a27, a28, a29, a30, a31, a32, a33, a34, a35, a36, a37, a38) (nI m) x y := by
  unfold wpX_isAt
  exact mm_has1 hm h0 (br_t rfl hp)
theorem mm_atN {post : Int32 → Prop} {f0 f3 f4 f5 : Int32} {a1 a2 a3 a4 a5 a6 a7 a8 a9 a10 a11 a12 a13 a14 a15 a16 a17 a18 a19 a20 a21 a22 a23 a24 a25 a26 a27 a28 a29 a30 a31 a32 a33 a34 a35 a36 a37 a38 : Nat → Int32} {m : Nat} {x y : Int32} (hm : m < 16) (hp : post 0) : wpX_isAt post (f0, 1, 0, f3, f4, f5, a1, a2, a3, a4, a5, a6, a7, a8, a9, a10, a11, a12, a13, a14, a15, a16, a17, a18, a19, a20, a21, a22, a23, a24, a25, a26, a27, a28, a29, a30, a31, a32, a33, a34, a35, a36, a37, a38) (nI m) x y := by
  rcases Nat.eq_zero_or_pos m with e | e
  · subst e
    unfold wpX_isAt
    exact mm_has10 (br_f (by decide) (mm_the0 (m := 0) (by decide) (br_t rfl hp)))
  · exact mm_atM hm e hp
theorem mm_at1 {post : Int32 → Prop} {f0 f3 f4 f5 : Int32} {a1 a2 a3 a4 a5 a6 a7 a8 a9 a10 a11 a12 a13 a14 a15 a16 a17 a18 a19 a20 a21 a22 a23 a24 a25 a26 a27 a28 a29 a30 a31 a32 a33 a34 a35 a36 a37 a38 : Nat → Int32} {x y : Int32} (h4 : a4 0 = x) (h5 : a5 0 = y) (hp : post 1) : wpX_isAt post (f0, 1, 1, f3, f4, f5, a1, a2, a3, a4, a5, a6, a7, a8, a9, a10, a11, a12, a13, a14, a15, a16, a17, a18, a19, a20, a21, a22, a23, a24, a25, a26, a27, a28, a29, a30, a31, a32, a33, a34, a35, a36, a37, a38) 0 x y := by
  unfold wpX_isAt
  exact mm_has10 (br_f (by decide) (mm_the10 (br_f (by decide) ⟨pk_in 0 16 (by decide), br_t h4 ⟨pk_in 0 16 (by decide), br_t h5 hp⟩⟩)))
theorem mm_findN {post : Int32 → Prop} {f0 f1 f2 f3 f4 f5 : Int32} {a1 a2 a3 a4 a5 a6 a7 a8 a9 a10 a11 a12 a13 a14 a15 a16 a17 a18 a19 a20 a21 a22 a23 a24 a25 a26 a27 a28 a29 a30 a31 a32 a33 a34 a35 a36 a37 a38 : Nat → Int32} {x y z : Int32} (h : ∀ m, m < 16 → ∀ Q : Int32 → Prop, Q 0 → wpX_isAt Q (f0, f1, f2, f3, f4, f5, a1, a2, a3, a4, a5, a6, a7, a8, a9, a10, a11, a12, a13, a14, a15, a16, a17, a18, a19, a20, a21, a22, a23, a24, a25, a26, a27, a28, a29, a30, a31, a32, a33, a34, a35, a36, a37, a38) (nI m) x y) (hp : post (-1)) : wpX_find post (f0, f1, f2, f3, f4, f5, a1, a2, a3, a4, a5, a6, a7, a8, a9, a10, a11, a12, a13, a14, a15, a16, a17, a18, a19, a20, a21, a22, a23, a24, a25, a26, a27, a28, a29, a30, a31, a32, a33, a34, a35, a36, a37, a38) x y z :=
  pk_loop (σ := Unit) (fun n i _ => wX_find_3 post x y z f0 f1 f2 f3 f4 f5 a1 a2 a3 a4 a5 a6 a7 a8 a9 a10 a11 a12 a13 a14 a15 a16 a17 a18 a19 a20 a21 a22 a23 a24 a25 a26 a27 a28 a29 a30 a31 a32 a33 a34 a35 a36 a37 a38 n (nI i)) (fun _ _ => True) 16 0 () (by omega) trivial
    (fun n _ _ => pk_le 16 16 (fun _ => hp) (fun z => absurd z (by omega)))
    (fun n i _ hi _ hw => pk_le 16 i (fun z => absurd z (by omega)) (fun _ => h i hi _ (br_t rfl (nm_r (nI_1 i) (hw () trivial)))))
theorem mm_find0 {post : Int32 → Prop} {f0 f3 f4 f5 : Int32} {a1 a2 a3 a4 a5 a6 a7 a8 a9 a10 a11 a12 a13 a14 a15 a16 a17 a18 a19 a20 a21 a22 a23 a24 a25 a26 a27 a28 a29 a30 a31 a32 a33 a34 a35 a36 a37 a38 : Nat → Int32} {x y : Int32} (h4 : a4 0 = x) (h5 : a5 0 = y) (hp : post 0) : wpX_find post (f0, 1, 1, f3, f4, f5, a1, a2, a3, a4, a5, a6, a7, a8, a9, a10, a11, a12, a13, a14, a15, a16, a17, a18, a19, a20, a21, a22, a23, a24, a25, a26, a27, a28, a29, a30, a31, a32, a33, a34, a35, a36, a37, a38) x y 0 := by
  refine ⟨0 + 1, br_f (by decide) (mm_at1 h4 h5 (br_f (by decide) ?_))⟩
  refine Exists.elim (pk_loop (fun n i s => wX_find_27 post (wX_find_3 post x y 0 f0 1 1 f3 f4 f5 a1 a2 a3 a4 a5 a6 a7 a8 a9 a10 a11 a12 a13 a14 a15 a16 a17 a18 a19 a20 a21 a22 a23 a24 a25 a26 a27 a28 a29 a30 a31 a32 a33 a34 a35 a36 a37 a38 0) x y 0 0 f0 1 1 f3 f4 f5 a1 a2 a3 a4 a5 a6 a7 a8 a9 a10 a11 a12 a13 a14 a15 a16 a17 a18 a19 a20 a21 a22 a23 a24 a25 a26 a27 a28 a29 a30 a31 a32 a33 a34 a35 a36 a37 a38 n s (nI i)) (fun i s => 0 < i ∧ s = 0) 16 1 ((0 : Int32) + 0) (by omega) ⟨by omega, rfl⟩
    (fun n s h => pk_le 16 16 (fun _ => br_t h.2 hp) (fun z => absurd z (by omega)))
    (fun n i s hi h hw => pk_le 16 i (fun z => absurd z (by omega)) (fun _ => mm_atM hi h.1 (br_t rfl (nm_e (nm_r (nI_1 i) (hw _ ⟨by omega, by rw [h.2]; rfl⟩)))))))
    (fun n hn => ⟨n + 1, br_f (by decide) (mm_at1 h4 h5 (br_f (by decide) ⟨pk_in 0 16 (by decide), pk_in 0 16 (by decide), br_t (Int32.le_refl _) (nm_e (nm_e hn))⟩))⟩)
theorem mm_lo : ∀ x, x < 64 → nI x &&& 7 = nI (x % 8) := by decide +kernel
theorem mm_hi : ∀ x, x < 64 → nI x >>> ((3 : Int32) &&& 31) = nI (x / 8) := by decide +kernel
theorem mm_by26 {post : Int32 → Prop} {f0 f1 f2 f3 f4 f5 : Int32} {a1 a2 a3 a4 a5 a6 a7 a8 a9 a10 a11 a12 a13 a14 a15 a16 a17 a18 a19 a20 a21 a22 a23 a24 a25 a26 a27 a28 a29 a30 a31 a32 a33 a34 a35 a36 a37 a38 : Nat → Int32} {x : Int32} (hp : post (-1)) : wX_byteAt_26 post x (-1) f0 f1 f2 f3 f4 f5 a1 a2 a3 a4 a5 a6 a7 a8 a9 a10 a11 a12 a13 a14 a15 a16 a17 a18 a19 a20 a21 a22 a23 a24 a25 a26 a27 a28 a29 a30 a31 a32 a33 a34 a35 a36 a37 a38 := br_t (by decide) hp
theorem mm_byN {post : Int32 → Prop} {f0 f1 f2 f3 f4 f5 : Int32} {a1 a2 a3 a4 a5 a6 a7 a8 a9 a10 a11 a12 a13 a14 a15 a16 a17 a18 a19 a20 a21 a22 a23 a24 a25 a26 a27 a28 a29 a30 a31 a32 a33 a34 a35 a36 a37 a38 : Nat → Int32} {w x : Int32} (h : ∀ m, m < 16 → ∀ (x y : Int32) (Q : Int32 → Prop), Q 0 → wpX_isAt Q (f0, f1, f2, f3, f4, f5, a1, a2, a3, a4, a5, a6, a7, a8, a9, a10, a11, a12, a13, a14, a15, a16, a17, a18, a19, a20, a21, a22, a23, a24, a25, a26, a27, a28, a29, a30, a31, a32, a33, a34, a35, a36, a37, a38) (nI m) x y) (hp : post (-1)) : wpX_byteAt post (f0, f1, f2, f3, f4, f5, a1, a2, a3, a4, a5, a6, a7, a8, a9, a10, a11, a12, a13, a14, a15, a16, a17, a18, a19, a20, a21, a22, a23, a24, a25, a26, a27, a28, a29, a30, a31, a32, a33, a34, a35, a36, a37, a38) w 0 x :=
  br_c (fun _ => mm_by26 hp) (fun _ => br_c (fun _ => mm_findN (fun m hm Q hQ => h m hm _ _ Q hQ) (mm_by26 hp)) (fun _ => mm_by26 hp))
theorem mm_byF {post : Int32 → Prop} {f0 f3 f4 f5 : Int32} {a1 a2 a3 a4 a5 a6 a7 a8 a9 a10 a11 a12 a13 a14 a15 a16 a17 a18 a19 a20 a21 a22 a23 a24 a25 a26 a27 a28 a29 a30 a31 a32 a33 a34 a35 a36 a37 a38 : Nat → Int32} {s g len : Nat} {x : Int32} (hs : s < 8) (hg : g < 8) (hl : len ≤ 1) (h4 : a4 0 = nI s) (h5 : a5 0 = nI g) (h6 : a6 0 = nI len)
    (H1 : x = 0 → len = 1 → post (a8 0 &&& 255)) (HN : ¬ (x = 0 ∧ len = 1) → post (-1)) : wpX_byteAt post (f0, 1, 1, f3, f4, f5, a1, a2, a3, a4, a5, a6, a7, a8, a9, a10, a11, a12, a13, a14, a15, a16, a17, a18, a19, a20, a21, a22, a23, a24, a25, a26, a27, a28, a29, a30, a31, a32, a33, a34, a35, a36, a37, a38) (nI s + 8 * nI g) 0 x := by
  rw [mm_pr]
  refine br_f (nI_pos (by omega)) (br_t (nI_lt (b := 64) (by omega) (by decide)) ?_)
  rw [mm_lo _ (by omega), mm_hi _ (by omega), show (s + 8 * g) % 8 = s by omega, show (s + 8 * g) / 8 = g by omega]
  refine mm_find0 h4 h5 (br_f (by decide) (br_c (fun h => HN (fun z => absurd h (by rw [z.1]; decide))) (fun h => ⟨pk_in 0 16 (by decide), ?_⟩)))
  obtain ⟨j, hj, e⟩ := nI_of h
  subst e
  rw [pk_cl (x := 0) 0, h6]
  refine pk_lt j len (fun z => ?_) (fun z => HN (fun t => ?_)) rfl rfl hj (by omega)
  · have ej : j = 0 := by omega
    subst ej
    exact ⟨pk_in 0 128 (by decide), H1 rfl (by omega)⟩
  · have ej : j = 0 := (nI_eq hj (by decide)).mp t.1
    omega
end
section
/-! the law's own checks -/
def mm_gd (b : Int32) : Prop := ¬ b < 0 ∧ ¬ 255 < b
def mm_in (x : Int32) : Prop := ¬ x < 0 ∧ ¬ 7 < x
def mm_two (x y : Int32) : Prop := mm_in x ∧ mm_in y ∧ ¬ x = y
def mm_go (s g p q : Int32) : Prop := mm_two s g ∧ mm_two p q ∧ ((s = p ∧ g = q) ∨ (s = q ∧ g = p))
def mm_fg (c : Prop) (x : Int32) : Prop := (c → x = 1) ∧ (¬ c → x = 0)
theorem mm_fg0 {c : Prop} {x : Int32} (h : mm_fg c x) (e : x = 0) : ¬ c := fun z => absurd ((h.1 z).symm.trans e) (by decide)
theorem mm_fg1 {c : Prop} {x : Int32} (h : mm_fg c x) (e : ¬ x = 0) : c := Classical.byContradiction (fun z => e (h.2 z))
theorem mm_fgT {c : Prop} (h : c) : mm_fg c 1 := ⟨fun _ => rfl, fun z => absurd h z⟩
theorem mm_fgF {c : Prop} (h : ¬ c) : mm_fg c 0 := ⟨fun z => absurd z h, fun _ => rfl⟩
/-- the six answers are as the law wants them -/
def mm_ok (b s g p q k x7 x8 x9 x10 x11 x12 : Int32) : Prop :=
  (mm_gd b → x7 = 1) ∧ (¬ mm_gd b → x7 = -1) ∧ (mm_two s g → x8 = 1) ∧ (¬ mm_two s g → x8 = -1) ∧ mm_fg (mm_two p q) x9 ∧ mm_fg (mm_go s g p q) x10
  ∧ (mm_two p q → x11 = 1) ∧ (mm_in p → p = q → x11 = 0) ∧ (¬ mm_two p q → ¬ (mm_in p ∧ p = q) → x11 = -1)
  ∧ (mm_go s g p q → mm_gd b → k = 0 → x12 = b) ∧ (mm_two s g → ¬ (mm_go s g p q ∧ mm_gd b ∧ k = 0) → x12 = -1)
theorem mm_t321 {post : Int32 → St0 → Prop} {mc ms kc ks : Nat} {b s g p q k x7 x8 x9 x10 x11 x12 x13 x18 x20 y z : Int32} (ok : mm_ok b s g p q k x7 x8 x9 x10 x11 x12)
    (e13 : mm_fg (mm_gd b) x13) (e18 : mm_fg (mm_two s g) x18) (e20 : mm_fg (mm_go s g p q) x20) (e : z = y) (H : post 1 ()) : wL_lawOf_321 post mc ms b k x12 x13 x18 x20 y z kc ks := by
  obtain ⟨_, _, _, _, _, _, _, _, _, y1, y0⟩ := ok
  refine br_t e (br_c (fun _ => H) (fun h18 => br_c (fun h20 => br_t (y0 (mm_fg1 e18 h18) (fun t => mm_fg0 e20 h20 t.1)) H) (fun h20 => br_c (fun h13 => br_t (y0 (mm_fg1 e18 h18) (fun t => mm_fg0 e13 h13 t.2.1)) H) (fun h13 => br_c (fun h5 => br_t (y1 (mm_fg1 e20 h20) (mm_fg1 e13 h13) h5) H) (fun h5 => br_t (y0 (mm_fg1 e18 h18) (fun t => h5 t.2.2)) H)))))
theorem mm_t291 {post : Int32 → St0 → Prop} {mc ms kc ks : Nat} {b s g p q k x7 x8 x9 x10 x11 x12 x13 x16 x18 x19 x20 y z : Int32} (ok : mm_ok b s g p q k x7 x8 x9 x10 x11 x12)
    (e13 : mm_fg (mm_gd b) x13) (e16 : mm_fg (mm_in p) x16) (e18 : mm_fg (mm_two s g) x18) (e19 : mm_fg (mm_two p q) x19) (e20 : mm_fg (mm_go s g p q) x20) (e : z = y) (H : post 1 ()) : wL_lawOf_291 post mc ms b p q k x11 x12 x13 x16 x18 x19 x20 y z kc ks := by
  have d1 := ok.2.2.2.2.2.2.1
  have d0 := ok.2.2.2.2.2.2.2.1
  have dN := ok.2.2.2.2.2.2.2.2.1
  refine br_t e (br_c (fun h19 => br_c (fun h16 => ?_) (fun h16 => br_c (fun hpq => ?_) (fun hpq => ?_))) (fun h19 => ?_))
  · exact mm_t321 ok e13 e18 e20 (dN (mm_fg0 e19 h19) (fun t => mm_fg0 e16 h16 t.1)) H
  · exact mm_t321 ok e13 e18 e20 (d0 (mm_fg1 e16 h16) hpq) H
  · exact mm_t321 ok e13 e18 e20 (dN (mm_fg0 e19 h19) (fun t => hpq t.2)) H
  · exact mm_t321 ok e13 e18 e20 (d1 (mm_fg1 e19 h19)) H
theorem mm_t269 {post : Int32 → St0 → Prop} {mc ms kc ks : Nat} {b s g p q k x7 x8 x9 x10 x11 x12 x13 x16 x18 x19 x20 y z : Int32} (ok : mm_ok b s g p q k x7 x8 x9 x10 x11 x12)
    (e13 : mm_fg (mm_gd b) x13) (e16 : mm_fg (mm_in p) x16) (e18 : mm_fg (mm_two s g) x18) (e19 : mm_fg (mm_two p q) x19) (e20 : mm_fg (mm_go s g p q) x20) (e : z = y) (H : post 1 ()) : wL_lawOf_269 post mc ms b p q k x9 x10 x11 x12 x13 x16 x18 x19 x20 y z kc ks := by
  have l9 := ok.2.2.2.2.1
  have l10 := ok.2.2.2.2.2.1
  have h9 : x9 = x19 := by
    by_cases c : mm_two p q
    · rw [l9.1 c, e19.1 c]
    · rw [l9.2 c, e19.2 c]
  refine br_t e (br_t h9 (br_c (fun h20 => ?_) (fun h20 => ?_)))
  · exact mm_t291 ok e13 e16 e18 e19 e20 (l10.2 (mm_fg0 e20 h20)) H
  · exact mm_t291 ok e13 e16 e18 e19 e20 (l10.1 (mm_fg1 e20 h20)) H
theorem mm_t240 {post : Int32 → St0 → Prop} {mc ms kc ks : Nat} {b s g p q k x7 x8 x9 x10 x11 x12 x13 x16 x18 x19 x20 : Int32} (ok : mm_ok b s g p q k x7 x8 x9 x10 x11 x12)
    (e13 : mm_fg (mm_gd b) x13) (e16 : mm_fg (mm_in p) x16) (e18 : mm_fg (mm_two s g) x18) (e19 : mm_fg (mm_two p q) x19) (e20 : mm_fg (mm_go s g p q) x20) (H : post 1 ()) : wL_lawOf_240 post mc ms b p q k x7 x8 x9 x10 x11 x12 x13 x16 x18 x19 x20 kc ks := by
  have w1 := ok.1
  have w0 := ok.2.1
  have p1 := ok.2.2.1
  have p0 := ok.2.2.2.1
  have nx : ∀ y, x7 = y → wL_lawOf_254 post mc ms b p q k x8 x9 x10 x11 x12 x13 x16 x18 x19 x20 y x7 kc ks := by
    intro y ey
    refine br_t ey (br_c (fun h18 => ?_) (fun h18 => ?_))
    · exact mm_t269 ok e13 e16 e18 e19 e20 (p0 (mm_fg0 e18 h18)) H
    · exact mm_t269 ok e13 e16 e18 e19 e20 (p1 (mm_fg1 e18 h18)) H
  exact br_c (fun h13 => nx _ (w0 (mm_fg0 e13 h13))) (fun h13 => nx _ (w1 (mm_fg1 e13 h13)))
theorem mm_t201 {post : Int32 → St0 → Prop} {mc ms kc ks : Nat} {b s g p q k x7 x8 x9 x10 x11 x12 x13 x16 x18 x19 : Int32} (ok : mm_ok b s g p q k x7 x8 x9 x10 x11 x12)
    (e13 : mm_fg (mm_gd b) x13) (e16 : mm_fg (mm_in p) x16) (e18 : mm_fg (mm_two s g) x18) (e19 : mm_fg (mm_two p q) x19) (H : post 1 ()) : wL_lawOf_201 post mc ms b s g p q k x7 x8 x9 x10 x11 x12 x13 x16 x18 x19 kc ks := by
  have N : ¬ mm_go s g p q → wL_lawOf_239 post mc ms b p q k x7 x8 x9 x10 x11 x12 x13 x16 x18 x19 kc ks := fun c => mm_t240 ok e13 e16 e18 e19 (mm_fgF c) H
  have Y : mm_go s g p q → wL_lawOf_235 post mc ms b p q k x7 x8 x9 x10 x11 x12 x13 x16 x18 x19 kc ks := fun c => mm_t240 ok e13 e16 e18 e19 (mm_fgT c) H
  refine br_c (fun h18 => N (fun t => mm_fg0 e18 h18 t.1)) (fun h18 => br_c (fun h19 => N (fun t => mm_fg0 e19 h19 t.2.1)) (fun h19 => ?_))
  have M : ¬ (s = p ∧ g = q) → wL_lawOf_224 post mc ms b s g p q k x7 x8 x9 x10 x11 x12 x13 x16 x18 x19 kc ks := by
    intro c
    exact br_c (fun h1 => br_c (fun h2 => Y ⟨mm_fg1 e18 h18, mm_fg1 e19 h19, Or.inr ⟨h1, h2⟩⟩) (fun h2 => N (fun t => t.2.2.elim c (fun u => h2 u.2)))) (fun h1 => N (fun t => t.2.2.elim c (fun u => h1 u.1)))
  exact br_c (fun h1 => br_c (fun h2 => Y ⟨mm_fg1 e18 h18, mm_fg1 e19 h19, Or.inl ⟨h1, h2⟩⟩) (fun h2 => M (fun t => h2 t.2))) (fun h1 => M (fun t => h1 t.1))
theorem mm_t178 {post : Int32 → St0 → Prop} {mc ms kc ks : Nat} {b s g p q k x7 x8 x9 x10 x11 x12 x13 x16 x17 x18 : Int32} (ok : mm_ok b s g p q k x7 x8 x9 x10 x11 x12)
    (e13 : mm_fg (mm_gd b) x13) (e16 : mm_fg (mm_in p) x16) (e17 : mm_fg (mm_in q) x17) (e18 : mm_fg (mm_two s g) x18) (H : post 1 ()) : wL_lawOf_178 post mc ms b s g p q k x7 x8 x9 x10 x11 x12 x13 x16 x17 x18 kc ks := by
  have N : ¬ mm_two p q → wL_lawOf_200 post mc ms b s g p q k x7 x8 x9 x10 x11 x12 x13 x16 x18 kc ks := fun c => mm_t201 ok e13 e16 e18 (mm_fgF c) H
  exact br_c (fun h16 => N (fun t => mm_fg0 e16 h16 t.1)) (fun h16 => br_c (fun h17 => N (fun t => mm_fg0 e17 h17 t.2.1)) (fun h17 => br_c (fun h => N (fun t => t.2.2 h)) (fun h => mm_t201 ok e13 e16 e18 (mm_fgT ⟨mm_fg1 e16 h16, mm_fg1 e17 h17, h⟩) H)))
theorem mm_t156 {post : Int32 → St0 → Prop} {mc ms kc ks : Nat} {b s g p q k x7 x8 x9 x10 x11 x12 x13 x14 x15 x16 x17 : Int32} (ok : mm_ok b s g p q k x7 x8 x9 x10 x11 x12)
    (e13 : mm_fg (mm_gd b) x13) (e14 : mm_fg (mm_in s) x14) (e15 : mm_fg (mm_in g) x15) (e16 : mm_fg (mm_in p) x16) (e17 : mm_fg (mm_in q) x17) (H : post 1 ()) : wL_lawOf_156 post mc ms b s g p q k x7 x8 x9 x10 x11 x12 x13 x14 x15 x16 x17 kc ks := by
  have N : ¬ mm_two s g → wL_lawOf_177 post mc ms b s g p q k x7 x8 x9 x10 x11 x12 x13 x16 x17 kc ks := fun c => mm_t178 ok e13 e16 e17 (mm_fgF c) H
  exact br_c (fun h14 => N (fun t => mm_fg0 e14 h14 t.1)) (fun h14 => br_c (fun h15 => N (fun t => mm_fg0 e15 h15 t.2.1)) (fun h15 => br_c (fun h => N (fun t => t.2.2 h)) (fun h => mm_t178 ok e13 e16 e17 (mm_fgT ⟨mm_fg1 e14 h14, mm_fg1 e15 h15, h⟩) H)))
theorem mm_t137 {post : Int32 → St0 → Prop} {mc ms kc ks : Nat} {b s g p q k x7 x8 x9 x10 x11 x12 x13 x14 x15 x16 : Int32} (ok : mm_ok b s g p q k x7 x8 x9 x10 x11 x12)
    (e13 : mm_fg (mm_gd b) x13) (e14 : mm_fg (mm_in s) x14) (e15 : mm_fg (mm_in g) x15) (e16 : mm_fg (mm_in p) x16) (H : post 1 ()) : wL_lawOf_137 post mc ms b s g p q k x7 x8 x9 x10 x11 x12 x13 x14 x15 x16 kc ks :=
  br_c (fun h => mm_t156 ok e13 e14 e15 e16 (mm_fgF (fun t => t.1 h)) H) (fun h => br_c (fun h2 => mm_t156 ok e13 e14 e15 e16 (mm_fgF (fun t => t.2 h2)) H) (fun h2 => mm_t156 ok e13 e14 e15 e16 (mm_fgT ⟨h, h2⟩) H))
theorem mm_t120 {post : Int32 → St0 → Prop} {mc ms kc ks : Nat} {b s g p q k x7 x8 x9 x10 x11 x12 x13 x14 x15 : Int32} (ok : mm_ok b s g p q k x7 x8 x9 x10 x11 x12)
    (e13 : mm_fg (mm_gd b) x13) (e14 : mm_fg (mm_in s) x14) (e15 : mm_fg (mm_in g) x15) (H : post 1 ()) : wL_lawOf_120 post mc ms b s g p q k x7 x8 x9 x10 x11 x12 x13 x14 x15 kc ks :=
  br_c (fun h => mm_t137 ok e13 e14 e15 (mm_fgF (fun t => t.1 h)) H) (fun h => br_c (fun h2 => mm_t137 ok e13 e14 e15 (mm_fgF (fun t => t.2 h2)) H) (fun h2 => mm_t137 ok e13 e14 e15 (mm_fgT ⟨h, h2⟩) H))
theorem mm_t103 {post : Int32 → St0 → Prop} {mc ms kc ks : Nat} {b s g p q k x7 x8 x9 x10 x11 x12 x13 x14 : Int32} (ok : mm_ok b s g p q k x7 x8 x9 x10 x11 x12)
    (e13 : mm_fg (mm_gd b) x13) (e14 : mm_fg (mm_in s) x14) (H : post 1 ()) : wL_lawOf_103 post mc ms b s g p q k x7 x8 x9 x10 x11 x12 x13 x14 kc ks :=
  br_c (fun h => mm_t120 ok e13 e14 (mm_fgF (fun t => t.1 h)) H) (fun h => br_c (fun h2 => mm_t120 ok e13 e14 (mm_fgF (fun t => t.2 h2)) H) (fun h2 => mm_t120 ok e13 e14 (mm_fgT ⟨h, h2⟩) H))
theorem mm_t86 {post : Int32 → St0 → Prop} {mc ms kc ks : Nat} {b s g p q k x7 x8 x9 x10 x11 x12 x13 : Int32} (ok : mm_ok b s g p q k x7 x8 x9 x10 x11 x12)
    (e13 : mm_fg (mm_gd b) x13) (H : post 1 ()) : wL_lawOf_86 post mc ms b s g p q k x7 x8 x9 x10 x11 x12 x13 kc ks :=
  br_c (fun h => mm_t103 ok e13 (mm_fgF (fun t => t.1 h)) H) (fun h => br_c (fun h2 => mm_t103 ok e13 (mm_fgF (fun t => t.2 h2)) H) (fun h2 => mm_t103 ok e13 (mm_fgT ⟨h, h2⟩) H))
theorem mm_t85 {post : Int32 → St0 → Prop} {mc ms kc ks : Nat} {b s g p q k x7 x8 x9 x10 x11 x12 : Int32} (ok : mm_ok b s g p q k x7 x8 x9 x10 x11 x12) (H : post 1 ()) :
    (b < 0 → wL_lawOf_85 post mc ms b s g p q k x7 x8 x9 x10 x11 x12 kc ks) ∧ (¬ b < 0 → ((255 < b → wL_lawOf_85 post mc ms b s g p q k x7 x8 x9 x10 x11 x12 kc ks) ∧ (¬ 255 < b → wL_lawOf_86 post mc ms b s g p q k x7 x8 x9 x10 x11 x12 1 kc ks))) :=
  br_c (fun h => mm_t86 ok (mm_fgF (fun t => t.1 h)) H) (fun h => br_c (fun h2 => mm_t86 ok (mm_fgF (fun t => t.2 h2)) H) (fun h2 => mm_t86 ok (mm_fgT ⟨h, h2⟩) H))
end
section
/-! the law -/
theorem mm_in8 {x : Int32} (h : mm_in x) : ∃ j : Nat, j < 8 ∧ x = nI j := by
  obtain ⟨j, hj, e⟩ := nI_of2 (M := 7) (n := 7) (by decide) h.1 (Int32.not_lt.mp h.2)
  exact ⟨j, by omega, e⟩
theorem mm_8in {x : Int32} (h1 : ¬ x < 0) (h2 : ¬ 8 ≤ x) : mm_in x := by
  obtain ⟨j, hj, e⟩ := nI_of h1
  subst e
  have hj8 : j < 8 := by
    rcases Nat.lt_or_ge j 8 with z | z
    · exact z
    · exact absurd (nI_le z hj) h2
  exact ⟨h1, nI_nlt (b := j) (a := 7) (by omega) (by decide)⟩
theorem mm_ge8 {x : Int32} (h : mm_in x) : ¬ 8 ≤ x := by
  obtain ⟨j, hj, e⟩ := mm_in8 h
  subst e
  exact nI_ge (b := 8) hj (by decide)
theorem mm_inn {j : Nat} (h : j < 8) : mm_in (nI j) := mm_8in (nI_pos (by omega)) (nI_ge (b := 8) h (by decide))
theorem mm_ntw {x y : Int32} (h : ¬ mm_two x y) : ¬ x < 0 → ¬ 8 ≤ x → ¬ y < 0 → ¬ 8 ≤ y → x = y := fun h1 h2 h3 h4 => Classical.byContradiction (fun z => h ⟨mm_8in h1 h2, mm_8in h3 h4, z⟩)
theorem mm_byte : ∀ t, t < 256 → ((((nI t).toInt8.toInt32 &&& 255).toInt8.toInt32).toInt8.toInt32) &&& 255 = nI t := by decide +kernel
theorem mm_bv {b : Int32} (h : mm_gd b) : (((b.toInt8.toInt32 &&& 255).toInt8.toInt32).toInt8.toInt32) &&& 255 = b := by
  obtain ⟨j, hj, e⟩ := nI_of2 (M := 255) (n := 255) (by decide) h.1 (Int32.not_lt.mp h.2)
  subst e
  exact mm_byte j (by omega)
theorem mm_cell {post : Int32 → Prop} {L : Nat} {xs : Nat → Int32} {u : St0} (m : Nat) (hL : L ≤ 6) (hm : m < 6) (H : ∀ x, post x) : wpL_cellAt post L xs u (nI m) :=
  pk_le L m (fun _ => H _) (fun z => ⟨pk_in m L z, H _⟩)
/-- distance and byteAt behind the settling, the law's check last -/
theorem mm_lawOf {post : Int32 → St0 → Prop} {b s g p q k : Int32} (H : post 1 ()) : wpL_lawOf post 39 19188 () b s g p q k := by
  refine ⟨by decide, by decide, 38, 19144, by decide, by decide, mm_init (mm_write (fun len x7 c2 hl wg wb => ?_))⟩
  by_cases sent : mm_two s g
  · obtain ⟨s', hs, es⟩ := mm_in8 sent.1
    obtain ⟨g', hg, eg⟩ := mm_in8 sent.2.1
    subst es
    subst eg
    have hn : s' ≠ g' := fun z => sent.2.2 (by rw [z])
    refine mm_post hs hg hn hl (fun c3 c7 e7 => ?_)
    by_cases on : mm_two p q
    · obtain ⟨p', hp, ep⟩ := mm_in8 on.1
      obtain ⟨q', hq, eq⟩ := mm_in8 on.2.1
      subst ep
      subst eq
      have hpq : p' ≠ q' := fun z => on.2.2 (by rw [z])
      refine mm_link hp hq hpq ?_
      by_cases he : mm_ends s' g' p' q'
      · have go : mm_go (nI s') (nI g') (nI p') (nI q') := ⟨sent, on, he.elim (fun t => Or.inl ⟨by rw [t.1], by rw [t.2]⟩) (fun t => Or.inr ⟨by rw [t.1], by rw [t.2]⟩)⟩
        refine mm_setG (b := b.toInt8.toInt32) hs hg hn he hl pk_us pk_us (fun c hc => ?_) ?_
        · refine ⟨rfl, rfl, rfl, rfl, rfl, pk_us, pk_us, pk_us, ?_, fun _ _ => rfl, fun _ _ => rfl, mm_flv hs, mm_flv hg, mm_flv (by omega), rfl, rfl, mm_flv (by omega), fun j hj => mm_flv (by omega), rfl, rfl, rfl, rfl, rfl, rfl, hc, fun _ _ => rfl⟩
          intro z
          by_cases c : mm_gd b
          · rw [e7 z, (wg c).2.2]
          · exact absurd ((wb c).1.symm.trans z) (by decide)
        · rintro ⟨f0, f1, f2, f3, f4, f5, a1, a2, a3, a4, a5, a6, a7, a8, a9, a10, a11, a12, a13, a14, a15, a16, a17, a18, a19, a20, a21, a22, a23, a24, a25, a26, a27, a28, a29, a30, a31, a32, a33, a34, a35, a36, a37, a38⟩ ⟨rfl, rfl, _, rfl, k4, k5, k6, k8, _⟩
          refine mm_dU hp hq hpq (Or.inl ⟨rfl, rfl⟩) (mm_byF hs hg hl k4 k5 k6 (fun ek el => mm_t85 ?_ H) (fun hk => mm_t85 ?_ H))
          · have c : mm_gd b := Classical.byContradiction (fun c => absurd ((wb c).1.symm.trans el) (by decide))
            refine ⟨fun c => (wg c).2.1, fun c => (wb c).2, fun _ => rfl, fun z => absurd sent z, mm_fgT on, mm_fgT go, fun _ => rfl, fun _ z => absurd z on.2.2, fun z => absurd on z, fun _ _ _ => ?_, fun _ z => absurd ⟨go, c, ek⟩ z⟩
            rw [k8 el]
            exact mm_bv c
          · exact ⟨fun c => (wg c).2.1, fun c => (wb c).2, fun _ => rfl, fun z => absurd sent z, mm_fgT on, mm_fgT go, fun _ => rfl, fun _ z => absurd z on.2.2, fun z => absurd on z, fun _ c ek => absurd ⟨ek, (wg c).1⟩ hk, fun _ _ => rfl⟩
      · have go : ¬ mm_go (nI s') (nI g') (nI p') (nI q') := by
          intro t
          refine he (t.2.2.elim (fun u => Or.inl ⟨?_, ?_⟩) (fun u => Or.inr ⟨?_, ?_⟩))
          · exact (nI_eq (by omega) (by omega)).mp u.1
          · exact (nI_eq (by omega) (by omega)).mp u.2
          · exact (nI_eq (by omega) (by omega)).mp u.1
          · exact (nI_eq (by omega) (by omega)).mp u.2
        refine mm_setN (fun c Q hQ => mm_rdyN (fun Q hQ => mm_con pk_us pk_us (mm_dD hs hg hn hp hq hpq he (br_t rfl hQ))) hQ) (fun c => ?_)
        refine mm_dU hp hq hpq (Or.inl ⟨rfl, rfl⟩) (mm_byN (fun m hm x y Q hQ => mm_atN hm hQ) (mm_t85 ?_ H))
        exact ⟨fun c => (wg c).2.1, fun c => (wb c).2, fun _ => rfl, fun z => absurd sent z, mm_fgT on, mm_fgF go, fun _ => rfl, fun _ z => absurd z on.2.2, fun z => absurd on z, fun z => absurd z go, fun _ _ => rfl⟩
    · have go : ¬ mm_go (nI s') (nI g') p q := fun t => on t.2.1
      refine mm_linkN (mm_ntw on) (mm_setN (fun c Q hQ => mm_rdyN (fun Q hQ => mm_con pk_us pk_us (mm_dZ hs hg hn (br_t rfl hQ))) hQ) (fun c => ?_))
      refine mm_dOff (mm_ntw on) (fun h1 h2 h3 => mm_byN (fun m hm x y Q hQ => mm_atN hm hQ) (mm_t85 ?_ H)) (fun hN => mm_byN (fun m hm x y Q hQ => mm_atN hm hQ) (mm_t85 ?_ H))
      · exact ⟨fun c => (wg c).2.1, fun c => (wb c).2, fun _ => rfl, fun z => absurd sent z, mm_fgF on, mm_fgF go, fun z => absurd z on, fun _ _ => rfl, fun _ z => absurd ⟨mm_8in h1 h2, h3⟩ z, fun z => absurd z go, fun _ _ => rfl⟩
      · exact ⟨fun c => (wg c).2.1, fun c => (wb c).2, fun _ => rfl, fun z => absurd sent z, mm_fgF on, mm_fgF go, fun z => absurd z on, fun z1 z2 => absurd ⟨z1.1, mm_ge8 z1, z2⟩ hN, fun _ _ => rfl, fun z => absurd z go, fun _ _ => rfl⟩
  · refine mm_postN (mm_ntw sent) ?_
    have go : ¬ mm_go s g p q := fun t => sent t.1
    by_cases on : mm_two p q
    · obtain ⟨p', hp, ep⟩ := mm_in8 on.1
      obtain ⟨q', hq, eq⟩ := mm_in8 on.2.1
      subst ep
      subst eq
      have hpq : p' ≠ q' := fun z => on.2.2 (by rw [z])
      refine mm_link hp hq hpq (mm_setN (fun c Q hQ => mm_rdy0 hQ) (fun c => ?_))
      refine mm_dU hp hq hpq (Or.inl ⟨rfl, rfl⟩) (mm_byN (fun m hm x y Q hQ => mm_atZ hm hQ) (mm_t85 ?_ H))
      exact ⟨fun c => (wg c).2.1, fun c => (wb c).2, fun z => absurd z sent, fun _ => rfl, mm_fgT on, mm_fgF go, fun _ => rfl, fun _ z => absurd z on.2.2, fun z => absurd on z, fun z => absurd z go, fun z => absurd z sent⟩
    · refine mm_linkN (mm_ntw on) (mm_setN (fun c Q hQ => mm_rdy0 hQ) (fun c => ?_))
      refine mm_dOff (mm_ntw on) (fun h1 h2 h3 => mm_byN (fun m hm x y Q hQ => mm_atZ hm hQ) (mm_t85 ?_ H)) (fun hN => mm_byN (fun m hm x y Q hQ => mm_atZ hm hQ) (mm_t85 ?_ H))
      · exact ⟨fun c => (wg c).2.1, fun c => (wb c).2, fun z => absurd z sent, fun _ => rfl, mm_fgF on, mm_fgF go, fun z => absurd z on, fun _ _ => rfl, fun _ z => absurd ⟨mm_8in h1 h2, h3⟩ z, fun z => absurd z go, fun z => absurd z sent⟩
      · exact ⟨fun c => (wg c).2.1, fun c => (wb c).2, fun z => absurd z sent, fun _ => rfl, mm_fgF on, mm_fgF go, fun z => absurd z on, fun z1 z2 => absurd ⟨z1.1, mm_ge8 z1, z2⟩ hN, fun _ _ => rfl, fun z => absurd z go, fun z => absurd z sent⟩
end
section
theorem i_vc (xs : Nat → Int32) (L : Nat) (hL : L ≤ 6) : wpL_law (fun r => r = 1) L xs :=
  mm_cell 0 hL (by decide) (fun _ => mm_cell 1 hL (by decide) (fun _ => mm_cell 2 hL (by decide) (fun _ => mm_cell 3 hL (by decide) (fun _ => mm_cell 4 hL (by decide) (fun _ => mm_cell 5 hL (by decide) (fun _ => ⟨39, 19188, by decide, by decide, mm_lawOf rfl⟩))))))
end
