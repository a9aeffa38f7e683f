section
/-- a fill in order -/
theorem sx_fill {f s : Nat → Int32} {i k : Nat} {x : Int32} (hk : k = i) (h : ∀ j, j < i → s j = f j) (hx : x = f i) : ∀ j, j < i + 1 → upd s k x j = f j := by
  intro j hj
  rw [hk]
  by_cases e : j = i
  · rw [e, pk_us, hx]
  · rw [pk_un e]
    exact h j (by omega)
theorem sx_b8 : ∀ n, n < 128 → (nI n).toInt8.toInt32 = nI n := by decide +kernel
theorem sx_s16 : ∀ n, n < 1024 → (nI n).toInt16.toInt32 = nI n := by decide +kernel
theorem sx_vb {n : Nat} (h : n < 128) : vp_nar .byte (nI n) = nI n := by rw [vp_nar_byte, sx_b8 n h]
theorem sx_vs {n : Nat} (h : n < 1024) : vp_nar .short (nI n) = nI n := by rw [vp_nar_short, sx_s16 n h]
/-- a word of a row whose first F bits are ones -/
def sx_w (F w : Nat) : Int32 := nI (2 ^ (min 32 (F - 32 * w)) - 1)
/-- the 21 rows: in row r the first f r bits are ones -/
def sx_R (a : Nat → Int32) (f : Nat → Nat) : Prop := ∀ r, r < 21 → ∀ w, w < 7 → a (r * 7 + w) = sx_w (f r) w
theorem sx_Rc {a : Nat → Int32} {f g : Nat → Nat} (h : sx_R a f) (e : ∀ r, r < 21 → g r = f r) : sx_R a g := by
  intro r hr w hw
  rw [e r hr]
  exact h r hr w hw
theorem sx_shr5 {i : Nat} (h : i < 2 ^ 31) : nI i >>> ((5 : Int32) &&& 31) = nI (i / 32) := pk_shrN h _ 5 (by decide)
theorem sx_shr3 {i : Nat} (h : i < 2 ^ 31) : nI i >>> ((3 : Int32) &&& 31) = nI (i / 8) := pk_shrN h _ 3 (by decide)
theorem sx_ix7 (r : Nat) {i : Nat} (h : i < 2 ^ 31) : nI r * 7 + (nI i >>> ((5 : Int32) &&& 31)) = nI (r * 7 + i / 32) := by
  rw [sx_shr5 h, show (7 : Int32) = nI 7 from rfl, pk_mul, nI_add]
theorem sx_ix8 (r : Nat) {i : Nat} (h : i < 2 ^ 31) : nI r * 8 + (nI i >>> ((5 : Int32) &&& 31)) = nI (r * 8 + i / 32) := by
  rw [sx_shr5 h, show (8 : Int32) = nI 8 from rfl, pk_mul, nI_add]
theorem sx_ix28 (r : Nat) {i : Nat} (h : i < 2 ^ 31) : nI r * 28 + (nI i >>> ((3 : Int32) &&& 31)) = nI (r * 28 + i / 8) := by
  rw [sx_shr3 h, show (28 : Int32) = nI 28 from rfl, pk_mul, nI_add]
theorem sx_ix13 (r : Nat) {i : Nat} (h : i < 2 ^ 31) : nI r * 13 + (nI i >>> ((5 : Int32) &&& 31)) = nI (r * 13 + i / 32) := by
  rw [sx_shr5 h, show (13 : Int32) = nI 13 from rfl, pk_mul, nI_add]
theorem sx_or1 : ∀ k, k < 32 → nI (2 ^ k - 1) ||| ((1 : Int32) <<< (nI k &&& 31)) = nI (2 ^ (k + 1) - 1) := by decide +kernel
theorem sx_and31 {i : Nat} (h : i < 2 ^ 31) : nI i &&& 31 = nI (i % 32) := pk_andN (by omega) 5 (by decide)
theorem sx_and7 {i : Nat} (h : i < 2 ^ 31) : nI i &&& 7 = nI (i % 8) := pk_andN (by omega) 3 (by decide)
theorem sx_wset {F w : Nat} (h : F / 32 = w) : sx_w F w ||| ((1 : Int32) <<< (nI (F % 32) &&& 31)) = sx_w (F + 1) w := by
  unfold sx_w
  rw [show min 32 (F - 32 * w) = F % 32 by omega, show min 32 (F + 1 - 32 * w) = F % 32 + 1 by omega]
  exact sx_or1 _ (by omega)
theorem sx_wne {F w : Nat} (h : F / 32 ≠ w) : sx_w (F + 1) w = sx_w F w := by
  unfold sx_w
  rw [show min 32 (F + 1 - 32 * w) = min 32 (F - 32 * w) by omega]
theorem sx_Rset {a : Nat → Int32} {f g : Nat → Nat} {r i : Nat} (hi : i < 224) (h : sx_R a f) (hf : f r = i) (hr : r < 21)
    (hg : ∀ q, q < 21 → g q = if q = r then i + 1 else f q) :
    sx_R (upd a (r * 7 + i / 32) (a (r * 7 + i / 32) ||| ((1 : Int32) <<< (nI (i % 32) &&& 31)))) g := by
  intro q hq w hw
  rw [hg q hq]
  by_cases e : q * 7 + w = r * 7 + i / 32
  · have e1 : q = r := by omega
    have e2 : i / 32 = w := by omega
    rw [e, pk_us, e2, h r hr w hw, hf, if_pos e1]
    exact sx_wset e2
  · rw [pk_un e, h q hq w hw]
    by_cases e1 : q = r
    · rw [if_pos e1, e1, hf, sx_wne]
      omega
    · rw [if_neg e1]
theorem sx_setBit {post : St2 → Prop} {fn fp fr fd fc : Int32} {a1 a2 a3 a4 a5 a6 a7 a8 a9 a10 a11 a12 a13 a14 a15 a16 a17 a18 a19 a20 a21 a22 a23 a24 a25 a26 a27 : Nat → Int32} {f g : Nat → Nat} {r i : Nat} {x y : Int32} (hx : x = nI r) (hy : y = nI i) (hr : r < 21) (hi : i < 224) (h : sx_R a5 f) (hf : f r = i)
    (hg : ∀ q, q < 21 → g q = if q = r then i + 1 else f q) (H : ∀ b, sx_R b g → post (fn, fp, fr, fd, fc, a1, a2, a3, a4, b, a6, a7, a8, a9, a10, a11, a12, a13, a14, a15, a16, a17, a18, a19, a20, a21, a22, a23, a24, a25, a26, a27)) : wpX_setBit post (fn, fp, fr, fd, fc, a1, a2, a3, a4, a5, a6, a7, a8, a9, a10, a11, a12, a13, a14, a15, a16, a17, a18, a19, a20, a21, a22, a23, a24, a25, a26, a27) x y := by
  subst hx hy
  unfold wpX_setBit
  dsimp only
  have hi' : i < 2 ^ 31 := by omega
  rw [sx_ix7 r hi', sx_and31 hi', nI_clamp (show r * 7 + i / 32 < 2 ^ 31 by omega)]
  exact ⟨vp_in_nI (by omega) (by decide), vp_in_nI (by omega) (by decide), nm_e (H _ (sx_Rset hi h hf hr hg))⟩
/-! onesIn over a byte of ones -/
theorem sx_oi1 : ∀ k, k < 9 → ∀ j, j < k → ¬ nI (2 ^ k - 2 ^ j) = 0 := by decide +kernel
theorem sx_oi2 : ∀ k, k < 9 → ∀ j, j < k → nI (2 ^ k - 2 ^ j) &&& (nI (2 ^ k - 2 ^ j) - 1) = nI (2 ^ k - 2 ^ (j + 1)) := by decide +kernel
theorem sx_onesIn {post : Int32 → Prop} {x : Int32} {k : Nat} (hx : x = nI (2 ^ k - 1)) (hk : k < 9) (H : post (nI k)) : wpX_onesIn post () x := by
  subst hx
  exact pk_loop (σ := Unit) (fun n j _ => wX_onesIn_4 post n (nI j) (nI (2 ^ k - 2 ^ j))) (fun _ _ => True) k 0 () (by omega) trivial
    (fun n _ _ => br_t (by rw [Nat.sub_self]; rfl) H)
    (fun n j _ hj _ hw => br_f (sx_oi1 k hk j hj) (nm_r (nI_1 j) (nm_r (sx_oi2 k hk j hj) (hw () trivial))))
/-! sums of a row -/
def sx_G6 (f : Nat → Nat) (j : Nat) : Int32 := nI (min (f (j / 8)) (32 * (j % 8)))
def sx_G7 (f : Nat → Nat) (j : Nat) : Int32 := nI (min (f (j / 28)) (8 * (j % 28)) - min (f (j / 28)) (32 * (j % 28 / 4)))
/-- rows and their sums -/
def sx_Q (f : Nat → Nat) (a5 a6 a7 : Nat → Int32) : Prop := sx_R a5 f ∧ (∀ j, j < 168 → a6 j = sx_G6 f j) ∧ (∀ j, j < 588 → a7 j = sx_G7 f j)
theorem sx_and24 : ∀ i, i < 224 → nI i &&& 24 = nI (8 * (i % 32 / 8)) := by decide +kernel
theorem sx_ob : ∀ m, m < 33 → ∀ q, q < 4 → ∀ e, e < 8 → (((nI (2 ^ m - 1)).toUInt32 >>> ((nI (8 * q)).toUInt32 &&& Int32.toUInt32 31)).toInt32) &&& (((1 : Int32) <<< (nI e &&& 31)) - 1) = nI (2 ^ (min e (m - 8 * q)) - 1) := by decide +kernel
theorem sx_onesBefore {post : Int32 → Prop} {fn fp fr fd fc : Int32} {a1 a2 a3 a4 a5 a6 a7 a8 a9 a10 a11 a12 a13 a14 a15 a16 a17 a18 a19 a20 a21 a22 a23 a24 a25 a26 a27 : Nat → Int32} {f : Nat → Nat} {r i : Nat} {x y : Int32} (hx : x = nI r) (hy : y = nI i) (hr : r < 21) (hi : i < 224) (h : sx_Q f a5 a6 a7)
    (H : post (nI (min (f r) i))) : wpX_onesBefore post (fn, fp, fr, fd, fc, a1, a2, a3, a4, a5, a6, a7, a8, a9, a10, a11, a12, a13, a14, a15, a16, a17, a18, a19, a20, a21, a22, a23, a24, a25, a26, a27) x y := by
  subst hx hy
  obtain ⟨h5, h6, h7⟩ := h
  unfold wpX_onesBefore
  dsimp only
  have hi' : i < 2 ^ 31 := by omega
  have e6 : a6 (r * 8 + i / 32) = nI (min (f r) (32 * (i / 32))) := by
    rw [h6 _ (by omega)]
    unfold sx_G6
    rw [show (r * 8 + i / 32) / 8 = r by omega, show (r * 8 + i / 32) % 8 = i / 32 by omega]
  have e7 : a7 (r * 28 + i / 8) = nI (min (f r) (8 * (i / 8)) - min (f r) (32 * (i / 32))) := by
    rw [h7 _ (by omega)]
    unfold sx_G7
    rw [show (r * 28 + i / 8) / 28 = r by omega, show (r * 28 + i / 8) % 28 = i / 8 by omega, show i / 8 / 4 = i / 32 by omega]
  have key : ∀ z : Int32, z = nI (2 ^ (min (i % 8) (f r - 8 * (i / 8))) - 1) → wX_onesBefore_37 post (nI r) (nI i) z fn fp fr fd fc a1 a2 a3 a4 a5 a6 a7 a8 a9 a10 a11 a12 a13 a14 a15 a16 a17 a18 a19 a20 a21 a22 a23 a24 a25 a26 a27 := by
    intro z hz
    unfold wX_onesBefore_37
    rw [sx_ix8 r hi', sx_ix28 r hi', nI_clamp (show r * 8 + i / 32 < 2 ^ 31 by omega), nI_clamp (show r * 28 + i / 8 < 2 ^ 31 by omega), e6, e7]
    refine ⟨vp_in_nI (by omega) (by decide), vp_in_nI (by omega) (by decide), sx_onesIn hz (by omega) ?_⟩
    rw [nI_add, nI_add, show min (f r) (32 * (i / 32)) + (min (f r) (8 * (i / 8)) - min (f r) (32 * (i / 32))) + min (i % 8) (f r - 8 * (i / 8)) = min (f r) i by omega]
    exact H
  rw [sx_and7 hi', sx_and24 i hi, sx_ix7 r hi', nI_clamp (show r * 7 + i / 32 < 2 ^ 31 by omega)]
  refine nm_e (pk_eq (i % 8) 0 (fun z => key _ ?_) (fun z => ⟨vp_in_nI (by omega) (by decide), key _ ?_⟩))
  · rw [z, Nat.zero_min]
    rfl
  · rw [h5 r hr _ (by omega)]
    unfold sx_w
    rw [sx_ob _ (by omega) _ (by omega) _ (by omega)]
    rw [show min (i % 8) (min 32 (f r - 32 * (i / 32)) - 8 * (i % 32 / 8)) = min (i % 8) (f r - 8 * (i / 8)) by omega]
theorem sx_zerosBefore {post : Int32 → Prop} {fn fp fr fd fc : Int32} {a1 a2 a3 a4 a5 a6 a7 a8 a9 a10 a11 a12 a13 a14 a15 a16 a17 a18 a19 a20 a21 a22 a23 a24 a25 a26 a27 : Nat → Int32} {f : Nat → Nat} {r i : Nat} {x y : Int32} (hx : x = nI r) (hy : y = nI i) (hr : r < 21) (hi : i < 224) (h : sx_Q f a5 a6 a7)
    (H : post (nI (i - f r))) : wpX_zerosBefore post (fn, fp, fr, fd, fc, a1, a2, a3, a4, a5, a6, a7, a8, a9, a10, a11, a12, a13, a14, a15, a16, a17, a18, a19, a20, a21, a22, a23, a24, a25, a26, a27) x y := by
  unfold wpX_zerosBefore
  dsimp only
  refine sx_onesBefore hx hy hr hi h ?_
  rw [hy, pk_sub (by omega), show i - min (f r) i = i - f r by omega]
  exact H
theorem sx_ba : ∀ m, m < 33 → ∀ e, e < 32 → (((nI (2 ^ m - 1)).toUInt32 >>> ((nI e).toUInt32 &&& Int32.toUInt32 31)).toInt32) &&& 1 = nI (if e < m then 1 else 0) := by decide +kernel
theorem sx_bitAt {post : Int32 → Prop} {fn fp fr fd fc : Int32} {a1 a2 a3 a4 a5 a6 a7 a8 a9 a10 a11 a12 a13 a14 a15 a16 a17 a18 a19 a20 a21 a22 a23 a24 a25 a26 a27 : Nat → Int32} {f : Nat → Nat} {r i : Nat} {x y : Int32} (hx : x = nI r) (hy : y = nI i) (hr : r < 21) (hi : i < 224) (h : sx_R a5 f)
    (H : post (nI (if i < f r then 1 else 0))) : wpX_bitAt post (fn, fp, fr, fd, fc, a1, a2, a3, a4, a5, a6, a7, a8, a9, a10, a11, a12, a13, a14, a15, a16, a17, a18, a19, a20, a21, a22, a23, a24, a25, a26, a27) x y := by
  subst hx hy
  unfold wpX_bitAt
  dsimp only
  have hi' : i < 2 ^ 31 := by omega
  rw [sx_ix7 r hi', sx_and31 hi', nI_clamp (show r * 7 + i / 32 < 2 ^ 31 by omega), h r hr _ (by omega)]
  unfold sx_w
  rw [sx_ba _ (by omega) _ (by omega)]
  refine ⟨vp_in_nI (by omega) (by decide), ?_⟩
  by_cases e : i < f r
  · rw [if_pos (by omega)]
    rw [if_pos e] at H
    exact br_f (by decide) H
  · rw [if_neg (by omega)]
    rw [if_neg e] at H
    exact br_t (by decide) H
end
section
/-! the table of choices -/
def sx_ch : Nat → Nat → Nat
  | _, 0 => 1
  | 0, _ + 1 => 0
  | n + 1, k + 1 => sx_ch n k + sx_ch n (k + 1)
theorem sx_ch1 : ∀ i, i < 8 → ∀ k, k < 8 → i < k → sx_ch i k = 0 := by decide +kernel
theorem sx_ch2 : ∀ i, i < 8 → ∀ k, k < 8 → sx_ch i k < 128 := by decide +kernel
def sx_Ch (a : Nat → Int32) : Prop := ∀ i, i < 8 → ∀ k, k < 8 → a (i * 8 + k) = nI (sx_ch i k)
def sx_C16 (m : Nat) (a : Nat → Int32) : Prop := (∀ j, j < m → a j = nI (sx_ch (j / 8) (j % 8))) ∧ ∀ j, m ≤ j → a j = 0
theorem sx_C16s {m k : Nat} {a : Nat → Int32} {x : Int32} (h : sx_C16 m a) (hk : k = m) (hx : x = nI (sx_ch (m / 8) (m % 8))) : sx_C16 (m + 1) (upd a k x) := by
  refine ⟨sx_fill (f := fun j => nI (sx_ch (j / 8) (j % 8))) hk h.1 hx, fun j hj => ?_⟩
  rw [pk_un (by omega)]
  exact h.2 j (by omega)
theorem sx_init_in {post : St2 → Prop} {mc ms kc ks : Nat} {J : Int32 → (Nat → Int32) → (Nat → Int32) → (Nat → Int32) → (Nat → Int32) → (Nat → Int32) → (Nat → Int32) → (Nat → Int32) → (Nat → Int32) → (Nat → Int32) → (Nat → Int32) → (Nat → Int32) → (Nat → Int32) → (Nat → Int32) → (Nat → Int32) → (Nat → Int32) → (Nat → Int32) → (Nat → Int32) → (Nat → Int32) → (Nat → Int32) → (Nat → Int32) → (Nat → Int32) → (Nat → Int32) → (Nat → Int32) → (Nat → Int32) → (Nat → Int32) → (Nat → Int32) → (Nat → Int32) → Prop} {fn fp fr fd fc : Int32} {a1 a2 a3 a4 a5 a6 a7 a8 a9 a10 a11 a12 a13 a14 a15 a16 a17 a18 a19 a20 a21 a22 a23 a24 a25 a26 a27 : Nat → Int32} {i : Nat} (hi : i < 8) (h : sx_C16 (i * 8 + 1) a16)
    (HJ : ∀ b, sx_C16 ((i + 1) * 8) b → J (nI (i + 1)) a1 a2 a3 a4 a5 a6 a7 a8 a9 a10 a11 a12 a13 a14 a15 b a17 a18 a19 a20 a21 a22 a23 a24 a25 a26 a27) : ∃ n, wX_init_253 post mc ms J (nI i) kc ks fn fp fr fd fc n 1 a1 a2 a3 a4 a5 a6 a7 a8 a9 a10 a11 a12 a13 a14 a15 a16 a17 a18 a19 a20 a21 a22 a23 a24 a25 a26 a27 := by
  refine pk_loop (fun n k s => wX_init_253 post mc ms J (nI i) kc ks fn fp fr fd fc n (nI k) a1 a2 a3 a4 a5 a6 a7 a8 a9 a10 a11 a12 a13 a14 a15 s a17 a18 a19 a20 a21 a22 a23 a24 a25 a26 a27) (fun k s => 1 ≤ k ∧ sx_C16 (i * 8 + k) s) (i + 1) 1 a16 (by omega) ⟨Nat.le_refl 1, h⟩ ?_ ?_
  · rintro n s ⟨_, hs⟩
    refine pk_lt i (i + 1) (fun _ => nm_r (nI_1 i) (HJ s ⟨fun j hj => ?_, fun j hj => hs.2 j (by omega)⟩)) (fun z => absurd z (by omega))
    by_cases e : j < i * 8 + (i + 1)
    · exact hs.1 j e
    · rw [hs.2 j (by omega), sx_ch1 (j / 8) (by omega) (j % 8) (by omega) (by omega)]
      rfl
  · rintro n k s hk ⟨h1, hs⟩ hw
    have e0 : nI i - 1 = nI (i - 1) := pk_sub (b := 1) (by omega)
    have e1 : nI (i - 1) * 8 + nI k = nI ((i - 1) * 8 + k) := by
      rw [show (8 : Int32) = nI 8 from rfl, pk_mul, nI_add]
    have e2 : nI ((i - 1) * 8 + k) - 1 = nI ((i - 1) * 8 + k - 1) := pk_sub (b := 1) (by omega)
    have e3 : nI i * 8 + nI k = nI (i * 8 + k) := by
      rw [show (8 : Int32) = nI 8 from rfl, pk_mul, nI_add]
    refine pk_lt i k (fun z => absurd z (by omega)) (fun _ => ?_)
    rw [e0, e1, e2, e3, nI_clamp (show (i - 1) * 8 + k - 1 < 2 ^ 31 by omega), nI_clamp (show (i - 1) * 8 + k < 2 ^ 31 by omega), nI_clamp (show i * 8 + k < 2 ^ 31 by omega)]
    refine ⟨vp_in_nI (by omega) (by decide), vp_in_nI (by omega) (by decide), vp_in_nI (by omega) (by decide), nm_e (nm_r (nI_1 k) (hw _ ⟨by omega, sx_C16s (m := i * 8 + k) hs rfl ?_⟩))⟩
    rw [hs.1 _ (by omega), hs.1 _ (by omega), nI_add]
    obtain ⟨p, rfl⟩ : ∃ p, i = p + 1 := ⟨i - 1, by omega⟩
    obtain ⟨q, rfl⟩ : ∃ q, k = q + 1 := ⟨k - 1, by omega⟩
    rw [show ((p + 1 - 1) * 8 + (q + 1) - 1) / 8 = p by omega, show ((p + 1 - 1) * 8 + (q + 1) - 1) % 8 = q by omega, show ((p + 1 - 1) * 8 + (q + 1)) / 8 = p by omega,
      show ((p + 1 - 1) * 8 + (q + 1)) % 8 = q + 1 by omega, show ((p + 1) * 8 + (q + 1)) / 8 = p + 1 by omega, show ((p + 1) * 8 + (q + 1)) % 8 = q + 1 by omega]
    exact sx_b8 _ (sx_ch2 (p + 1) (by omega) (q + 1) (by omega))
theorem sx_init_l {post : St2 → Prop} {mc ms kc ks : Nat} {fn fp fr fd fc : Int32} {a1 a2 a3 a4 a5 a6 a7 a8 a9 a10 a11 a12 a13 a14 a15 a16 a17 a18 a19 a20 a21 a22 a23 a24 a25 a26 a27 : Nat → Int32} (h : sx_C16 0 a16) (H : ∀ b, sx_Ch b → post (fn, fp, fr, fd, fc, a1, a2, a3, a4, a5, a6, a7, a8, a9, a10, a11, a12, a13, a14, a15, b, a17, a18, a19, a20, a21, a22, a23, a24, a25, a26, a27)) : ∃ n, wX_init_235 post mc ms kc ks fn fp fr fd fc n 0 a1 a2 a3 a4 a5 a6 a7 a8 a9 a10 a11 a12 a13 a14 a15 a16 a17 a18 a19 a20 a21 a22 a23 a24 a25 a26 a27 := by
  refine pk_loop (fun n i s => wX_init_235 post mc ms kc ks fn fp fr fd fc n (nI i) a1 a2 a3 a4 a5 a6 a7 a8 a9 a10 a11 a12 a13 a14 a15 s a17 a18 a19 a20 a21 a22 a23 a24 a25 a26 a27) (fun i s => sx_C16 (i * 8) s) 8 0 a16 (by omega) h ?_ ?_
  · intro n s hs
    refine pk_le 8 8 (fun _ => H s (fun i hi k hk => ?_)) (fun z => absurd z (by omega))
    rw [hs.1 _ (by omega), show (i * 8 + k) / 8 = i by omega, show (i * 8 + k) % 8 = k by omega]
  · intro n i s hi hs hw
    have e3 : nI i * 8 = nI (i * 8) := by
      rw [show (8 : Int32) = nI 8 from rfl, pk_mul]
    refine pk_le 8 i (fun z => absurd z (by omega)) (fun _ => ?_)
    rw [e3, nI_clamp (show i * 8 < 2 ^ 31 by omega)]
    refine ⟨vp_in_nI (by omega) (by decide), nm_e (sx_init_in hi (sx_C16s hs rfl ?_) (fun b hb => hw b hb))⟩
    rw [show i * 8 % 8 = 0 by omega]
    cases i * 8 / 8 <;> rfl
theorem sx_init {post : St2 → Prop} {mc ms : Nat} (hm : 27 ≤ mc) (hs : 3516 ≤ ms)
    (H : ∀ b, sx_Ch b → post (0, 0, 0, 0, 0, (fun _ => 0), (fun _ => 0), (fun _ => 0), (fun _ => 0), (fun _ => 0), (fun _ => 0), (fun _ => 0), (fun _ => 0), (fun _ => 0), (fun _ => 0), (fun _ => 0), (fun _ => 0), (fun _ => 0), (fun _ => 0), (fun _ => 0), b, (fun _ => 0), (fun _ => 0), (fun _ => 0), (fun _ => 0), (fun _ => 0), (fun _ => 0), (fun _ => 0), (fun _ => 0), (fun _ => 0), (fun _ => 0), (fun _ => 0))) : wpX_init post mc ms (0, 0, 0, 0, 0) := by
  unfold wpX_init
  dsimp only
  iterate 54 refine ⟨by omega, ?_⟩
  exact sx_init_l ⟨fun j hj => absurd hj (by omega), fun j _ => rfl⟩ H
/-! a place within bounds, or not -/
def sx_is (N : Nat) (x : Int32) : Prop := ∃ e, e < N ∧ x = nI e
theorem sx_is0 {N : Nat} {x : Int32} (hN : N < 2 ^ 31) (h : x < 0) : ¬ sx_is N x := by
  rintro ⟨e, he, rfl⟩
  exact nI_pos (by omega) h
theorem sx_isN {N : Nat} {x : Int32} (hN : N < 2 ^ 31) (h : nI N ≤ x) : ¬ sx_is N x := by
  rintro ⟨e, he, rfl⟩
  exact nI_ge he hN h
theorem sx_isL {N : Nat} {x : Int32} (hN : N + 1 < 2 ^ 31) (h : nI N < x) : ¬ sx_is (N + 1) x := by
  rintro ⟨e, he, rfl⟩
  exact nI_nlt (a := N) (b := e) (by omega) (by omega) h
theorem sx_isY {N : Nat} {x : Int32} (hN : N < 2 ^ 31) (h0 : ¬ x < 0) (h : ¬ nI N ≤ x) : sx_is N x := by
  rcases pk_ix x hN with t | t | t
  · exact absurd t h0
  · exact absurd t h
  · exact t
theorem sx_isZ {N : Nat} {x : Int32} (hN : N + 1 < 2 ^ 31) (h0 : ¬ x < 0) (h : ¬ nI N < x) : sx_is (N + 1) x := by
  rcases pk_ix x hN with t | t | t
  · exact absurd t h0
  · exact absurd (Int32.lt_of_lt_of_le (nI_lt (a := N) (b := N + 1) (by omega) hN) t) h
  · exact t
/-- x below 0, or N at most x: no; else yes -/
theorem sx_brle {N : Nat} {x y : Int32} {A B : Prop} (hN : N < 2 ^ 31) (hy : y = nI N) (hA : sx_is N x → A) (hB : ¬ sx_is N x → B) : (x < 0 → B) ∧ (¬ x < 0 → ((y ≤ x → B) ∧ (¬ y ≤ x → A))) := by
  subst hy
  exact br_c (fun z => hB (sx_is0 hN z)) (fun z => br_c (fun w => hB (sx_isN hN w)) (fun w => hA (sx_isY hN z w)))
theorem sx_brlt {N : Nat} {x y : Int32} {A B : Prop} (hN : N + 1 < 2 ^ 31) (hy : y = nI N) (hA : sx_is (N + 1) x → A) (hB : ¬ sx_is (N + 1) x → B) : (x < 0 → B) ∧ (¬ x < 0 → ((y < x → B) ∧ (¬ y < x → A))) := by
  subst hy
  exact br_c (fun z => hB (sx_is0 hN z)) (fun z => br_c (fun w => hB (sx_isL hN w)) (fun w => hA (sx_isZ hN z w)))
theorem sx_brgt {N : Nat} {x y : Int32} {A B : Prop} (hN : N < 2 ^ 31) (hy : y = nI N) (hA : sx_is N x → A) (hB : ¬ sx_is N x → B) : (x < 0 → B) ∧ (¬ x < 0 → ((x < y → A) ∧ (¬ x < y → B))) := by
  subst hy
  exact br_c (fun z => hB (sx_is0 hN z)) (fun z => br_c (fun w => hA (sx_isY hN z (Int32.not_le.mpr w))) (fun w => hB (sx_isN hN (Int32.not_lt.mp w))))
theorem sx_brge {N : Nat} {x y : Int32} {A B : Prop} (hN : N + 1 < 2 ^ 31) (hy : y = nI N) (hA : sx_is (N + 1) x → A) (hB : ¬ sx_is (N + 1) x → B) : (x < 0 → B) ∧ (¬ x < 0 → ((x ≤ y → A) ∧ (¬ x ≤ y → B))) := by
  subst hy
  exact br_c (fun z => hB (sx_is0 hN z)) (fun z => br_c (fun w => hA (sx_isZ hN z (Int32.not_lt.mpr w))) (fun w => hB (sx_isL hN (Int32.not_le.mp w))))
/-! letters and engines -/
theorem sx_isLetter {post : Int32 → Prop} {x : Int32} (h0 : ¬ sx_is 8 x → post 0) (h1 : sx_is 8 x → post 1) : wpX_isLetter post () x := sx_brle (N := 8) (by decide) rfl h1 h0
theorem sx_isEngine {post : Int32 → Prop} {x : Int32} (h0 : ¬ sx_is 7 x → post 0) (h1 : sx_is 7 x → post 1) : wpX_isEngine post () x := sx_brle (N := 7) (by decide) rfl h1 h0
/-! append to the empty list -/
theorem sx_append_l {post : Int32 → St2 → Prop} {fp fr fd fc : Int32} {a1 a2 a3 a4 a5 a6 a7 a8 a9 a10 a11 a12 a13 a14 a15 a16 a17 a18 a19 a20 a21 a22 a23 a24 a25 a26 a27 : Nat → Int32} {c N : Nat} (hc : c < 8) (hN : N ≤ 200)
    (H : ∀ b, (∀ j, j < N → b j = nI c) → post (nI N) (nI N, 0, fr, fd, fc, b, a2, a3, a4, a5, a6, a7, a8, a9, a10, a11, a12, a13, a14, a15, a16, a17, a18, a19, a20, a21, a22, a23, a24, a25, a26, a27)) : ∃ n, wX_append_38 post (nI c) (nI N) fp fr fd fc n 0 0 a1 a2 a3 a4 a5 a6 a7 a8 a9 a10 a11 a12 a13 a14 a15 a16 a17 a18 a19 a20 a21 a22 a23 a24 a25 a26 a27 :=
  pk_loop (fun n i s => wX_append_38 post (nI c) (nI N) fp fr fd fc n (nI i) (nI i) s a2 a3 a4 a5 a6 a7 a8 a9 a10 a11 a12 a13 a14 a15 a16 a17 a18 a19 a20 a21 a22 a23 a24 a25 a26 a27) (fun i s => ∀ j, j < i → s j = nI c) N 0 a1 (by omega) lt_0
    (fun n s h => pk_le N N (fun _ => H s h) (fun z => absurd z (by omega)))
    (fun n i s hi h hw => pk_le N i (fun z => absurd z (by omega)) (fun _ => ⟨pk_in i 200 (by omega), nm_e (nm_r (nI_1 i) (nm_r (nI_1 i) (hw _ (sx_fill (f := fun _ => nI c) (nI_clamp (by omega)) h (sx_b8 c (by omega))))))⟩))
/-- the letter and the number of times are good -/
def sx_good (x y : Int32) : Prop := sx_is 8 x ∧ ¬ y < 1 ∧ ¬ 200 < y
theorem sx_append {post : Int32 → St2 → Prop} {fp fr fd fc : Int32} {a1 a2 a3 a4 a5 a6 a7 a8 a9 a10 a11 a12 a13 a14 a15 a16 a17 a18 a19 a20 a21 a22 a23 a24 a25 a26 a27 : Nat → Int32} {x y : Int32} (h0 : ¬ sx_good x y → post (-1) (0, fp, fr, fd, fc, a1, a2, a3, a4, a5, a6, a7, a8, a9, a10, a11, a12, a13, a14, a15, a16, a17, a18, a19, a20, a21, a22, a23, a24, a25, a26, a27))
    (H : ∀ c N, c < 8 → 1 ≤ N → N ≤ 200 → x = nI c → y = nI N → sx_good x y → ∀ b, (∀ j, j < N → b j = nI c) → post (nI N) (nI N, 0, fr, fd, fc, b, a2, a3, a4, a5, a6, a7, a8, a9, a10, a11, a12, a13, a14, a15, a16, a17, a18, a19, a20, a21, a22, a23, a24, a25, a26, a27)) : wpX_append post (0, fp, fr, fd, fc, a1, a2, a3, a4, a5, a6, a7, a8, a9, a10, a11, a12, a13, a14, a15, a16, a17, a18, a19, a20, a21, a22, a23, a24, a25, a26, a27) x y := by
  unfold wpX_append
  dsimp only
  refine sx_isLetter (fun z => br_t rfl (h0 (fun g => z g.1))) (fun hx => br_f (by decide) (br_c (fun z => h0 (fun g => g.2.1 z)) (fun z => ?_)))
  have hx' := hx
  obtain ⟨c, hc, ex⟩ := hx'
  rcases pk_ix y (n := 201) (by decide) with h | h | ⟨N, hN, ey⟩
  · exact absurd (Int32.lt_trans h (by decide)) z
  · have g : ¬ y ≤ 200 := by
      intro g
      exact absurd (Int32.le_trans h g) (by decide)
    exact br_f g (h0 (fun t => t.2.2 (Int32.not_le.mp g)))
  · have h1 : 1 ≤ N := by
      rcases Nat.eq_zero_or_pos N with e | e
      · subst e
        rw [ey] at z
        exact absurd (by decide) z
      · exact e
    have h2 : y ≤ 200 := by
      rw [ey]
      exact nI_le (b := 200) (by omega) (by decide)
    have G : sx_good x y := ⟨hx, z, Int32.not_lt.mpr h2⟩
    refine br_t h2 (br_t ?_ ?_)
    · rw [Int32.zero_add]
      exact h2
    · have k := H c N hc h1 (by omega) ex ey G
      subst ex ey
      exact sx_append_l hc (by omega) k
end
section
/-! which rows hold ones: row r below m, if the letter c puts them there -/
def sx_d (c l : Nat) : Nat := c / 2 ^ (2 - l) % 2
def sx_on (c r : Nat) : Bool := if r < 3 then sx_d c r == 1 else if r < 6 then sx_d c (r - 3) == 1 else r == 6 + c
def sx_F (c N m r : Nat) : Nat := if r < m ∧ sx_on c r = true then N else 0
theorem sx_on0 {c l : Nat} (h : l < 3) : sx_on c l = true ↔ sx_d c l = 1 := by
  unfold sx_on
  rw [if_pos h]
  exact beq_iff_eq
theorem sx_on3 {c l : Nat} (h : l < 3) : sx_on c (3 + l) = true ↔ sx_d c l = 1 := by
  unfold sx_on
  rw [if_neg (by omega), if_pos (by omega), show 3 + l - 3 = l by omega]
  exact beq_iff_eq
theorem sx_on6 {c q : Nat} : sx_on c (6 + q) = true ↔ q = c := by
  unfold sx_on
  rw [if_neg (by omega), if_neg (by omega)]
  refine Iff.trans beq_iff_eq ?_
  omega
theorem sx_Fs {c N m r : Nat} : sx_F c N (m + 1) r = if r = m ∧ sx_on c m = true then N else sx_F c N m r := by
  unfold sx_F
  by_cases e : r = m
  · subst e
    by_cases o : sx_on c r = true
    · rw [if_pos ⟨by omega, o⟩, if_pos ⟨rfl, o⟩]
    · rw [if_neg (fun z => o z.2), if_neg (fun z => o z.2), if_neg (fun z => o z.2)]
  · rw [if_neg (c := r = m ∧ sx_on c m = true) (fun z => e z.1)]
    by_cases o : r < m ∧ sx_on c r = true
    · rw [if_pos o, if_pos ⟨by omega, o.2⟩]
    · rw [if_neg o, if_neg (fun z => o ⟨by omega, z.2⟩)]
theorem sx_Fm {c N m : Nat} : sx_F c N m m = 0 := by
  unfold sx_F
  rw [if_neg (by omega)]
theorem sx_digN : ∀ c, c < 8 → ∀ l, l < 3 → (nI c >>> ((2 - nI l) &&& 31)) &&& 1 = nI (sx_d c l) := by decide +kernel
theorem sx_d2 (c l : Nat) : sx_d c l < 2 := Nat.mod_lt _ (by decide)
theorem sx_digitOf {post : Int32 → Prop} {c l : Nat} {x y : Int32} (hx : x = nI c) (hy : y = nI l) (hc : c < 8) (hl : l < 3) (H : post (nI (sx_d c l))) : wpX_digitOf post () x y := by
  subst hx hy
  unfold wpX_digitOf
  rw [sx_digN c hc l hl]
  exact H
theorem sx_sh3 : ∀ c, c < 8 → ∀ l, l < 3 → nI c >>> ((3 - nI l) &&& 31) = nI (c / 2 ^ (3 - l)) := by decide +kernel
theorem sx_shl1 : ∀ l, l < 3 → (1 : Int32) <<< (nI l &&& 31) = nI (2 ^ l) := by decide +kernel
theorem sx_q0 : ∀ c, c < 8 → ∀ l, l < 3 → c / 2 ^ (3 - l) < 2 ^ l := by decide +kernel
theorem sx_z0 (x : Int32) : 0 + x = x := Int32.zero_add x
/-! the tree's rows -/
theorem sx_tree_n {post : St2 → Prop} {J2 : Int32 → Int32 → Int32 → Int32 → Int32 → Int32 → (Nat → Int32) → (Nat → Int32) → (Nat → Int32) → (Nat → Int32) → (Nat → Int32) → (Nat → Int32) → (Nat → Int32) → (Nat → Int32) → (Nat → Int32) → (Nat → Int32) → (Nat → Int32) → (Nat → Int32) → (Nat → Int32) → (Nat → Int32) → (Nat → Int32) → (Nat → Int32) → (Nat → Int32) → (Nat → Int32) → (Nat → Int32) → (Nat → Int32) → (Nat → Int32) → (Nat → Int32) → (Nat → Int32) → (Nat → Int32) → (Nat → Int32) → (Nat → Int32) → (Nat → Int32) → Prop} {J11 : Int32 → Int32 → Int32 → Int32 → Int32 → Int32 → Int32 → (Nat → Int32) → (Nat → Int32) → (Nat → Int32) → (Nat → Int32) → (Nat → Int32) → (Nat → Int32) → (Nat → Int32) → (Nat → Int32) → (Nat → Int32) → (Nat → Int32) → (Nat → Int32) → (Nat → Int32) → (Nat → Int32) → (Nat → Int32) → (Nat → Int32) → (Nat → Int32) → (Nat → Int32) → (Nat → Int32) → (Nat → Int32) → (Nat → Int32) → (Nat → Int32) → (Nat → Int32) → (Nat → Int32) → (Nat → Int32) → (Nat → Int32) → (Nat → Int32) → (Nat → Int32) → Prop} {fp fr fd fc : Int32} {a1 a2 a3 a4 a5 a6 a7 a8 a9 a10 a11 a12 a13 a14 a15 a16 a17 a18 a19 a20 a21 a22 a23 a24 a25 a26 a27 : Nat → Int32} {c N l p : Nat} {x2 : Int32} (hc : c < 8) (hl : l < 3) (hN : N ≤ 200) (hp8 : p < 8) (hp : c / 2 ^ (3 - l) ≠ p) (h1 : ∀ j, j < N → a1 j = nI c)
    (HJ : J11 x2 (nI (p + 1)) (nI N) fp fr fd fc a1 a2 a3 a4 a5 a6 a7 a8 a9 a10 a11 a12 a13 a14 a15 a16 a17 a18 a19 a20 a21 a22 a23 a24 a25 a26 a27) : ∃ n, wX_packTree_21 post J2 J11 (nI l) (nI p) n x2 0 (nI N) fp fr fd fc a1 a2 a3 a4 a5 a6 a7 a8 a9 a10 a11 a12 a13 a14 a15 a16 a17 a18 a19 a20 a21 a22 a23 a24 a25 a26 a27 := by
  refine pk_loop (σ := Unit) (fun n i _ => wX_packTree_21 post J2 J11 (nI l) (nI p) n x2 (nI i) (nI N) fp fr fd fc a1 a2 a3 a4 a5 a6 a7 a8 a9 a10 a11 a12 a13 a14 a15 a16 a17 a18 a19 a20 a21 a22 a23 a24 a25 a26 a27) (fun _ _ => True) N 0 () (by omega) trivial ?_ ?_
  · intro n _ _
    exact pk_le N N (fun _ => nm_r (nI_1 p) HJ) (fun z => absurd z (by omega))
  · intro n i _ hi _ hw
    refine pk_le N i (fun z => absurd z (by omega)) (fun _ => ⟨pk_in i 200 (by omega), ?_⟩)
    rw [nI_clamp (show i < 2 ^ 31 by omega), h1 i hi, sx_sh3 c hc l hl]
    have hq : c / 2 ^ (3 - l) < 8 := Nat.lt_of_le_of_lt (Nat.div_le_self _ _) hc
    exact pk_eq (c / 2 ^ (3 - l)) p (fun z => absurd z hp) (fun _ => nm_r (nI_1 i) (hw () trivial))
theorem sx_tree_y {post : St2 → Prop} {J2 : Int32 → Int32 → Int32 → Int32 → Int32 → Int32 → (Nat → Int32) → (Nat → Int32) → (Nat → Int32) → (Nat → Int32) → (Nat → Int32) → (Nat → Int32) → (Nat → Int32) → (Nat → Int32) → (Nat → Int32) → (Nat → Int32) → (Nat → Int32) → (Nat → Int32) → (Nat → Int32) → (Nat → Int32) → (Nat → Int32) → (Nat → Int32) → (Nat → Int32) → (Nat → Int32) → (Nat → Int32) → (Nat → Int32) → (Nat → Int32) → (Nat → Int32) → (Nat → Int32) → (Nat → Int32) → (Nat → Int32) → (Nat → Int32) → (Nat → Int32) → Prop} {J11 : Int32 → Int32 → Int32 → Int32 → Int32 → Int32 → Int32 → (Nat → Int32) → (Nat → Int32) → (Nat → Int32) → (Nat → Int32) → (Nat → Int32) → (Nat → Int32) → (Nat → Int32) → (Nat → Int32) → (Nat → Int32) → (Nat → Int32) → (Nat → Int32) → (Nat → Int32) → (Nat → Int32) → (Nat → Int32) → (Nat → Int32) → (Nat → Int32) → (Nat → Int32) → (Nat → Int32) → (Nat → Int32) → (Nat → Int32) → (Nat → Int32) → (Nat → Int32) → (Nat → Int32) → (Nat → Int32) → (Nat → Int32) → (Nat → Int32) → (Nat → Int32) → Prop} {fp fr fd fc : Int32} {a1 a2 a3 a4 a5 a6 a7 a8 a9 a10 a11 a12 a13 a14 a15 a16 a17 a18 a19 a20 a21 a22 a23 a24 a25 a26 a27 : Nat → Int32} {c N l p : Nat} (hc : c < 8) (hl : l < 3) (hN : N ≤ 200) (hp : c / 2 ^ (3 - l) = p) (h1 : ∀ j, j < N → a1 j = nI c)
    (h : sx_R a5 (sx_F c N l)) (HJ : ∀ b, sx_R b (sx_F c N (l + 1)) → J11 (nI N) (nI (p + 1)) (nI N) fp fr fd fc a1 a2 a3 a4 b a6 a7 a8 a9 a10 a11 a12 a13 a14 a15 a16 a17 a18 a19 a20 a21 a22 a23 a24 a25 a26 a27) : ∃ n, wX_packTree_21 post J2 J11 (nI l) (nI p) n 0 0 (nI N) fp fr fd fc a1 a2 a3 a4 a5 a6 a7 a8 a9 a10 a11 a12 a13 a14 a15 a16 a17 a18 a19 a20 a21 a22 a23 a24 a25 a26 a27 := by
  refine pk_loop (fun n i s => wX_packTree_21 post J2 J11 (nI l) (nI p) n (nI i) (nI i) (nI N) fp fr fd fc a1 a2 a3 a4 s a6 a7 a8 a9 a10 a11 a12 a13 a14 a15 a16 a17 a18 a19 a20 a21 a22 a23 a24 a25 a26 a27) (fun i s => sx_R s (fun q => if q = l ∧ sx_on c l = true then i else sx_F c N l q)) N 0 a5 (by omega) ?_ ?_ ?_
  · refine sx_Rc h (fun r hr => ?_)
    try dsimp only
    by_cases e : r = l ∧ sx_on c l = true
    · rw [if_pos e, e.1, sx_Fm]
    · rw [if_neg e]
  · intro n s hs
    refine pk_le N N (fun _ => nm_r (nI_1 p) (HJ s (sx_Rc hs (fun r hr => ?_)))) (fun z => absurd z (by omega))
    exact sx_Fs
  · intro n i s hi hs hw
    refine pk_le N i (fun z => absurd z (by omega)) (fun _ => ⟨pk_in i 200 (by omega), ?_⟩)
    rw [nI_clamp (show i < 2 ^ 31 by omega), h1 i hi, sx_sh3 c hc l hl, hp]
    refine br_t rfl ⟨pk_in i 200 (by omega), sx_digitOf rfl rfl hc hl ?_⟩
    have hd := sx_d2 c l
    refine pk_eq (sx_d c l) 1 (fun z => ?_) (fun z => ?_)
    · refine sx_setBit (r := l) (i := i) (g := fun q => if q = l ∧ sx_on c l = true then i + 1 else sx_F c N l q) (sx_z0 _) rfl (by omega) (by omega) hs ?_ ?_ ?_
      · try dsimp only
        rw [if_pos ⟨rfl, (sx_on0 hl).mpr z⟩]
      · intro q hq
        try dsimp only
        by_cases e : q = l
        · rw [if_pos ⟨e, (sx_on0 hl).mpr z⟩, if_pos e]
        · rw [if_neg (fun t => e t.1), if_neg e, if_neg (fun t => e t.1)]
      · exact fun b hb => nm_r (nI_1 i) (nm_r (nI_1 i) (hw b hb))
    · refine nm_r (nI_1 i) (nm_r (nI_1 i) (hw s (sx_Rc hs (fun r hr => ?_))))
      have z' : ¬ sx_on c l = true := fun t => z ((sx_on0 hl).mp t)
      try dsimp only
      rw [if_neg (fun t => z' t.2), if_neg (fun t => z' t.2)]
theorem sx_tree_m {post : St2 → Prop} {J2 : Int32 → Int32 → Int32 → Int32 → Int32 → Int32 → (Nat → Int32) → (Nat → Int32) → (Nat → Int32) → (Nat → Int32) → (Nat → Int32) → (Nat → Int32) → (Nat → Int32) → (Nat → Int32) → (Nat → Int32) → (Nat → Int32) → (Nat → Int32) → (Nat → Int32) → (Nat → Int32) → (Nat → Int32) → (Nat → Int32) → (Nat → Int32) → (Nat → Int32) → (Nat → Int32) → (Nat → Int32) → (Nat → Int32) → (Nat → Int32) → (Nat → Int32) → (Nat → Int32) → (Nat → Int32) → (Nat → Int32) → (Nat → Int32) → (Nat → Int32) → Prop} {fp fr fd fc : Int32} {a1 a2 a3 a4 a5 a6 a7 a8 a9 a10 a11 a12 a13 a14 a15 a16 a17 a18 a19 a20 a21 a22 a23 a24 a25 a26 a27 : Nat → Int32} {c N l : Nat} (hc : c < 8) (hl : l < 3) (hN : N ≤ 200) (h1 : ∀ j, j < N → a1 j = nI c)
    (h : sx_R a5 (sx_F c N l)) (HJ : ∀ b, sx_R b (sx_F c N (l + 1)) → J2 (nI (l + 1)) (nI N) fp fr fd fc a1 a2 a3 a4 b a6 a7 a8 a9 a10 a11 a12 a13 a14 a15 a16 a17 a18 a19 a20 a21 a22 a23 a24 a25 a26 a27) : ∃ n, wX_packTree_11 post J2 (nI l) n 0 0 (nI N) fp fr fd fc a1 a2 a3 a4 a5 a6 a7 a8 a9 a10 a11 a12 a13 a14 a15 a16 a17 a18 a19 a20 a21 a22 a23 a24 a25 a26 a27 := by
  have hq := sx_q0 c hc l hl
  have h8 : 2 ^ l < 8 := by
    rcases (show l = 0 ∨ l = 1 ∨ l = 2 by omega) with e | e | e <;> subst e <;> decide
  refine pk_loop (σ := Int32 × (Nat → Int32)) (fun n p s => wX_packTree_11 post J2 (nI l) n s.1 (nI p) (nI N) fp fr fd fc a1 a2 a3 a4 s.2 a6 a7 a8 a9 a10 a11 a12 a13 a14 a15 a16 a17 a18 a19 a20 a21 a22 a23 a24 a25 a26 a27)
    (fun p s => (p ≤ c / 2 ^ (3 - l) → s.1 = 0 ∧ sx_R s.2 (sx_F c N l)) ∧ (c / 2 ^ (3 - l) < p → s.1 = nI N ∧ sx_R s.2 (sx_F c N (l + 1)))) (2 ^ l) 0 (0, a5) (Nat.zero_le _) ⟨fun _ => ⟨rfl, h⟩, fun z => absurd z (Nat.not_lt_zero _)⟩ ?_ ?_
  · intro n s hs
    exact pk_le (2 ^ l) (2 ^ l) (fun _ => nm_r (nI_1 l) (HJ s.2 (hs.2 hq).2)) (fun z => absurd z (by omega)) (sx_shl1 l hl)
  · rintro n p ⟨x2, s⟩ hp hs hw
    refine pk_le (2 ^ l) p (fun z => absurd z (by omega)) (fun _ => ?_) (sx_shl1 l hl)
    by_cases e : c / 2 ^ (3 - l) = p
    · obtain ⟨e0, e1⟩ := hs.1 (by omega)
      try dsimp only at e0 e1
      subst e0
      exact sx_tree_y hc hl hN e h1 e1 (fun b hb => hw (nI N, b) ⟨fun z => absurd z (by omega), fun _ => ⟨rfl, hb⟩⟩)
    · refine sx_tree_n hc hl hN (by omega) e h1 (hw (x2, s) ⟨fun z => hs.1 (by omega), fun z => hs.2 (by omega)⟩)
theorem sx_packTree {post : St2 → Prop} {fp fr fd fc : Int32} {a1 a2 a3 a4 a5 a6 a7 a8 a9 a10 a11 a12 a13 a14 a15 a16 a17 a18 a19 a20 a21 a22 a23 a24 a25 a26 a27 : Nat → Int32} {c N : Nat} (hc : c < 8) (hN : N ≤ 200) (h1 : ∀ j, j < N → a1 j = nI c)
    (h : sx_R a5 (sx_F c N 0)) (H : ∀ b, sx_R b (sx_F c N 3) → post (nI N, fp, fr, fd, fc, a1, a2, a3, a4, b, a6, a7, a8, a9, a10, a11, a12, a13, a14, a15, a16, a17, a18, a19, a20, a21, a22, a23, a24, a25, a26, a27)) : wpX_packTree post (nI N, fp, fr, fd, fc, a1, a2, a3, a4, a5, a6, a7, a8, a9, a10, a11, a12, a13, a14, a15, a16, a17, a18, a19, a20, a21, a22, a23, a24, a25, a26, a27) := by
  unfold wpX_packTree
  dsimp only
  refine pk_loop (fun n l s => wX_packTree_2 post n (nI l) (nI N) fp fr fd fc a1 a2 a3 a4 s a6 a7 a8 a9 a10 a11 a12 a13 a14 a15 a16 a17 a18 a19 a20 a21 a22 a23 a24 a25 a26 a27) (fun l s => sx_R s (sx_F c N l)) 3 0 a5 (by omega) h ?_ ?_
  · intro n s hs
    exact pk_le 3 3 (fun _ => H s hs) (fun z => absurd z (by omega))
  · intro n l s hl hs hw
    exact pk_le 3 l (fun z => absurd z (by omega)) (fun _ => sx_tree_m hc hl hN h1 hs (fun b hb => hw b hb))
end
section
/-! the matrix's rows -/
theorem sx_part_86 {post : St2 → Prop} {fp fr fd fc : Int32} {a1 a2 a3 a4 a5 a6 a7 a8 a9 a10 a11 a12 a13 a14 a15 a16 a17 a18 a19 a20 a21 a22 a23 a24 a25 a26 a27 : Nat → Int32} {c N : Nat} (hc : c < 8) (hN : N ≤ 200) (h4 : ∀ j, j < N → a4 j = nI c) (H : ∀ b, (∀ j, j < N → b j = nI c) → post (nI N, fp, fr, fd, fc, a1, a2, b, a4, a5, a6, a7, a8, a9, a10, a11, a12, a13, a14, a15, a16, a17, a18, a19, a20, a21, a22, a23, a24, a25, a26, a27)) :
    ∃ n, wX_partLevel_86 post (nI N) fp fr fd fc n 0 a1 a2 a3 a4 a5 a6 a7 a8 a9 a10 a11 a12 a13 a14 a15 a16 a17 a18 a19 a20 a21 a22 a23 a24 a25 a26 a27 :=
  pk_loop (fun n i s => wX_partLevel_86 post (nI N) fp fr fd fc n (nI i) a1 a2 s a4 a5 a6 a7 a8 a9 a10 a11 a12 a13 a14 a15 a16 a17 a18 a19 a20 a21 a22 a23 a24 a25 a26 a27) (fun i s => ∀ j, j < i → s j = nI c) N 0 a3 (by omega) lt_0
    (fun n s h => pk_le N N (fun _ => H s h) (fun z => absurd z (by omega)))
    (fun n i s hi h hw => pk_le N i (fun z => absurd z (by omega)) (fun _ => ⟨pk_in i 200 (by omega), pk_in i 200 (by omega), nm_e (nm_r (nI_1 i) (hw _ (sx_fill (f := fun _ => nI c) (nI_clamp (by omega)) h (by rw [nI_clamp (by omega), h4 i hi, sx_vb (by omega)]))))⟩))
theorem sx_part_y {post : St2 → Prop} {fp fr fd fc : Int32} {a1 a2 a3 a4 a5 a6 a7 a8 a9 a10 a11 a12 a13 a14 a15 a16 a17 a18 a19 a20 a21 a22 a23 a24 a25 a26 a27 : Nat → Int32} {c N l : Nat} (hc : c < 8) (hl : l < 3) (hN : N ≤ 200) (hd : sx_d c l = 1) (h3 : ∀ j, j < N → a3 j = nI c) (h : sx_R a5 (sx_F c N (3 + l)))
    (H : ∀ b3 b4 b5, (∀ j, j < N → b3 j = nI c) → sx_R b5 (sx_F c N (3 + l + 1)) → post (nI N, fp, fr, fd, fc, a1, a2, b3, b4, b5, a6, a7, a8, a9, a10, a11, a12, a13, a14, a15, a16, a17, a18, a19, a20, a21, a22, a23, a24, a25, a26, a27)) : ∃ n, wX_partLevel_8 post (nI l) n 0 0 0 (nI N) fp fr fd fc a1 a2 a3 a4 a5 a6 a7 a8 a9 a10 a11 a12 a13 a14 a15 a16 a17 a18 a19 a20 a21 a22 a23 a24 a25 a26 a27 := by
  have ho : sx_on c (3 + l) = true := (sx_on3 hl).mpr hd
  refine pk_loop (σ := (Nat → Int32) × (Nat → Int32)) (fun n i s => wX_partLevel_8 post (nI l) n 0 (nI i) (nI i) (nI N) fp fr fd fc a1 a2 a3 s.1 s.2 a6 a7 a8 a9 a10 a11 a12 a13 a14 a15 a16 a17 a18 a19 a20 a21 a22 a23 a24 a25 a26 a27) (fun i s => (∀ j, j < i → s.1 j = nI c) ∧ sx_R s.2 (fun q => if q = 3 + l then i else sx_F c N (3 + l) q)) N 0 (a4, a5) (by omega) ⟨lt_0, ?_⟩ ?_ ?_
  · refine sx_Rc h (fun r hr => ?_)
    try dsimp only
    by_cases e : r = 3 + l
    · rw [if_pos e, e, sx_Fm]
    · rw [if_neg e]
  · rintro n ⟨s4, s5⟩ ⟨g4, g5⟩
    refine pk_le N N (fun _ => sx_part_86 hc hN g4 (fun b hb => H b s4 s5 hb (sx_Rc g5 (fun r hr => ?_)))) (fun z => absurd z (by omega))
    rw [sx_Fs]
    try dsimp only
    by_cases e : r = 3 + l
    · rw [if_pos e, if_pos ⟨e, ho⟩]
    · rw [if_neg e, if_neg (fun t => e t.1)]
  · rintro n i ⟨s4, s5⟩ hi ⟨g4, g5⟩ hw
    refine pk_le N i (fun z => absurd z (by omega)) (fun _ => ⟨pk_in i 200 (by omega), ?_⟩)
    rw [nI_clamp (show i < 2 ^ 31 by omega), h3 i hi]
    refine sx_digitOf rfl rfl hc hl (pk_eq (sx_d c l) 1 (fun _ => ?_) (fun z => absurd hd z) rfl rfl (by omega))
    refine sx_setBit (r := 3 + l) (i := i) (g := fun q => if q = 3 + l then i + 1 else sx_F c N (3 + l) q) (nI_add 3 l) rfl (by omega) (by omega) g5 ?_ ?_ ?_
    · try dsimp only
      rw [if_pos rfl]
    · intro q hq
      try dsimp only
      by_cases e : q = 3 + l
      · rw [if_pos e, if_pos e]
      · rw [if_neg e, if_neg e, if_neg e]
    · intro b hb
      refine ⟨pk_in i 200 (by omega), pk_in i 200 (by omega), nm_e (nm_r (nI_1 i) (nm_r (nI_1 i) (hw (_, b) ⟨sx_fill (f := fun _ => nI c) rfl g4 ?_, hb⟩)))⟩
      rw [h3 i hi, sx_vb (by omega)]
theorem sx_part_n {post : St2 → Prop} {fp fr fd fc : Int32} {a1 a2 a3 a4 a5 a6 a7 a8 a9 a10 a11 a12 a13 a14 a15 a16 a17 a18 a19 a20 a21 a22 a23 a24 a25 a26 a27 : Nat → Int32} {c N l : Nat} {x4 : Int32} (hc : c < 8) (hl : l < 3) (hN : N ≤ 200) (hd : sx_d c l ≠ 1) (h3 : ∀ j, j < N → a3 j = nI c) (h : sx_R a5 (sx_F c N (3 + l)))
    (H : ∀ b3 b4 b5, (∀ j, j < N → b3 j = nI c) → sx_R b5 (sx_F c N (3 + l + 1)) → post (nI N, fp, fr, fd, fc, a1, a2, b3, b4, b5, a6, a7, a8, a9, a10, a11, a12, a13, a14, a15, a16, a17, a18, a19, a20, a21, a22, a23, a24, a25, a26, a27)) : ∃ n, wX_partLevel_8 post (nI l) n 0 x4 0 (nI N) fp fr fd fc a1 a2 a3 a4 a5 a6 a7 a8 a9 a10 a11 a12 a13 a14 a15 a16 a17 a18 a19 a20 a21 a22 a23 a24 a25 a26 a27 := by
  have ho : ¬ sx_on c (3 + l) = true := fun z => hd ((sx_on3 hl).mp z)
  have h2 := sx_d2 c l
  refine pk_loop (fun n i s => wX_partLevel_8 post (nI l) n (nI i) x4 (nI i) (nI N) fp fr fd fc a1 a2 a3 s a5 a6 a7 a8 a9 a10 a11 a12 a13 a14 a15 a16 a17 a18 a19 a20 a21 a22 a23 a24 a25 a26 a27) (fun i s => ∀ j, j < i → s j = nI c) N 0 a4 (by omega) lt_0 ?_ ?_
  · intro n s4 g4
    refine pk_le N N (fun _ => sx_part_86 hc hN g4 (fun b hb => H b s4 a5 hb (sx_Rc h (fun r hr => ?_)))) (fun z => absurd z (by omega))
    rw [sx_Fs, if_neg (fun t => ho t.2)]
  · intro n i s4 hi g4 hw
    refine pk_le N i (fun z => absurd z (by omega)) (fun _ => ⟨pk_in i 200 (by omega), ?_⟩)
    rw [nI_clamp (show i < 2 ^ 31 by omega), h3 i hi]
    refine sx_digitOf rfl rfl hc hl (pk_eq (sx_d c l) 1 (fun z => absurd z hd) (fun _ => ?_))
    refine ⟨pk_in i 200 (by omega), pk_in i 200 (by omega), nm_e (nm_r (nI_1 i) (nm_r (nI_1 i) (hw _ (sx_fill (f := fun _ => nI c) rfl g4 ?_))))⟩
    exact sx_vb (by omega)
def sx_Z (c N m : Nat) (a : Nat → Int32) : Prop := ∀ l, l < m → a l = nI (if sx_d c l = 1 then 0 else N)
theorem sx_level {post : St2 → Prop} {J : Int32 → Int32 → Int32 → Int32 → Int32 → Int32 → (Nat → Int32) → (Nat → Int32) → (Nat → Int32) → (Nat → Int32) → (Nat → Int32) → (Nat → Int32) → (Nat → Int32) → (Nat → Int32) → (Nat → Int32) → (Nat → Int32) → (Nat → Int32) → (Nat → Int32) → (Nat → Int32) → (Nat → Int32) → (Nat → Int32) → (Nat → Int32) → (Nat → Int32) → (Nat → Int32) → (Nat → Int32) → (Nat → Int32) → (Nat → Int32) → (Nat → Int32) → (Nat → Int32) → (Nat → Int32) → (Nat → Int32) → (Nat → Int32) → (Nat → Int32) → Prop} {fp fr fd fc : Int32} {a1 a2 a3 a4 a5 a6 a7 a8 a9 a10 a11 a12 a13 a14 a15 a16 a17 a18 a19 a20 a21 a22 a23 a24 a25 a26 a27 : Nat → Int32} {c N l : Nat} (hc : c < 8) (hl : l < 3) (hN : N ≤ 200) (h3 : ∀ j, j < N → a3 j = nI c) (h : sx_R a5 (sx_F c N (3 + l))) (h8 : sx_Z c N l a8)
    (H : ∀ b3 b4 b5 b8, (∀ j, j < N → b3 j = nI c) → sx_R b5 (sx_F c N (3 + (l + 1))) → sx_Z c N (l + 1) b8 → J (nI (l + 1)) (nI N) fp fr fd fc a1 a2 b3 b4 b5 a6 a7 b8 a9 a10 a11 a12 a13 a14 a15 a16 a17 a18 a19 a20 a21 a22 a23 a24 a25 a26 a27) :
    ∃ n, wX_packMatrix_39 post J (nI l) (nI N) fp fr fd fc a1 a2 a3 a4 a5 a6 a7 a8 a9 a10 a11 a12 a13 a14 a15 a16 a17 a18 a19 a20 a21 a22 a23 a24 a25 a26 a27 n 0 0 := by
  have h2 := sx_d2 c l
  by_cases hd : sx_d c l = 1
  · refine pk_loop (σ := Unit) (fun n i _ => wX_packMatrix_39 post J (nI l) (nI N) fp fr fd fc a1 a2 a3 a4 a5 a6 a7 a8 a9 a10 a11 a12 a13 a14 a15 a16 a17 a18 a19 a20 a21 a22 a23 a24 a25 a26 a27 n 0 (nI i)) (fun _ _ => True) N 0 () (by omega) trivial ?_ ?_
    · intro n _ _
      refine pk_le N N (fun _ => ⟨pk_in l 3 hl, nm_r (e' := upd a8 l (nI 0)) (by rw [nI_clamp (by omega)]; rfl) ?_⟩) (fun z => absurd z (by omega))
      unfold wpX_partLevel
      dsimp only
      refine sx_part_y hc hl hN hd h3 h (fun b3 b4 b5 g3 g5 => nm_r (nI_1 l) (H b3 b4 b5 _ g3 g5 (sx_fill (f := fun l => nI (if sx_d c l = 1 then 0 else N)) rfl h8 ?_)))
      rw [if_pos hd]
    · intro n i _ hi _ hw
      refine pk_le N i (fun z => absurd z (by omega)) (fun _ => ⟨pk_in i 200 (by omega), ?_⟩)
      rw [nI_clamp (show i < 2 ^ 31 by omega), h3 i hi]
      exact sx_digitOf rfl rfl hc hl (pk_eq (sx_d c l) 0 (fun z => absurd z (by omega)) (fun _ => nm_r (e' := 0) (by decide) (nm_r (nI_1 i) (hw () trivial))))
  · refine pk_loop (σ := Unit) (fun n i _ => wX_packMatrix_39 post J (nI l) (nI N) fp fr fd fc a1 a2 a3 a4 a5 a6 a7 a8 a9 a10 a11 a12 a13 a14 a15 a16 a17 a18 a19 a20 a21 a22 a23 a24 a25 a26 a27 n (nI i) (nI i)) (fun _ _ => True) N 0 () (by omega) trivial ?_ ?_
    · intro n _ _
      refine pk_le N N (fun _ => ⟨pk_in l 3 hl, nm_r (e' := upd a8 l (nI N)) (by rw [nI_clamp (by omega), sx_s16 N (by omega)]) ?_⟩) (fun z => absurd z (by omega))
      unfold wpX_partLevel
      dsimp only
      refine sx_part_n hc hl hN hd h3 h (fun b3 b4 b5 g3 g5 => nm_r (nI_1 l) (H b3 b4 b5 _ g3 g5 (sx_fill (f := fun l => nI (if sx_d c l = 1 then 0 else N)) rfl h8 ?_)))
      rw [if_neg hd]
    · intro n i _ hi _ hw
      refine pk_le N i (fun z => absurd z (by omega)) (fun _ => ⟨pk_in i 200 (by omega), ?_⟩)
      rw [nI_clamp (show i < 2 ^ 31 by omega), h3 i hi]
      exact sx_digitOf rfl rfl hc hl (pk_eq (sx_d c l) 0 (fun _ => nm_r (nI_1 i) (nm_r (nI_1 i) (hw () trivial))) (fun z => absurd z (by omega)))
theorem sx_packMatrix {post : St2 → Prop} {fp fr fd fc : Int32} {a1 a2 a3 a4 a5 a6 a7 a8 a9 a10 a11 a12 a13 a14 a15 a16 a17 a18 a19 a20 a21 a22 a23 a24 a25 a26 a27 : Nat → Int32} {c N : Nat} (hc : c < 8) (hN : N ≤ 200) (h1 : ∀ j, j < N → a1 j = nI c) (h : sx_R a5 (sx_F c N 3))
    (H : ∀ b3 b4 b5 b8, sx_R b5 (sx_F c N 6) → sx_Z c N 3 b8 → post (nI N, fp, fr, fd, fc, a1, a2, b3, b4, b5, a6, a7, b8, a9, a10, a11, a12, a13, a14, a15, a16, a17, a18, a19, a20, a21, a22, a23, a24, a25, a26, a27)) : wpX_packMatrix post (nI N, fp, fr, fd, fc, a1, a2, a3, a4, a5, a6, a7, a8, a9, a10, a11, a12, a13, a14, a15, a16, a17, a18, a19, a20, a21, a22, a23, a24, a25, a26, a27) := by
  unfold wpX_packMatrix
  dsimp only
  refine pk_loop (fun n i s => wX_packMatrix_2 post (nI N) fp fr fd fc n (nI i) a1 a2 s a4 a5 a6 a7 a8 a9 a10 a11 a12 a13 a14 a15 a16 a17 a18 a19 a20 a21 a22 a23 a24 a25 a26 a27) (fun i s => ∀ j, j < i → s j = nI c) N 0 a3 (by omega) lt_0 ?_ ?_
  · intro n s3 g3
    refine pk_le N N (fun _ => ?_) (fun z => absurd z (by omega))
    refine pk_loop (σ := (Nat → Int32) × (Nat → Int32) × (Nat → Int32) × (Nat → Int32)) (fun n l s => wX_packMatrix_30 post n (nI l) (nI N) fp fr fd fc a1 a2 s.1 s.2.1 s.2.2.1 a6 a7 s.2.2.2 a9 a10 a11 a12 a13 a14 a15 a16 a17 a18 a19 a20 a21 a22 a23 a24 a25 a26 a27)
      (fun l s => (∀ j, j < N → s.1 j = nI c) ∧ sx_R s.2.2.1 (sx_F c N (3 + l)) ∧ sx_Z c N l s.2.2.2) 3 0 (s3, a4, a5, a8) (by omega) ⟨g3, h, lt_0⟩ ?_ ?_
    · rintro n ⟨t3, t4, t5, t8⟩ ⟨k3, k5, k8⟩
      exact pk_le 3 3 (fun _ => H t3 t4 t5 t8 k5 k8) (fun z => absurd z (by omega))
    · rintro n l ⟨t3, t4, t5, t8⟩ hl ⟨k3, k5, k8⟩ hw
      exact pk_le 3 l (fun z => absurd z (by omega)) (fun _ => sx_level hc hl hN k3 k5 k8 (fun b3 b4 b5 b8 m3 m5 m8 => hw (b3, b4, b5, b8) ⟨m3, m5, m8⟩))
  · intro n i s hi hs hw
    exact pk_le N i (fun z => absurd z (by omega)) (fun _ => ⟨pk_in i 200 (by omega), pk_in i 200 (by omega), nm_e (nm_r (nI_1 i) (hw _ (sx_fill (f := fun _ => nI c) (nI_clamp (by omega)) hs (by rw [nI_clamp (by omega), h1 i hi, sx_vb (by omega)]))))⟩)
/-! the maps' rows -/
theorem sx_F21 {c N r : Nat} (hr : r < 21) : sx_F c N 21 r = if r = 6 + c then N else sx_F c N 6 r := by
  unfold sx_F
  by_cases e : r = 6 + c
  · rw [if_pos e, e, if_pos ⟨by omega, sx_on6.mpr rfl⟩]
  · rw [if_neg e]
    by_cases k : r < 6
    · by_cases o : sx_on c r = true
      · rw [if_pos ⟨by omega, o⟩, if_pos ⟨k, o⟩]
      · rw [if_neg (fun z => o z.2), if_neg (fun z => o z.2)]
    · obtain ⟨q, rfl⟩ : ∃ q, r = 6 + q := ⟨r - 6, by omega⟩
      rw [if_neg (c := 6 + q < 21 ∧ sx_on c (6 + q) = true) (fun z => e (by rw [sx_on6.mp z.2])), if_neg (fun z => k z.1)]
theorem sx_packMaps {post : St2 → Prop} {fp fr fd fc : Int32} {a1 a2 a3 a4 a5 a6 a7 a8 a9 a10 a11 a12 a13 a14 a15 a16 a17 a18 a19 a20 a21 a22 a23 a24 a25 a26 a27 : Nat → Int32} {c N : Nat} (hc : c < 8) (hN : N ≤ 200) (h1 : ∀ j, j < N → a1 j = nI c) (h : sx_R a5 (sx_F c N 6))
    (H : ∀ b5, sx_R b5 (sx_F c N 21) → post (nI N, fp, fr, fd, fc, a1, a2, a3, a4, b5, a6, a7, a8, a9, a10, a11, a12, a13, a14, a15, a16, a17, a18, a19, a20, a21, a22, a23, a24, a25, a26, a27)) : wpX_packMaps post (nI N, fp, fr, fd, fc, a1, a2, a3, a4, a5, a6, a7, a8, a9, a10, a11, a12, a13, a14, a15, a16, a17, a18, a19, a20, a21, a22, a23, a24, a25, a26, a27) := by
  unfold wpX_packMaps
  dsimp only
  refine pk_loop (fun n i s => wX_packMaps_2 post n (nI i) (nI N) fp fr fd fc a1 a2 a3 a4 s a6 a7 a8 a9 a10 a11 a12 a13 a14 a15 a16 a17 a18 a19 a20 a21 a22 a23 a24 a25 a26 a27) (fun i s => sx_R s (fun q => if q = 6 + c then i else sx_F c N 6 q)) N 0 a5 (by omega) ?_ ?_ ?_
  · refine sx_Rc h (fun r hr => ?_)
    try dsimp only
    by_cases e : r = 6 + c
    · rw [if_pos e, e]
      unfold sx_F
      rw [if_neg (by omega)]
    · rw [if_neg e]
  · intro n s hs
    exact pk_le N N (fun _ => H s (sx_Rc hs (fun r hr => sx_F21 hr))) (fun z => absurd z (by omega))
  · intro n i s hi hs hw
    refine pk_le N i (fun z => absurd z (by omega)) (fun _ => ⟨pk_in i 200 (by omega), ?_⟩)
    rw [nI_clamp (show i < 2 ^ 31 by omega), h1 i hi]
    refine sx_setBit (r := 6 + c) (i := i) (g := fun q => if q = 6 + c then i + 1 else sx_F c N 6 q) (nI_add 6 c) rfl (by omega) (by omega) hs ?_ ?_ ?_
    · try dsimp only
      rw [if_pos rfl]
    · intro q hq
      try dsimp only
      by_cases e : q = 6 + c
      · rw [if_pos e, if_pos e]
      · rw [if_neg e, if_neg e, if_neg e]
    · exact fun b hb => nm_r (nI_1 i) (hw b hb)
end
section
/-! the tree of codes: one letter at most, no node -/
theorem sx_rare0 {post : Int32 → Prop} {fn fp fr fc : Int32} {a1 a2 a3 a4 a5 a6 a7 a8 a9 a10 a11 a12 a13 a14 a15 a16 a17 a18 a19 a20 a21 a22 a23 a24 a25 a26 a27 : Nat → Int32} (h : ∀ j, j < 8 → ¬ a25 j = 0 ∨ a24 j ≤ 0) (H : post (-1)) : wpX_rarest post (fn, fp, fr, 0, fc, a1, a2, a3, a4, a5, a6, a7, a8, a9, a10, a11, a12, a13, a14, a15, a16, a17, a18, a19, a20, a21, a22, a23, a24, a25, a26, a27) := by
  unfold wpX_rarest
  dsimp only
  refine pk_loop (σ := Unit) (fun n i _ => wX_rarest_4 post fn fp fr 0 fc a1 a2 a3 a4 a5 a6 a7 a8 a9 a10 a11 a12 a13 a14 a15 a16 a17 a18 a19 a20 a21 a22 a23 a24 a25 a26 a27 n (-1) (nI i)) (fun _ _ => True) 8 0 () (by omega) trivial ?_ ?_
  · intro n _ _
    exact pk_le 8 8 (fun _ => H) (fun z => absurd z (by omega))
  · intro n i _ hi _ hw
    refine pk_le 8 i (fun z => absurd z (by omega)) (fun _ => ⟨pk_in i 16 (by omega), ?_⟩)
    rw [nI_clamp (show i < 2 ^ 31 by omega)]
    have k : wX_rarest_37 post (wX_rarest_4 post fn fp fr 0 fc a1 a2 a3 a4 a5 a6 a7 a8 a9 a10 a11 a12 a13 a14 a15 a16 a17 a18 a19 a20 a21 a22 a23 a24 a25 a26 a27 n) (-1) (nI i) fn fp fr 0 fc a1 a2 a3 a4 a5 a6 a7 a8 a9 a10 a11 a12 a13 a14 a15 a16 a17 a18 a19 a20 a21 a22 a23 a24 a25 a26 a27 := br_t rfl (nm_r (nI_1 i) (hw () trivial))
    refine br_c (fun z => ⟨pk_in i 16 (by omega), br_c (fun _ => k) (fun g => ?_)⟩) (fun _ => k)
    rcases h i hi with t | t
    · exact absurd z t
    · exact absurd t g
theorem sx_rare1 {post : Int32 → Prop} {fn fp fr fc : Int32} {a1 a2 a3 a4 a5 a6 a7 a8 a9 a10 a11 a12 a13 a14 a15 a16 a17 a18 a19 a20 a21 a22 a23 a24 a25 a26 a27 : Nat → Int32} {c : Nat} (hc : c < 8) (h : ∀ j, j < 8 → j ≠ c → a24 j ≤ 0) (h5 : a25 c = 0) (h4 : ¬ a24 c ≤ 0) (H : post (nI c)) : wpX_rarest post (fn, fp, fr, 0, fc, a1, a2, a3, a4, a5, a6, a7, a8, a9, a10, a11, a12, a13, a14, a15, a16, a17, a18, a19, a20, a21, a22, a23, a24, a25, a26, a27) := by
  unfold wpX_rarest
  dsimp only
  refine pk_loop (σ := Int32) (fun n i s => wX_rarest_4 post fn fp fr 0 fc a1 a2 a3 a4 a5 a6 a7 a8 a9 a10 a11 a12 a13 a14 a15 a16 a17 a18 a19 a20 a21 a22 a23 a24 a25 a26 a27 n s (nI i)) (fun i s => (i ≤ c → s = -1) ∧ (c < i → s = nI c)) 8 0 (-1) (by omega) ⟨fun _ => rfl, fun z => absurd z (by omega)⟩ ?_ ?_
  · intro n s hs
    rw [hs.2 hc]
    exact pk_le 8 8 (fun _ => H) (fun z => absurd z (by omega))
  · intro n i s hi hs hw
    refine pk_le 8 i (fun z => absurd z (by omega)) (fun _ => ⟨pk_in i 16 (by omega), ?_⟩)
    rw [nI_clamp (show i < 2 ^ 31 by omega)]
    by_cases e : i = c
    · subst e
      rw [hs.1 (Nat.le_refl _)]
      exact br_t h5 ⟨pk_in i 16 (by omega), br_f h4 (br_f (by decide) (br_t (by decide) (nm_r (nI_1 i) (hw (nI i) ⟨fun z => absurd z (by omega), fun _ => rfl⟩))))⟩
    · have k : wX_rarest_37 post (wX_rarest_4 post fn fp fr 0 fc a1 a2 a3 a4 a5 a6 a7 a8 a9 a10 a11 a12 a13 a14 a15 a16 a17 a18 a19 a20 a21 a22 a23 a24 a25 a26 a27 n) s (nI i) fn fp fr 0 fc a1 a2 a3 a4 a5 a6 a7 a8 a9 a10 a11 a12 a13 a14 a15 a16 a17 a18 a19 a20 a21 a22 a23 a24 a25 a26 a27 := br_t rfl (nm_r (nI_1 i) (hw s ⟨fun z => hs.1 (by omega), fun z => hs.2 (by omega)⟩))
      exact br_c (fun z => ⟨pk_in i 16 (by omega), br_t (h i hi e) k⟩) (fun _ => k)
theorem sx_codes_e {post : St2 → Prop} {fn fp fr : Int32} {a1 a2 a3 a4 a5 a6 a7 a8 a9 a10 a11 a12 a13 a14 a15 a16 a17 a18 a19 a20 a21 a22 a23 a24 a25 a26 a27 : Nat → Int32} (H : post (fn, fp, fr, 0, 0, a1, a2, a3, a4, a5, a6, a7, a8, a9, a10, a11, a12, a13, a14, a15, a16, a17, a18, a19, a20, a21, a22, a23, a24, a25, a26, a27)) : wX_packCodes_69 post fn fp fr 1 0 0 0 a1 a2 a3 a4 a5 a6 a7 a8 a9 a10 a11 a12 a13 a14 a15 a16 a17 a18 a19 a20 a21 a22 a23 a24 a25 a26 a27 := by
  refine br_t rfl ?_
  unfold wpX_nameCodes
  dsimp only
  exact nm_r (e' := -1) (by decide) ⟨1, br_t (by decide) ⟨1, br_t (Int32.le_refl 0) H⟩⟩
theorem sx_codes_l {post : St2 → Prop} {fn fp fr : Int32} {a1 a2 a3 a4 a5 a6 a7 a8 a9 a10 a11 a12 a13 a14 a15 a16 a17 a18 a19 a20 a21 a22 a23 a24 a25 a26 a27 : Nat → Int32} {c N : Nat} (hc : c < 8) (hN : N ≤ 200) (h24 : ∀ j, j < 16 → a24 j = nI (if j = c then N else 0)) (h25 : ∀ j, j < 16 → a25 j = 0)
    (H : ∀ b25, post (fn, fp, fr, 0, 0, a1, a2, a3, a4, a5, a6, a7, a8, a9, a10, a11, a12, a13, a14, a15, a16, a17, a18, a19, a20, a21, a22, a23, a24, b25, a26, a27)) : ∃ n, wX_packCodes_69 post fn fp fr n 1 0 0 a1 a2 a3 a4 a5 a6 a7 a8 a9 a10 a11 a12 a13 a14 a15 a16 a17 a18 a19 a20 a21 a22 a23 a24 a25 a26 a27 := by
  have hno : ∀ j, j < 8 → j ≠ c → a24 j ≤ 0 := by
    intro j hj e
    rw [h24 j (by omega), if_neg e]
    decide
  refine ⟨2, br_f (by decide) ?_⟩
  by_cases n0 : N = 0
  · have hz : ∀ j, j < 8 → ¬ a25 j = 0 ∨ a24 j ≤ 0 := by
      intro j hj
      rw [h24 j (by omega), n0]
      refine Or.inr ?_
      by_cases e : j = c
      · rw [if_pos e]
        decide
      · rw [if_neg e]
        decide
    refine sx_rare0 hz (br_t (by decide) ?_)
    unfold wX_packCodes_89
    refine sx_rare0 hz (br_t (by decide) ?_)
    exact br_t rfl (sx_codes_e (H a25))
  · have h4 : ¬ a24 c ≤ 0 := by
      rw [h24 c (by omega), if_pos rfl]
      exact nI_nle (by omega) (by omega)
    refine sx_rare1 hc hno (h25 c (by omega)) h4 (br_f (nI_pos (by omega)) ⟨pk_in c 16 (by omega), nm_r (e' := upd a25 c 1) (by rw [nI_clamp (by omega)]) ?_⟩)
    unfold wX_packCodes_89
    refine sx_rare0 ?_ (br_t (by decide) ?_)
    · intro j hj
      by_cases e : j = c
      · rw [e, pk_us]
        exact Or.inl (by decide)
      · exact Or.inr (hno j hj e)
    · exact br_t rfl (sx_codes_e (H _))
theorem sx_packCodes {post : St2 → Prop} {fn fp fr fd fc : Int32} {a1 a2 a3 a4 a5 a6 a7 a8 a9 a10 a11 a12 a13 a14 a15 a16 a17 a18 a19 a20 a21 a22 a23 a24 a25 a26 a27 : Nat → Int32} {c N : Nat} (hc : c < 8) (hN : N ≤ 200) (h2 : ∀ j, j < 8 → a2 j = nI (if j = c then N else 0))
    (H : ∀ b24 b25 b26 b27, (∀ j, j < 16 → b26 j = 0) → post (fn, fp, fr, 0, 0, a1, a2, a3, a4, a5, a6, a7, a8, a9, a10, a11, a12, a13, a14, a15, a16, a17, a18, a19, a20, a21, a22, a23, b24, b25, b26, b27)) : wpX_packCodes post (fn, fp, fr, fd, fc, a1, a2, a3, a4, a5, a6, a7, a8, a9, a10, a11, a12, a13, a14, a15, a16, a17, a18, a19, a20, a21, a22, a23, a24, a25, a26, a27) := by
  unfold wpX_packCodes
  dsimp only
  refine pk_loop (σ := (Nat → Int32) × (Nat → Int32) × (Nat → Int32) × (Nat → Int32)) (fun n i s => wX_packCodes_12 post fn fp fr 0 0 n (nI i) a1 a2 a3 a4 a5 a6 a7 a8 a9 a10 a11 a12 a13 a14 a15 a16 a17 a18 a19 a20 a21 a22 a23 s.1 s.2.1 s.2.2.1 s.2.2.2)
    (fun i s => (∀ j, j < i → s.1 j = nI (if j = c then N else 0)) ∧ (∀ j, j < i → s.2.1 j = 0) ∧ (∀ j, j < i → s.2.2.1 j = 0)) 16 0 (a24, a25, a26, a27) (by omega) ⟨lt_0, lt_0, lt_0⟩ ?_ ?_
  · rintro n ⟨s24, s25, s26, s27⟩ ⟨g24, g25, g26⟩
    exact pk_le 16 16 (fun _ => sx_codes_l hc hN g24 g25 (fun b25 => H _ _ _ _ g26)) (fun z => absurd z (by omega))
  · rintro n i ⟨s24, s25, s26, s27⟩ hi ⟨g24, g25, g26⟩ hw
    have k : ∀ z : Int32, z = nI (if i = c then N else 0) → wX_packCodes_39 post (wX_packCodes_12 post fn fp fr 0 0 n) (nI i) z (nI i) fn fp fr 0 0 a1 a2 a3 a4 a5 a6 a7 a8 a9 a10 a11 a12 a13 a14 a15 a16 a17 a18 a19 a20 a21 a22 a23 s24 s25 s26 s27 := by
      intro z hz
      unfold wX_packCodes_39
      rw [nI_clamp (show i < 2 ^ 31 by omega)]
      refine ⟨pk_in i 16 hi, nm_e ⟨pk_in i 16 hi, nm_e ⟨pk_in i 16 hi, nm_e ⟨pk_in i 16 hi, nm_e (nm_r (nI_1 i) (hw (_, _, _, _) ⟨sx_fill (f := fun j => nI (if j = c then N else 0)) rfl g24 ?_, sx_fill (f := fun _ => 0) rfl g25 rfl, sx_fill (f := fun _ => 0) rfl g26 rfl⟩))⟩⟩⟩⟩
      rw [hz]
      refine sx_vs ?_
      by_cases e : i = c
      · rw [if_pos e]
        omega
      · rw [if_neg e]
        omega
    refine pk_le 16 i (fun z => absurd z (by omega)) (fun _ => pk_le 8 i (fun z => k 0 ?_) (fun z => ⟨pk_in i 8 z, k _ ?_⟩))
    · rw [if_neg (by omega)]
      rfl
    · rw [nI_clamp (show i < 2 ^ 31 by omega)]
      exact h2 i z
end
section
/-! the sums of a row -/
theorem sx_sb : ∀ m, m < 33 → ∀ b, b < 4 → ((((nI (2 ^ m - 1)).toUInt32 >>> ((8 * nI b).toUInt32 &&& Int32.toUInt32 31)).toInt32) &&& 255) = nI (2 ^ (min 8 (m - 8 * b)) - 1) := by decide +kernel
theorem sx_sum_in {post : St2 → Prop} {J : Int32 → Int32 → (Nat → Int32) → (Nat → Int32) → (Nat → Int32) → (Nat → Int32) → (Nat → Int32) → (Nat → Int32) → (Nat → Int32) → (Nat → Int32) → (Nat → Int32) → (Nat → Int32) → (Nat → Int32) → (Nat → Int32) → (Nat → Int32) → (Nat → Int32) → (Nat → Int32) → (Nat → Int32) → (Nat → Int32) → (Nat → Int32) → (Nat → Int32) → (Nat → Int32) → (Nat → Int32) → (Nat → Int32) → (Nat → Int32) → (Nat → Int32) → (Nat → Int32) → (Nat → Int32) → (Nat → Int32) → Prop} {fn fp fr fd fc : Int32} {a1 a2 a3 a4 a5 a6 a7 a8 a9 a10 a11 a12 a13 a14 a15 a16 a17 a18 a19 a20 a21 a22 a23 a24 a25 a26 a27 : Nat → Int32} {f : Nat → Nat} {r w : Nat} (hr : r < 21) (hw7 : w < 7) (hf : f r ≤ 200) (h5 : sx_R a5 f) (h7 : ∀ j, j < r * 28 + 4 * w → a7 j = sx_G7 f j)
    (HJ : ∀ b7, (∀ j, j < r * 28 + 4 * (w + 1) → b7 j = sx_G7 f j) → J (nI (min (f r) (32 * (w + 1)))) (nI (w + 1)) a1 a2 a3 a4 a5 a6 b7 a8 a9 a10 a11 a12 a13 a14 a15 a16 a17 a18 a19 a20 a21 a22 a23 a24 a25 a26 a27) :
    ∃ n, wX_sumRow_29 post J (nI r) (nI (min (f r) (32 * w))) (nI w) fn fp fr fd fc n 0 0 a1 a2 a3 a4 a5 a6 a7 a8 a9 a10 a11 a12 a13 a14 a15 a16 a17 a18 a19 a20 a21 a22 a23 a24 a25 a26 a27 := by
  refine pk_loop (σ := Int32 × (Nat → Int32)) (fun n b s => wX_sumRow_29 post J (nI r) (nI (min (f r) (32 * w))) (nI w) fn fp fr fd fc n s.1 (nI b) a1 a2 a3 a4 a5 a6 s.2 a8 a9 a10 a11 a12 a13 a14 a15 a16 a17 a18 a19 a20 a21 a22 a23 a24 a25 a26 a27)
    (fun b s => s.1 = nI (min (f r - 32 * w) (8 * b)) ∧ ∀ j, j < r * 28 + 4 * w + b → s.2 j = sx_G7 f j) 4 0 (0, a7) (by omega) ⟨?_, h7⟩ ?_ ?_
  · rw [Nat.mul_zero, Nat.min_zero]
    rfl
  · rintro n ⟨x4, s⟩ ⟨e4, g7⟩
    try dsimp only at e4 g7
    subst e4
    refine pk_le 4 4 (fun _ => nm_r (e' := nI (min (f r) (32 * (w + 1)))) ?_ (nm_r (nI_1 w) (HJ s (fun j hj => g7 j (by omega))))) (fun z => absurd z (by omega))
    rw [nI_add, show min (f r) (32 * w) + min (f r - 32 * w) (8 * 4) = min (f r) (32 * (w + 1)) by omega]
  · rintro n b ⟨x4, s⟩ hb ⟨e4, g7⟩ hw
    try dsimp only at e4 g7
    subst e4
    have e1 : nI r * 28 + 4 * nI w + nI b = nI (r * 28 + 4 * w + b) := by
      rw [show (28 : Int32) = nI 28 from rfl, show (4 : Int32) = nI 4 from rfl, pk_mul, pk_mul, nI_add, nI_add]
    have e2 : nI r * 7 + nI w = nI (r * 7 + w) := by
      rw [show (7 : Int32) = nI 7 from rfl, pk_mul, nI_add]
    refine pk_le 4 b (fun z => absurd z (by omega)) (fun _ => ?_)
    rw [e1, e2, nI_clamp (show r * 28 + 4 * w + b < 2 ^ 31 by omega), nI_clamp (show r * 7 + w < 2 ^ 31 by omega), h5 r hr w hw7]
    refine ⟨vp_in_nI (by omega) (by decide), nm_e ⟨vp_in_nI (by omega) (by decide), sx_onesIn (k := min 8 (min 32 (f r - 32 * w) - 8 * b)) ?_ (by omega) ?_⟩⟩
    · unfold sx_w
      exact sx_sb _ (by omega) b hb
    · refine nm_r (e' := nI (min (f r - 32 * w) (8 * (b + 1)))) ?_ (nm_r (nI_1 b) (hw (_, _) ⟨rfl, sx_fill (f := sx_G7 f) (i := r * 28 + 4 * w + b) rfl g7 ?_⟩))
      · rw [nI_add, show min (f r - 32 * w) (8 * b) + min 8 (min 32 (f r - 32 * w) - 8 * b) = min (f r - 32 * w) (8 * (b + 1)) by omega]
      · rw [sx_b8 _ (by omega)]
        unfold sx_G7
        rw [show (r * 28 + 4 * w + b) / 28 = r by omega, show (r * 28 + 4 * w + b) % 28 = 4 * w + b by omega, show (4 * w + b) / 4 = w by omega,
          show min (f r) (8 * (4 * w + b)) - min (f r) (32 * w) = min (f r - 32 * w) (8 * b) by omega]
theorem sx_sumRow {post : St2 → Prop} {fn fp fr fd fc : Int32} {a1 a2 a3 a4 a5 a6 a7 a8 a9 a10 a11 a12 a13 a14 a15 a16 a17 a18 a19 a20 a21 a22 a23 a24 a25 a26 a27 : Nat → Int32} {f : Nat → Nat} {r : Nat} {x : Int32} (hx : x = nI r) (hr : r < 21) (hf : f r ≤ 200) (h5 : sx_R a5 f) (h6 : ∀ j, j < r * 8 → a6 j = sx_G6 f j) (h7 : ∀ j, j < r * 28 → a7 j = sx_G7 f j)
    (H : ∀ b6 b7, (∀ j, j < (r + 1) * 8 → b6 j = sx_G6 f j) → (∀ j, j < (r + 1) * 28 → b7 j = sx_G7 f j) → post (fn, fp, fr, fd, fc, a1, a2, a3, a4, a5, b6, b7, a8, a9, a10, a11, a12, a13, a14, a15, a16, a17, a18, a19, a20, a21, a22, a23, a24, a25, a26, a27)) : wpX_sumRow post (fn, fp, fr, fd, fc, a1, a2, a3, a4, a5, a6, a7, a8, a9, a10, a11, a12, a13, a14, a15, a16, a17, a18, a19, a20, a21, a22, a23, a24, a25, a26, a27) x := by
  subst hx
  unfold wpX_sumRow
  dsimp only
  refine pk_loop (σ := Int32 × (Nat → Int32) × (Nat → Int32)) (fun n w s => wX_sumRow_4 post (nI r) fn fp fr fd fc n s.1 (nI w) a1 a2 a3 a4 a5 s.2.1 s.2.2 a8 a9 a10 a11 a12 a13 a14 a15 a16 a17 a18 a19 a20 a21 a22 a23 a24 a25 a26 a27)
    (fun w s => s.1 = nI (min (f r) (32 * w)) ∧ (∀ j, j < r * 8 + w → s.2.1 j = sx_G6 f j) ∧ (∀ j, j < r * 28 + 4 * w → s.2.2 j = sx_G7 f j)) 7 0 (0, a6, a7) (by omega) ⟨?_, h6, h7⟩ ?_ ?_
  · rw [Nat.mul_zero, Nat.min_zero]
    rfl
  · rintro n ⟨x2, s6, s7⟩ ⟨e2, g6, g7⟩
    try dsimp only at e2 g6 g7
    subst e2
    have e1 : nI r * 8 + 7 = nI (r * 8 + 7) := by
      rw [show (8 : Int32) = nI 8 from rfl, show (7 : Int32) = nI 7 from rfl, pk_mul, nI_add]
    refine pk_le 7 7 (fun _ => ?_) (fun z => absurd z (by omega))
    rw [e1, nI_clamp (show r * 8 + 7 < 2 ^ 31 by omega)]
    refine ⟨vp_in_nI (by omega) (by decide), nm_e (H _ _ (fun j hj => sx_fill (f := sx_G6 f) rfl g6 ?_ j (by omega)) (fun j hj => g7 j (by omega)))⟩
    rw [sx_s16 _ (by omega)]
    unfold sx_G6
    rw [show (r * 8 + 7) / 8 = r by omega, show (r * 8 + 7) % 8 = 7 by omega]
  · rintro n w ⟨x2, s6, s7⟩ hw7 ⟨e2, g6, g7⟩ hw
    try dsimp only at e2 g6 g7
    subst e2
    have e1 : nI r * 8 + nI w = nI (r * 8 + w) := by
      rw [show (8 : Int32) = nI 8 from rfl, pk_mul, nI_add]
    refine pk_le 7 w (fun z => absurd z (by omega)) (fun _ => ?_)
    rw [e1, nI_clamp (show r * 8 + w < 2 ^ 31 by omega)]
    refine ⟨vp_in_nI (by omega) (by decide), nm_e (sx_sum_in hr hw7 hf h5 g7 (fun b7 k7 => hw (_, _, b7) ⟨rfl, sx_fill (f := sx_G6 f) (i := r * 8 + w) rfl g6 ?_, k7⟩))⟩
    rw [sx_s16 _ (by omega)]
    unfold sx_G6
    rw [show (r * 8 + w) / 8 = r by omega, show (r * 8 + w) % 8 = w by omega]
end
section
/-! low and high parts: the width is 0, the ones stand at the even places -/
def sx_h (i w : Nat) : Int32 := nI ((4 ^ (min 16 (i - 16 * w)) - 1) / 3)
def sx_H (c i : Nat) (a : Nat → Int32) : Prop := ∀ w, w < 13 → a (c * 13 + w) = sx_h i w
def sx_Hp (c N : Nat) (a9 a10 a11 a12 : Nat → Int32) : Prop := a9 c = 0 ∧ a10 c = 0 ∧ (∀ k, k < N → a11 k = 0) ∧ sx_H c N a12
theorem sx_or2 : ∀ m, m < 16 → nI ((4 ^ m - 1) / 3) ||| ((1 : Int32) <<< (nI (2 * m) &&& 31)) = nI ((4 ^ (m + 1) - 1) / 3) := by decide +kernel
theorem sx_setHigh {post : St2 → Prop} {fn fp fr fd fc : Int32} {a1 a2 a3 a4 a5 a6 a7 a8 a9 a10 a11 a12 a13 a14 a15 a16 a17 a18 a19 a20 a21 a22 a23 a24 a25 a26 a27 : Nat → Int32} {c i : Nat} {x y : Int32} (hx : x = nI c) (hy : y = nI (2 * i)) (hc : c < 8) (hi : i < 200) (h : sx_H c i a12) (H : ∀ b, sx_H c (i + 1) b → post (fn, fp, fr, fd, fc, a1, a2, a3, a4, a5, a6, a7, a8, a9, a10, a11, b, a13, a14, a15, a16, a17, a18, a19, a20, a21, a22, a23, a24, a25, a26, a27)) : wpX_setHigh post (fn, fp, fr, fd, fc, a1, a2, a3, a4, a5, a6, a7, a8, a9, a10, a11, a12, a13, a14, a15, a16, a17, a18, a19, a20, a21, a22, a23, a24, a25, a26, a27) x y := by
  subst hx hy
  unfold wpX_setHigh
  dsimp only
  have hi' : 2 * i < 2 ^ 31 := by omega
  rw [sx_ix13 c hi', sx_and31 hi', nI_clamp (show c * 13 + 2 * i / 32 < 2 ^ 31 by omega)]
  refine ⟨vp_in_nI (by omega) (by decide), vp_in_nI (by omega) (by decide), nm_e (H _ (fun w hw => ?_))⟩
  by_cases e : c * 13 + w = c * 13 + 2 * i / 32
  · have e2 : 2 * i / 32 = w := by omega
    rw [e, pk_us, e2, h w hw]
    unfold sx_h
    rw [show min 16 (i - 16 * w) = i % 16 by omega, show min 16 (i + 1 - 16 * w) = i % 16 + 1 by omega, show 2 * i % 32 = 2 * (i % 16) by omega]
    exact sx_or2 _ (by omega)
  · rw [pk_un e, h w hw]
    unfold sx_h
    rw [show min 16 (i + 1 - 16 * w) = min 16 (i - 16 * w) by omega]
theorem sx_p84n {post : St2 → Prop} {J : Int32 → Int32 → Int32 → Int32 → Int32 → Int32 → Int32 → (Nat → Int32) → (Nat → Int32) → (Nat → Int32) → (Nat → Int32) → (Nat → Int32) → (Nat → Int32) → (Nat → Int32) → (Nat → Int32) → (Nat → Int32) → (Nat → Int32) → (Nat → Int32) → (Nat → Int32) → (Nat → Int32) → (Nat → Int32) → (Nat → Int32) → (Nat → Int32) → (Nat → Int32) → (Nat → Int32) → (Nat → Int32) → (Nat → Int32) → (Nat → Int32) → (Nat → Int32) → (Nat → Int32) → (Nat → Int32) → (Nat → Int32) → (Nat → Int32) → (Nat → Int32) → Prop} {fp fr fd fc : Int32} {a1 a2 a3 a4 a5 a6 a7 a8 a9 a10 a11 a12 a13 a14 a15 a16 a17 a18 a19 a20 a21 a22 a23 a24 a25 a26 a27 : Nat → Int32} {c N q : Nat} {x1 : Int32} (hc : c < 8) (hq : q < 8) (hN : N ≤ 200) (e : c ≠ q) (h1 : ∀ j, j < N → a1 j = nI c)
    (HJ : J x1 (nI (q + 1)) (nI N) fp fr fd fc a1 a2 a3 a4 a5 a6 a7 a8 a9 a10 a11 a12 a13 a14 a15 a16 a17 a18 a19 a20 a21 a22 a23 a24 a25 a26 a27) : ∃ n, wX_packParts_84 post J (nI q) 0 n x1 0 (nI N) fp fr fd fc a1 a2 a3 a4 a5 a6 a7 a8 a9 a10 a11 a12 a13 a14 a15 a16 a17 a18 a19 a20 a21 a22 a23 a24 a25 a26 a27 := by
  refine pk_loop (σ := Unit) (fun n i _ => wX_packParts_84 post J (nI q) 0 n x1 (nI i) (nI N) fp fr fd fc a1 a2 a3 a4 a5 a6 a7 a8 a9 a10 a11 a12 a13 a14 a15 a16 a17 a18 a19 a20 a21 a22 a23 a24 a25 a26 a27) (fun _ _ => True) N 0 () (by omega) trivial ?_ ?_
  · intro n _ _
    exact pk_le N N (fun _ => nm_r (nI_1 q) HJ) (fun z => absurd z (by omega))
  · intro n i _ hi _ hw
    refine pk_le N i (fun z => absurd z (by omega)) (fun _ => ⟨pk_in i 200 (by omega), ?_⟩)
    rw [nI_clamp (show i < 2 ^ 31 by omega), h1 i hi]
    exact pk_eq c q (fun z => absurd z e) (fun _ => nm_r (nI_1 i) (hw () trivial))
theorem sx_low0 (x : Int32) : (x &&& (((1 : Int32) <<< ((0 : Int32) &&& 31)) - 1)).toInt16.toInt32 = 0 := by
  rw [show ((1 : Int32) <<< ((0 : Int32) &&& 31)) - 1 = 0 by decide, Int32.and_zero]
  decide
theorem sx_p84y {post : St2 → Prop} {J : Int32 → Int32 → Int32 → Int32 → Int32 → Int32 → Int32 → (Nat → Int32) → (Nat → Int32) → (Nat → Int32) → (Nat → Int32) → (Nat → Int32) → (Nat → Int32) → (Nat → Int32) → (Nat → Int32) → (Nat → Int32) → (Nat → Int32) → (Nat → Int32) → (Nat → Int32) → (Nat → Int32) → (Nat → Int32) → (Nat → Int32) → (Nat → Int32) → (Nat → Int32) → (Nat → Int32) → (Nat → Int32) → (Nat → Int32) → (Nat → Int32) → (Nat → Int32) → (Nat → Int32) → (Nat → Int32) → (Nat → Int32) → (Nat → Int32) → (Nat → Int32) → Prop} {fp fr fd fc : Int32} {a1 a2 a3 a4 a5 a6 a7 a8 a9 a10 a11 a12 a13 a14 a15 a16 a17 a18 a19 a20 a21 a22 a23 a24 a25 a26 a27 : Nat → Int32} {c N : Nat} (hc : c < 8) (hN : N ≤ 200) (h1 : ∀ j, j < N → a1 j = nI c) (h10 : a10 c = 0) (h12 : sx_H c 0 a12)
    (HJ : ∀ b11 b12, (∀ k, k < N → b11 k = 0) → sx_H c N b12 → J (nI N) (nI (c + 1)) (nI N) fp fr fd fc a1 a2 a3 a4 a5 a6 a7 a8 a9 a10 b11 b12 a13 a14 a15 a16 a17 a18 a19 a20 a21 a22 a23 a24 a25 a26 a27) : ∃ n, wX_packParts_84 post J (nI c) 0 n 0 0 (nI N) fp fr fd fc a1 a2 a3 a4 a5 a6 a7 a8 a9 a10 a11 a12 a13 a14 a15 a16 a17 a18 a19 a20 a21 a22 a23 a24 a25 a26 a27 := by
  refine pk_loop (σ := (Nat → Int32) × (Nat → Int32)) (fun n i s => wX_packParts_84 post J (nI c) 0 n (nI i) (nI i) (nI N) fp fr fd fc a1 a2 a3 a4 a5 a6 a7 a8 a9 a10 s.1 s.2 a13 a14 a15 a16 a17 a18 a19 a20 a21 a22 a23 a24 a25 a26 a27) (fun i s => (∀ k, k < i → s.1 k = 0) ∧ sx_H c i s.2) N 0 (a11, a12) (by omega) ⟨lt_0, h12⟩ ?_ ?_
  · rintro n ⟨s11, s12⟩ ⟨g11, g12⟩
    exact pk_le N N (fun _ => nm_r (nI_1 c) (HJ s11 s12 g11 g12)) (fun z => absurd z (by omega))
  · rintro n i ⟨s11, s12⟩ hi ⟨g11, g12⟩ hw
    refine pk_le N i (fun z => absurd z (by omega)) (fun _ => ⟨pk_in i 200 (by omega), ?_⟩)
    rw [nI_clamp (show i < 2 ^ 31 by omega), h1 i hi, nI_clamp (show c < 2 ^ 31 by omega), h10, sx_low0]
    refine br_t rfl ⟨pk_in i 200 (by omega), nm_e ⟨pk_in c 9 (by omega), ?_⟩⟩
    refine sx_setHigh (c := c) (i := i) rfl ?_ hc (by omega) g12 (fun b hb => nm_r (nI_1 i) (nm_r (nI_1 i) (hw (_, b) ⟨sx_fill (f := fun _ => 0) rfl g11 rfl, hb⟩)))
    rw [sb_shr0, nI_add, Int32.sub_zero, show i + i = 2 * i by omega]
theorem sx_shl2 : ∀ n, n < 201 → nI n <<< (((0 : Int32) + 1) &&& 31) = nI (2 * n) := by decide +kernel
theorem sx_p41 {post : St2 → Prop} {J : Int32 → Int32 → Int32 → Int32 → Int32 → Int32 → Int32 → (Nat → Int32) → (Nat → Int32) → (Nat → Int32) → (Nat → Int32) → (Nat → Int32) → (Nat → Int32) → (Nat → Int32) → (Nat → Int32) → (Nat → Int32) → (Nat → Int32) → (Nat → Int32) → (Nat → Int32) → (Nat → Int32) → (Nat → Int32) → (Nat → Int32) → (Nat → Int32) → (Nat → Int32) → (Nat → Int32) → (Nat → Int32) → (Nat → Int32) → (Nat → Int32) → (Nat → Int32) → (Nat → Int32) → (Nat → Int32) → (Nat → Int32) → (Nat → Int32) → (Nat → Int32) → Prop} {fp fr fd fc : Int32} {a1 a2 a3 a4 a5 a6 a7 a8 a9 a10 a11 a12 a13 a14 a15 a16 a17 a18 a19 a20 a21 a22 a23 a24 a25 a26 a27 : Nat → Int32} {c N q : Nat} {x1 : Int32} (hq : q < 8) (hN : N ≤ 200) (h2 : a2 q = nI (if q = c then N else 0))
    (H : wX_packParts_73 post J x1 (nI q) 0 (nI N) fp fr fd fc a1 a2 a3 a4 a5 a6 a7 a8 a9 a10 a11 a12 a13 a14 a15 a16 a17 a18 a19 a20 a21 a22 a23 a24 a25 a26 a27) : ∃ n, wX_packParts_41 post J x1 (nI q) (nI N) fp fr fd fc a1 a2 a3 a4 a5 a6 a7 a8 a9 a10 a11 a12 a13 a14 a15 a16 a17 a18 a19 a20 a21 a22 a23 a24 a25 a26 a27 n 0 := by
  refine ⟨1, pk_in q 8 hq, ?_⟩
  rw [nI_clamp (show q < 2 ^ 31 by omega), h2]
  by_cases e : q = c
  · rw [if_pos e]
    refine pk_le N 0 (fun _ => H) (fun z => ⟨pk_in q 8 hq, ?_⟩)
    rw [sx_shl2 N (by omega)]
    exact pk_lt N (2 * N) (fun _ => H) (fun g => absurd g (by omega))
  · rw [if_neg e]
    exact pk_le 0 0 (fun _ => H) (fun z => absurd z (by omega))
theorem sx_packParts {post : St2 → Prop} {fp fr fd fc : Int32} {a1 a2 a3 a4 a5 a6 a7 a8 a9 a10 a11 a12 a13 a14 a15 a16 a17 a18 a19 a20 a21 a22 a23 a24 a25 a26 a27 : Nat → Int32} {c N : Nat} (hc : c < 8) (hN : N ≤ 200) (h1 : ∀ j, j < N → a1 j = nI c) (h2 : ∀ j, j < 8 → a2 j = nI (if j = c then N else 0))
    (H : ∀ b9 b10 b11 b12, sx_Hp c N b9 b10 b11 b12 → post (nI N, fp, fr, fd, fc, a1, a2, a3, a4, a5, a6, a7, a8, b9, b10, b11, b12, a13, a14, a15, a16, a17, a18, a19, a20, a21, a22, a23, a24, a25, a26, a27)) : wpX_packParts post (nI N, fp, fr, fd, fc, a1, a2, a3, a4, a5, a6, a7, a8, a9, a10, a11, a12, a13, a14, a15, a16, a17, a18, a19, a20, a21, a22, a23, a24, a25, a26, a27) := by
  unfold wpX_packParts
  dsimp only
  refine pk_loop (fun n i s => wX_packParts_2 post (nI N) fp fr fd fc n (nI i) a1 a2 a3 a4 a5 a6 a7 a8 a9 a10 a11 s a13 a14 a15 a16 a17 a18 a19 a20 a21 a22 a23 a24 a25 a26 a27) (fun i s => ∀ j, j < i → s j = 0) 104 0 a12 (by omega) lt_0 ?_ ?_
  · intro n s12 g12
    refine pk_le 104 104 (fun _ => ?_) (fun z => absurd z (by omega))
    have g0 : sx_H c 0 s12 := by
      intro w hw
      rw [g12 _ (by omega)]
      unfold sx_h
      rw [show min 16 (0 - 16 * w) = 0 by omega]
      rfl
    refine pk_loop (σ := Int32 × (Nat → Int32) × (Nat → Int32) × (Nat → Int32) × (Nat → Int32)) (fun n q s => wX_packParts_25 post n s.1 (nI q) (nI N) fp fr fd fc a1 a2 a3 a4 a5 a6 a7 a8 s.2.1 s.2.2.1 s.2.2.2.1 s.2.2.2.2 a13 a14 a15 a16 a17 a18 a19 a20 a21 a22 a23 a24 a25 a26 a27)
      (fun q s => (q ≤ c → s.1 = 0 ∧ sx_H c 0 s.2.2.2.2) ∧ (c < q → s.1 = nI N ∧ sx_Hp c N s.2.1 s.2.2.1 s.2.2.2.1 s.2.2.2.2)) 8 0 (0, a9, a10, a11, s12) (by omega) ⟨fun _ => ⟨rfl, g0⟩, fun z => absurd z (by omega)⟩ ?_ ?_
    · rintro n ⟨x1, s9, s10, s11, t12⟩ ⟨_, g⟩
      obtain ⟨e1, k9, k10, k11, k12⟩ := g hc
      refine pk_le 8 8 (fun _ => nm_e (H _ _ _ _ ⟨k9, ?_, k11, k12⟩)) (fun z => absurd z (by omega))
      rw [pk_un (by omega)]
      exact k10
    · rintro n q ⟨x1, s9, s10, s11, t12⟩ hq ⟨gl, gr⟩ hw
      try dsimp only at gl gr
      refine pk_le 8 q (fun z => absurd z (by omega)) (fun _ => ?_)
      dsimp only
      rw [nI_clamp (show q < 2 ^ 31 by omega)]
      refine ⟨pk_in q 9 (by omega), nm_e (sx_p41 hq hN (h2 q hq) ?_)⟩
      unfold wX_packParts_73
      rw [nI_clamp (show q < 2 ^ 31 by omega)]
      refine ⟨pk_in q 8 hq, nm_e ?_⟩
      by_cases e : c = q
      · subst e
        obtain ⟨e1, k12⟩ := gl (Nat.le_refl _)
        subst e1
        refine sx_p84y hc hN h1 ?_ k12 (fun b11 b12 m11 m12 => hw (nI N, _, _, b11, b12) ⟨fun z => absurd z (by omega), fun _ => ⟨rfl, ?_, ?_, m11, m12⟩⟩)
        · rw [pk_us]
          decide
        · show upd _ _ _ _ = _
          rw [pk_us]
          decide
        · show upd _ _ _ _ = _
          rw [pk_us]
          decide
      · refine sx_p84n hc hq hN e h1 (hw (x1, _, _, s11, t12) ⟨fun z => gl (by omega), fun z => ?_⟩)
        obtain ⟨e1, k9, k10, k11, k12⟩ := gr (by omega)
        refine ⟨e1, ?_, ?_, k11, k12⟩
        · show upd _ _ _ _ = _
          rw [pk_un e]
          exact k9
        · show upd _ _ _ _ = _
          rw [pk_un e]
          exact k10
  · intro n i s hi hs hw
    exact pk_le 104 i (fun z => absurd z (by omega)) (fun _ => ⟨pk_in i 104 hi, nm_e (nm_r (nI_1 i) (hw _ (sx_fill (f := fun _ => 0) (nI_clamp (by omega)) hs rfl)))⟩)
end
section
/-! blocks of seven -/
def sx_M (c N q : Nat) : Nat := if q = c then N else 0
theorem sx_Mle (c N q : Nat) : sx_M c N q ≤ N := by
  unfold sx_M
  by_cases e : q = c
  · rw [if_pos e]
    exact Nat.le_refl _
  · rw [if_neg e]
    omega
theorem sx_blockBits {post : Int32 → Prop} {fp fr fd fc : Int32} {a1 a2 a3 a4 a5 a6 a7 a8 a9 a10 a11 a12 a13 a14 a15 a16 a17 a18 a19 a20 a21 a22 a23 a24 a25 a26 a27 : Nat → Int32} {c N q b : Nat} (hc : c < 8) (hq : q < 8) (hb : b < 30) (hN : N ≤ 200) (h1 : ∀ j, j < N → a1 j = nI c)
    (H : post (nI (2 ^ (min 7 (sx_M c N q - 7 * b)) - 1))) : wpX_blockBits post (nI N, fp, fr, fd, fc, a1, a2, a3, a4, a5, a6, a7, a8, a9, a10, a11, a12, a13, a14, a15, a16, a17, a18, a19, a20, a21, a22, a23, a24, a25, a26, a27) (nI q) (nI b) := by
  unfold wpX_blockBits
  dsimp only
  have hM := sx_Mle c N q
  refine pk_loop (σ := Int32) (fun n i s => wX_blockBits_5 post (nI q) (nI b) (nI N) fp fr fd fc a1 a2 a3 a4 a5 a6 a7 a8 a9 a10 a11 a12 a13 a14 a15 a16 a17 a18 a19 a20 a21 a22 a23 a24 a25 a26 a27 n s (nI i)) (fun i s => s = nI (2 ^ (min i (sx_M c N q - 7 * b)) - 1)) 7 0 0 (by omega) ?_ ?_ ?_
  · show (0 : Int32) = nI (2 ^ (min 0 (sx_M c N q - 7 * b)) - 1)
    rw [Nat.zero_min]
    rfl
  · intro n s hs
    try dsimp only at hs
    subst hs
    exact pk_le 7 7 (fun _ => H) (fun z => absurd z (by omega))
  · intro n i s hi hs hw
    try dsimp only at hs
    subst hs
    have e1 : nI b * 7 + nI i = nI (b * 7 + i) := by
      rw [show (7 : Int32) = nI 7 from rfl, pk_mul, nI_add]
    refine pk_le 7 i (fun z => absurd z (by omega)) (fun _ => nm_r e1 ?_)
    refine pk_le N (b * 7 + i) (fun z => ?_) (fun z => ⟨vp_in_nI (by omega) (by decide), ?_⟩)
    · refine nm_r (e' := nI (2 ^ (min (i + 1) (sx_M c N q - 7 * b)) - 1)) ?_ (nm_r (nI_1 i) (hw _ rfl))
      rw [Int32.or_zero, show min (i + 1) (sx_M c N q - 7 * b) = min i (sx_M c N q - 7 * b) by omega]
    · rw [nI_clamp (show b * 7 + i < 2 ^ 31 by omega), h1 _ z]
      refine pk_eq c q (fun e => ?_) (fun e => ?_)
      · have e2 : sx_M c N q = N := if_pos e.symm
        refine nm_r (e' := nI (2 ^ (min (i + 1) (sx_M c N q - 7 * b)) - 1)) ?_ (nm_r (nI_1 i) (hw _ rfl))
        rw [e2, show min (i + 1) (N - 7 * b) = i + 1 by omega, show min i (N - 7 * b) = i by omega]
        exact sx_or1 i (by omega)
      · have e2 : sx_M c N q = 0 := if_neg (fun t => e t.symm)
        refine nm_r (e' := nI (2 ^ (min (i + 1) (sx_M c N q - 7 * b)) - 1)) ?_ (nm_r (nI_1 i) (hw _ rfl))
        rw [Int32.or_zero, e2, show min (i + 1) (0 - 7 * b) = min i (0 - 7 * b) by omega]
/-- the number of the block whose first m of seven bits are ones: what its first i steps add -/
def sx_nb (m : Nat) : Nat → Nat
  | 0 => 0
  | i + 1 => sx_nb m i + (if m ≤ 6 then sx_ch (6 - i) (m - i) else 0)
theorem sx_nb1 : ∀ m, m < 8 → ∀ i, i < m → (nI (2 ^ m - 1) >>> (nI i &&& 31)) &&& 1 = 1 := by decide +kernel
theorem sx_nb2 : ∀ m, m < 8 → sx_nb m m < 128 := by decide +kernel
theorem sx_nb3 : ∀ m, m < 8 → ∀ i, i < m → sx_nb m (i + 1) ≤ sx_nb m m := by decide +kernel
theorem sx_6 {i : Nat} (h : i ≤ 6) : 6 - nI i = nI (6 - i) := pk_sub (a := 6) h
theorem sx_ix16 {p k : Nat} : nI p * 8 + nI k = nI (p * 8 + k) := by
  rw [show (8 : Int32) = nI 8 from rfl, pk_mul, nI_add]
theorem sx_dec {m i : Nat} (h : i < m) : nI (m - i) + (-1) = nI (m - (i + 1)) := by
  rw [sb_m1 (by omega), show m - i - 1 = m - (i + 1) by omega]
theorem sx_numberOf {post : Int32 → Prop} {fn fp fr fd fc : Int32} {a1 a2 a3 a4 a5 a6 a7 a8 a9 a10 a11 a12 a13 a14 a15 a16 a17 a18 a19 a20 a21 a22 a23 a24 a25 a26 a27 : Nat → Int32} {m : Nat} {x y : Int32} (hx : x = nI (2 ^ m - 1)) (hy : y = nI m) (hm : m < 8) (h16 : sx_Ch a16) (H : post (nI (sx_nb m m))) : wpX_numberOf post (fn, fp, fr, fd, fc, a1, a2, a3, a4, a5, a6, a7, a8, a9, a10, a11, a12, a13, a14, a15, a16, a17, a18, a19, a20, a21, a22, a23, a24, a25, a26, a27) x y := by
  subst hx hy
  unfold wpX_numberOf
  dsimp only
  refine pk_loop (σ := Unit) (fun n i _ => wX_numberOf_8 post (nI (2 ^ m - 1)) fn fp fr fd fc a1 a2 a3 a4 a5 a6 a7 a8 a9 a10 a11 a12 a13 a14 a15 a16 a17 a18 a19 a20 a21 a22 a23 a24 a25 a26 a27 n (nI (sx_nb m i)) (nI (m - i)) (nI i)) (fun _ _ => True) m 0 () (by omega) trivial ?_ ?_
  · intro n _ _
    exact pk_le 7 m (fun _ => H) (fun _ => pk_le (m - m) 0 (fun _ => H) (fun z => absurd z (by omega)))
  · intro n i _ hi _ hw
    have t : wX_numberOf_8 post (nI (2 ^ m - 1)) fn fp fr fd fc a1 a2 a3 a4 a5 a6 a7 a8 a9 a10 a11 a12 a13 a14 a15 a16 a17 a18 a19 a20 a21 a22 a23 a24 a25 a26 a27 n (nI (sx_nb m (i + 1))) (nI (m - (i + 1))) (nI (i + 1)) := hw () trivial
    refine pk_le 7 i (fun z => absurd z (by omega)) (fun _ => pk_le (m - i) 0 (fun z => absurd z (by omega)) (fun _ => nm_r (sx_6 (by omega)) (br_f ?_ ?_)))
    · rw [sx_nb1 m hm i hi]
      decide
    · refine pk_lt (6 - i) (m - i) (fun z => nm_r (e' := nI (sx_nb m (i + 1))) ?_ (nm_r (sx_dec hi) (nm_r (nI_1 i) t))) (fun z => ?_)
      · rw [Int32.add_zero]
        unfold sx_nb
        rw [if_neg (by omega), Nat.add_zero]
        cases i <;> rfl
      · rw [sx_ix16, nI_clamp (show (6 - i) * 8 + (m - i) < 2 ^ 31 by omega), h16 (6 - i) (by omega) (m - i) (by omega)]
        refine ⟨vp_in_nI (by omega) (by decide), nm_r (e' := nI (sx_nb m (i + 1))) ?_ (nm_r (sx_dec hi) (nm_r (nI_1 i) t))⟩
        rw [nI_add]
        show _ = nI (sx_nb m i + (if m ≤ 6 then sx_ch (6 - i) (m - i) else 0))
        rw [if_pos (by omega)]
theorem sx_bitsOf {post : Int32 → Prop} {fn fp fr fd fc : Int32} {a1 a2 a3 a4 a5 a6 a7 a8 a9 a10 a11 a12 a13 a14 a15 a16 a17 a18 a19 a20 a21 a22 a23 a24 a25 a26 a27 : Nat → Int32} {m : Nat} {x y : Int32} (hx : x = nI (sx_nb m m)) (hy : y = nI m) (hm : m < 8) (h16 : sx_Ch a16) (H : post (nI (2 ^ m - 1))) : wpX_bitsOf post (fn, fp, fr, fd, fc, a1, a2, a3, a4, a5, a6, a7, a8, a9, a10, a11, a12, a13, a14, a15, a16, a17, a18, a19, a20, a21, a22, a23, a24, a25, a26, a27) x y := by
  subst hx hy
  unfold wpX_bitsOf
  dsimp only
  have h128 := sx_nb2 m hm
  refine pk_loop (σ := Unit) (fun n i _ => wX_bitsOf_11 post fn fp fr fd fc a1 a2 a3 a4 a5 a6 a7 a8 a9 a10 a11 a12 a13 a14 a15 a16 a17 a18 a19 a20 a21 a22 a23 a24 a25 a26 a27 n (nI (2 ^ i - 1)) (nI (m - i)) (nI (sx_nb m m - sx_nb m i)) (nI i)) (fun _ _ => True) m 0 () (by omega) trivial ?_ ?_
  · intro n _ _
    exact pk_le 7 m (fun _ => H) (fun _ => pk_le (m - m) 0 (fun _ => H) (fun z => absurd z (by omega)))
  · intro n i _ hi _ hw
    have t : wX_bitsOf_11 post fn fp fr fd fc a1 a2 a3 a4 a5 a6 a7 a8 a9 a10 a11 a12 a13 a14 a15 a16 a17 a18 a19 a20 a21 a22 a23 a24 a25 a26 a27 n (nI (2 ^ (i + 1) - 1)) (nI (m - (i + 1))) (nI (sx_nb m m - sx_nb m (i + 1))) (nI (i + 1)) := hw () trivial
    have hle := sx_nb3 m hm i hi
    have hs : sx_nb m (i + 1) = sx_nb m i + (if m ≤ 6 then sx_ch (6 - i) (m - i) else 0) := rfl
    have k : ∀ z : Int32, z = nI (if m ≤ 6 then sx_ch (6 - i) (m - i) else 0) → wX_bitsOf_54 post (wX_bitsOf_11 post fn fp fr fd fc a1 a2 a3 a4 a5 a6 a7 a8 a9 a10 a11 a12 a13 a14 a15 a16 a17 a18 a19 a20 a21 a22 a23 a24 a25 a26 a27 n) (nI (2 ^ i - 1)) (nI (m - i)) (nI (sx_nb m m - sx_nb m i)) (nI i) z fn fp fr fd fc a1 a2 a3 a4 a5 a6 a7 a8 a9 a10 a11 a12 a13 a14 a15 a16 a17 a18 a19 a20 a21 a22 a23 a24 a25 a26 a27 := by
      intro z hz
      subst hz
      generalize (if m ≤ 6 then sx_ch (6 - i) (m - i) else 0) = v at hs ⊢
      refine pk_lt (sx_nb m m - sx_nb m i) v (fun z => absurd z (by omega)) (fun _ => nm_r (e' := nI (sx_nb m m - sx_nb m (i + 1))) ?_ (nm_r (sx_or1 i (by omega)) (nm_r (sx_dec hi) (nm_r (nI_1 i) t))))
      rw [pk_sub (by omega), hs, Nat.sub_sub]
    refine pk_le 7 i (fun z => absurd z (by omega)) (fun _ => pk_le (m - i) 0 (fun z => absurd z (by omega)) (fun _ => nm_r (sx_6 (by omega)) ?_))
    refine pk_lt (6 - i) (m - i) (fun z => k _ ?_) (fun z => ?_)
    · rw [if_neg (by omega)]
      rfl
    · rw [sx_ix16, nI_clamp (show (6 - i) * 8 + (m - i) < 2 ^ 31 by omega), h16 (6 - i) (by omega) (m - i) (by omega)]
      refine ⟨vp_in_nI (by omega) (by decide), k _ ?_⟩
      rw [if_pos (by omega)]
/-! the blocks' arrays, by place -/
def sx_bm (c N q b : Nat) : Nat := min 7 (sx_M c N q - 7 * b)
def sx_G13 (c N j : Nat) : Int32 := nI (sx_bm c N (j / 30) (j % 30))
def sx_G14 (c N j : Nat) : Int32 := nI (sx_nb (sx_bm c N (j / 30) (j % 30)) (sx_bm c N (j / 30) (j % 30)))
def sx_G15 (c N j : Nat) : Int32 := nI (min (sx_M c N (j / 31)) (7 * (j % 31)))
def sx_K (c N : Nat) (a13 a14 a15 : Nat → Int32) : Prop := (∀ j, j < 240 → a13 j = sx_G13 c N j) ∧ (∀ j, j < 240 → a14 j = sx_G14 c N j) ∧ (∀ j, j < 248 → a15 j = sx_G15 c N j)
theorem sx_blocks_in {post : St2 → Prop} {J : Int32 → (Nat → Int32) → (Nat → Int32) → (Nat → Int32) → (Nat → Int32) → (Nat → Int32) → (Nat → Int32) → (Nat → Int32) → (Nat → Int32) → (Nat → Int32) → (Nat → Int32) → (Nat → Int32) → (Nat → Int32) → (Nat → Int32) → (Nat → Int32) → (Nat → Int32) → (Nat → Int32) → (Nat → Int32) → (Nat → Int32) → (Nat → Int32) → (Nat → Int32) → (Nat → Int32) → (Nat → Int32) → (Nat → Int32) → (Nat → Int32) → (Nat → Int32) → (Nat → Int32) → (Nat → Int32) → Prop} {fp fr fd fc : Int32} {a1 a2 a3 a4 a5 a6 a7 a8 a9 a10 a11 a12 a13 a14 a15 a16 a17 a18 a19 a20 a21 a22 a23 a24 a25 a26 a27 : Nat → Int32} {c N q : Nat} (hc : c < 8) (hq : q < 8) (hN : N ≤ 200) (h1 : ∀ j, j < N → a1 j = nI c) (h16 : sx_Ch a16)
    (h13 : ∀ j, j < q * 30 → a13 j = sx_G13 c N j) (h14 : ∀ j, j < q * 30 → a14 j = sx_G14 c N j) (h15 : ∀ j, j < q * 31 → a15 j = sx_G15 c N j)
    (HJ : ∀ b13 b14 b15, (∀ j, j < (q + 1) * 30 → b13 j = sx_G13 c N j) → (∀ j, j < (q + 1) * 30 → b14 j = sx_G14 c N j) → (∀ j, j < (q + 1) * 31 → b15 j = sx_G15 c N j) → J (nI (q + 1)) a1 a2 a3 a4 a5 a6 a7 a8 a9 a10 a11 a12 b13 b14 b15 a16 a17 a18 a19 a20 a21 a22 a23 a24 a25 a26 a27) :
    ∃ n, wX_packBlocks_12 post J (nI q) (nI N) fp fr fd fc n 0 0 a1 a2 a3 a4 a5 a6 a7 a8 a9 a10 a11 a12 a13 a14 a15 a16 a17 a18 a19 a20 a21 a22 a23 a24 a25 a26 a27 := by
  have hM := sx_Mle c N q
  refine pk_loop (σ := Int32 × (Nat → Int32) × (Nat → Int32) × (Nat → Int32)) (fun n b s => wX_packBlocks_12 post J (nI q) (nI N) fp fr fd fc n s.1 (nI b) a1 a2 a3 a4 a5 a6 a7 a8 a9 a10 a11 a12 s.2.1 s.2.2.1 s.2.2.2 a16 a17 a18 a19 a20 a21 a22 a23 a24 a25 a26 a27)
    (fun b s => s.1 = nI (min (sx_M c N q) (7 * b)) ∧ (∀ j, j < q * 30 + b → s.2.1 j = sx_G13 c N j) ∧ (∀ j, j < q * 30 + b → s.2.2.1 j = sx_G14 c N j) ∧ (∀ j, j < q * 31 + b → s.2.2.2 j = sx_G15 c N j)) 30 0 (0, a13, a14, a15) (by omega) ⟨?_, h13, h14, h15⟩ ?_ ?_
  · rw [Nat.mul_zero, Nat.min_zero]
    rfl
  · rintro n ⟨x2, s13, s14, s15⟩ ⟨e2, g13, g14, g15⟩
    try dsimp only at e2 g13 g14 g15
    subst e2
    have e1 : nI q * 31 + 30 = nI (q * 31 + 30) := by
      rw [show (31 : Int32) = nI 31 from rfl, show (30 : Int32) = nI 30 from rfl, pk_mul, nI_add]
    refine pk_le 30 30 (fun _ => ?_) (fun z => absurd z (by omega))
    rw [e1, nI_clamp (show q * 31 + 30 < 2 ^ 31 by omega)]
    refine ⟨vp_in_nI (by omega) (by decide), nm_e (nm_r (nI_1 q) (HJ _ _ _ (fun j hj => g13 j (by omega)) (fun j hj => g14 j (by omega)) (fun j hj => sx_fill (f := sx_G15 c N) rfl g15 ?_ j (by omega))))⟩
    rw [sx_s16 _ (by omega)]
    unfold sx_G15
    rw [show (q * 31 + 30) / 31 = q by omega, show (q * 31 + 30) % 31 = 30 by omega]
  · rintro n b ⟨x2, s13, s14, s15⟩ hb ⟨e2, g13, g14, g15⟩ hw
    try dsimp only at e2 g13 g14 g15
    subst e2
    have e31 : nI q * 31 + nI b = nI (q * 31 + b) := by
      rw [show (31 : Int32) = nI 31 from rfl, pk_mul, nI_add]
    have e30 : nI q * 30 + nI b = nI (q * 30 + b) := by
      rw [show (30 : Int32) = nI 30 from rfl, pk_mul, nI_add]
    have hm : sx_bm c N q b < 8 := by
      unfold sx_bm
      omega
    refine pk_le 30 b (fun z => absurd z (by omega)) (fun _ => sx_blockBits hc hq hb hN h1 (sx_onesIn (k := sx_bm c N q b) rfl (by omega) ?_))
    rw [e31, e30, nI_clamp (show q * 31 + b < 2 ^ 31 by omega), nI_clamp (show q * 30 + b < 2 ^ 31 by omega)]
    refine ⟨vp_in_nI (by omega) (by decide), nm_e ⟨vp_in_nI (by omega) (by decide), nm_e (sx_numberOf rfl rfl hm h16 ?_)⟩⟩
    have d30 : (q * 30 + b) / 30 = q := by omega
    have m30 : (q * 30 + b) % 30 = b := by omega
    refine ⟨vp_in_nI (by omega) (by decide), nm_e (nm_r (e' := nI (min (sx_M c N q) (7 * (b + 1)))) ?_ (nm_r (nI_1 b) (hw (_, _, _, _) ⟨rfl, sx_fill (f := sx_G13 c N) (i := q * 30 + b) rfl g13 ?_, sx_fill (f := sx_G14 c N) (i := q * 30 + b) rfl g14 ?_, sx_fill (f := sx_G15 c N) (i := q * 31 + b) rfl g15 ?_⟩)))⟩
    · rw [nI_add]
      unfold sx_bm
      rw [show min (sx_M c N q) (7 * b) + min 7 (sx_M c N q - 7 * b) = min (sx_M c N q) (7 * (b + 1)) by omega]
    · unfold sx_G13
      rw [d30, m30]
      exact sx_b8 _ (by omega)
    · unfold sx_G14
      rw [d30, m30]
      exact sx_b8 _ (sx_nb2 _ hm)
    · unfold sx_G15
      rw [show (q * 31 + b) / 31 = q by omega, show (q * 31 + b) % 31 = b by omega]
      exact sx_s16 _ (by omega)
theorem sx_packBlocks {post : St2 → Prop} {fp fr fd fc : Int32} {a1 a2 a3 a4 a5 a6 a7 a8 a9 a10 a11 a12 a13 a14 a15 a16 a17 a18 a19 a20 a21 a22 a23 a24 a25 a26 a27 : Nat → Int32} {c N : Nat} (hc : c < 8) (hN : N ≤ 200) (h1 : ∀ j, j < N → a1 j = nI c) (h16 : sx_Ch a16)
    (H : ∀ b13 b14 b15, sx_K c N b13 b14 b15 → post (nI N, fp, fr, fd, fc, a1, a2, a3, a4, a5, a6, a7, a8, a9, a10, a11, a12, b13, b14, b15, a16, a17, a18, a19, a20, a21, a22, a23, a24, a25, a26, a27)) : wpX_packBlocks post (nI N, fp, fr, fd, fc, a1, a2, a3, a4, a5, a6, a7, a8, a9, a10, a11, a12, a13, a14, a15, a16, a17, a18, a19, a20, a21, a22, a23, a24, a25, a26, a27) := by
  unfold wpX_packBlocks
  dsimp only
  refine pk_loop (σ := (Nat → Int32) × (Nat → Int32) × (Nat → Int32)) (fun n q s => wX_packBlocks_2 post (nI N) fp fr fd fc n (nI q) a1 a2 a3 a4 a5 a6 a7 a8 a9 a10 a11 a12 s.1 s.2.1 s.2.2 a16 a17 a18 a19 a20 a21 a22 a23 a24 a25 a26 a27)
    (fun q s => (∀ j, j < q * 30 → s.1 j = sx_G13 c N j) ∧ (∀ j, j < q * 30 → s.2.1 j = sx_G14 c N j) ∧ (∀ j, j < q * 31 → s.2.2 j = sx_G15 c N j)) 8 0 (a13, a14, a15) (by omega) ⟨fun j hj => absurd hj (by omega), fun j hj => absurd hj (by omega), fun j hj => absurd hj (by omega)⟩ ?_ ?_
  · rintro n ⟨s13, s14, s15⟩ ⟨g13, g14, g15⟩
    exact pk_le 8 8 (fun _ => H _ _ _ ⟨g13, g14, g15⟩) (fun z => absurd z (by omega))
  · rintro n q ⟨s13, s14, s15⟩ hq ⟨g13, g14, g15⟩ hw
    exact pk_le 8 q (fun z => absurd z (by omega)) (fun _ => sx_blocks_in hc hq hN h1 h16 g13 g14 g15 (fun b13 b14 b15 k13 k14 k15 => hw (b13, b14, b15) ⟨k13, k14, k15⟩))
end
section
/-! runs: one, if there is a letter -/
def sx_U (c N : Nat) (fr : Int32) (a17 a18 a19 a21 : Nat → Int32) : Prop := fr = 1 ∧ a17 0 = 0 ∧ a17 1 = nI N ∧ a18 0 = nI c ∧ a19 0 = 0 ∧ a21 c = 0
theorem sx_packRuns {post : St2 → Prop} {fp fr fd fc : Int32} {a1 a2 a3 a4 a5 a6 a7 a8 a9 a10 a11 a12 a13 a14 a15 a16 a17 a18 a19 a20 a21 a22 a23 a24 a25 a26 a27 : Nat → Int32} {c N : Nat} (hc : c < 8) (hN : N ≤ 200) (h1 : ∀ j, j < N → a1 j = nI c)
    (H : ∀ gr b17 b18 b19 b20 b21, (N = 0 → gr = 0) → (0 < N → sx_U c N gr b17 b18 b19 b21) → post (nI N, fp, gr, fd, fc, a1, a2, a3, a4, a5, a6, a7, a8, a9, a10, a11, a12, a13, a14, a15, a16, b17, b18, b19, b20, b21, a22, a23, a24, a25, a26, a27)) : wpX_packRuns post (nI N, fp, fr, fd, fc, a1, a2, a3, a4, a5, a6, a7, a8, a9, a10, a11, a12, a13, a14, a15, a16, a17, a18, a19, a20, a21, a22, a23, a24, a25, a26, a27) := by
  unfold wpX_packRuns
  dsimp only
  refine pk_loop (fun n i s => wX_packRuns_7 post (nI N) fp 0 fd fc n (nI i) a1 a2 a3 a4 a5 a6 a7 a8 a9 a10 a11 a12 a13 a14 a15 a16 a17 a18 a19 a20 s a22 a23 a24 a25 a26 a27) (fun i s => ∀ j, j < i → s j = -1) 8 0 a21 (by omega) lt_0 ?_ ?_
  · intro n s21 g21
    refine pk_le 8 8 (fun _ => ?_) (fun z => absurd z (by omega))
    refine pk_loop (σ := Int32 × (Nat → Int32) × (Nat → Int32) × (Nat → Int32) × (Nat → Int32) × (Nat → Int32)) (fun n i s => wX_packRuns_28 post (nI N) fp fd fc n (nI i) s.1 a1 a2 a3 a4 a5 a6 a7 a8 a9 a10 a11 a12 a13 a14 a15 a16 s.2.1 s.2.2.1 s.2.2.2.1 s.2.2.2.2.1 s.2.2.2.2.2 a22 a23 a24 a25 a26 a27)
      (fun i s => (i = 0 → s.1 = 0 ∧ s.2.2.2.2.2 c = -1) ∧ (0 < i → sx_U c N s.1 s.2.1 s.2.2.1 s.2.2.2.1 s.2.2.2.2.2)) N 0 (0, a17, a18, a19, a20, s21) (by omega) ⟨fun _ => ⟨rfl, g21 c hc⟩, fun z => absurd z (by omega)⟩ ?_ ?_
    · rintro n ⟨gr, s17, s18, s19, s20, t21⟩ ⟨k0, k1⟩
      exact pk_le N N (fun _ => H gr s17 s18 s19 s20 t21 (fun z => (k0 z).1) k1) (fun z => absurd z (by omega))
    · rintro n i ⟨gr, s17, s18, s19, s20, t21⟩ hi ⟨k0, k1⟩ hw
      try dsimp only at k0 k1
      refine pk_le N i (fun z => absurd z (by omega)) (fun _ => pk_eq i 0 (fun z => ?_) (fun z => ⟨pk_in i 200 (by omega), ?_⟩))
      · subst z
        obtain ⟨e0, e21⟩ := k0 rfl
        subst e0
        unfold wX_packRuns_57
        dsimp only
        refine ⟨pk_in 0 200 (by omega), nm_r (e' := nI c) (h1 0 hi) ⟨pk_in c 8 hc, nm_r (e' := -1) (by rw [nI_clamp (by omega)]; exact e21) ⟨pk_in 0 201 (by omega), nm_r (e' := upd s17 0 0) ?_ ⟨pk_in 0 200 (by omega), nm_r (e' := upd s18 0 (nI c)) ?_ ⟨pk_in 0 200 (by omega), nm_r (e' := upd s20 0 (-1)) ?_ (br_f (by decide) ?_)⟩⟩⟩⟩⟩
        · rw [sb_cl0, sx_s16 0 (by decide), nI_0]
        · rw [sb_cl0, sx_b8 c (by omega)]
        · rw [sb_cl0]
          rfl
        unfold wX_packRuns_142
        refine ⟨pk_in 0 200 (by omega), nm_r (e' := upd s19 0 0) ?_ ⟨pk_in c 8 hc, nm_r (e' := upd t21 c 0) ?_ (nm_r (e' := nI 1) (by decide) ⟨pk_in 1 201 (by omega), nm_r (e' := upd (upd s17 0 0) 1 (nI N)) ?_ (nm_r (nI_1 0) (hw (nI 1, upd (upd s17 0 0) 1 (nI N), upd s18 0 (nI c), upd s19 0 0, upd s20 0 (-1), upd t21 c 0) ⟨fun z => absurd z (by omega), fun _ => ⟨rfl, ?_, pk_us (f := upd s17 0 0) (k := 1) (x := nI N), pk_us (f := s18) (k := 0) (x := nI c), pk_us (f := s19) (k := 0) (x := 0), pk_us (f := t21) (k := c) (x := 0)⟩⟩))⟩)⟩⟩
        · rw [sb_cl0]
          rfl
        · rw [nI_clamp (show c < 2 ^ 31 by omega)]
          rfl
        · rw [nI_clamp (show 1 < 2 ^ 31 by decide), sx_s16 N (by omega)]
        · show upd (upd s17 0 0) 1 (nI N) 0 = 0
          rw [pk_un (by decide), pk_us]
      · have e1 : nI i - 1 = nI (i - 1) := pk_sub (b := 1) (by omega)
        rw [e1, nI_clamp (show i < 2 ^ 31 by omega), nI_clamp (show i - 1 < 2 ^ 31 by omega), h1 i hi, h1 (i - 1) (by omega)]
        exact ⟨pk_in (i - 1) 200 (by omega), br_t rfl (nm_r (nI_1 i) (hw (gr, s17, s18, s19, s20, t21) ⟨fun z => absurd z (by omega), fun _ => k1 (by omega)⟩))⟩
  · intro n i s hi hs hw
    exact pk_le 8 i (fun z => absurd z (by omega)) (fun _ => ⟨pk_in i 8 hi, nm_e (nm_r (nI_1 i) (hw _ (sx_fill (f := fun _ => -1) (nI_clamp (by omega)) hs rfl)))⟩)
end
section
/-! the packed list: N times the letter c -/
def sx_P (c N : Nat) (u : St2) : Prop := match u with
  | (fn, fp, fr, fd, fc, a1, a2, a3, a4, a5, a6, a7, a8, a9, a10, a11, a12, a13, a14, a15, a16, a17, a18, a19, a20, a21, a22, a23, a24, a25, a26, a27) => fn = nI N ∧ fp = 1 ∧ fd = 0 ∧ (∀ j, j < N → a1 j = nI c) ∧ (∀ j, j < 8 → a2 j = nI (if j = c then N else 0)) ∧ sx_Q (sx_F c N 21) a5 a6 a7 ∧ sx_Z c N 3 a8 ∧ sx_Hp c N a9 a10 a11 a12 ∧ sx_K c N a13 a14 a15 ∧ sx_Ch a16 ∧ (N = 0 → fr = 0) ∧ (0 < N → sx_U c N fr a17 a18 a19 a21) ∧ (∀ j, j < 16 → a26 j = 0)
/-- the list as it was written -/
def sx_V (c N : Nat) (u : St2) : Prop := match u with
  | (fn, fp, fr, fd, fc, a1, a2, a3, a4, a5, a6, a7, a8, a9, a10, a11, a12, a13, a14, a15, a16, a17, a18, a19, a20, a21, a22, a23, a24, a25, a26, a27) => fn = nI N ∧ fp = 0 ∧ (∀ j, j < N → a1 j = nI c) ∧ sx_Ch a16
theorem sx_Fle (c N m r : Nat) : sx_F c N m r ≤ N := by
  unfold sx_F
  by_cases e : r < m ∧ sx_on c r = true
  · rw [if_pos e]
    exact Nat.le_refl _
  · rw [if_neg e]
    omega
theorem sx_pack_101 {post : St2 → Prop} {fp fr fc : Int32} {a1 a2 a3 a4 a5 a6 a7 a8 a9 a10 a11 a12 a13 a14 a15 a16 a17 a18 a19 a20 a21 a22 a23 a24 a25 a26 a27 : Nat → Int32} {c N : Nat} (hc : c < 8) (hN : N ≤ 200) (h1 : ∀ j, j < N → a1 j = nI c) (h2 : ∀ j, j < 8 → a2 j = nI (if j = c then N else 0)) (h5 : sx_R a5 (sx_F c N 21)) (h8 : sx_Z c N 3 a8) (h16 : sx_Ch a16) (h26 : ∀ j, j < 16 → a26 j = 0)
    (H : ∀ u, sx_P c N u → post u) : ∃ n, wX_pack_101 post n 0 (nI N) fp fr 0 fc a1 a2 a3 a4 a5 a6 a7 a8 a9 a10 a11 a12 a13 a14 a15 a16 a17 a18 a19 a20 a21 a22 a23 a24 a25 a26 a27 := by
  refine pk_loop (σ := (Nat → Int32) × (Nat → Int32)) (fun n r s => wX_pack_101 post n (nI r) (nI N) fp fr 0 fc a1 a2 a3 a4 a5 s.1 s.2 a8 a9 a10 a11 a12 a13 a14 a15 a16 a17 a18 a19 a20 a21 a22 a23 a24 a25 a26 a27)
    (fun r s => (∀ j, j < r * 8 → s.1 j = sx_G6 (sx_F c N 21) j) ∧ (∀ j, j < r * 28 → s.2 j = sx_G7 (sx_F c N 21) j)) 21 0 (a6, a7) (by omega) ⟨fun j hj => absurd hj (by omega), fun j hj => absurd hj (by omega)⟩ ?_ ?_
  · rintro n ⟨s6, s7⟩ ⟨g6, g7⟩
    refine pk_le 21 21 (fun _ => ?_) (fun z => absurd z (by omega))
    refine sx_packParts hc hN h1 h2 (fun b9 b10 b11 b12 hp => ?_)
    refine sx_packBlocks hc hN h1 h16 (fun b13 b14 b15 hk => ?_)
    refine sx_packRuns hc hN h1 (fun gr b17 b18 b19 b20 b21 k0 k1 => ?_)
    exact H _ ⟨rfl, rfl, rfl, h1, h2, ⟨h5, g6, g7⟩, h8, hp, hk, h16, k0, k1, h26⟩
  · rintro n r ⟨s6, s7⟩ hr ⟨g6, g7⟩ hw
    refine pk_le 21 r (fun z => absurd z (by omega)) (fun _ => ?_)
    exact sx_sumRow rfl hr (Nat.le_trans (sx_Fle c N 21 r) hN) h5 g6 g7 (fun b6 b7 k6 k7 => nm_r (nI_1 r) (hw (b6, b7) ⟨k6, k7⟩))
theorem sx_pack_53 {post : St2 → Prop} {fp fr fd fc : Int32} {a1 a2 a3 a4 a5 a6 a7 a8 a9 a10 a11 a12 a13 a14 a15 a16 a17 a18 a19 a20 a21 a22 a23 a24 a25 a26 a27 : Nat → Int32} {c N : Nat} (hc : c < 8) (hN : N ≤ 200) (h1 : ∀ j, j < N → a1 j = nI c) (h2 : ∀ j, j < 8 → a2 j = 0) (h5 : ∀ j, j < 147 → a5 j = 0) (h16 : sx_Ch a16)
    (H : ∀ u, sx_P c N u → post u) : ∃ n, wX_pack_53 post (nI N) fp fr fd fc n 0 a1 a2 a3 a4 a5 a6 a7 a8 a9 a10 a11 a12 a13 a14 a15 a16 a17 a18 a19 a20 a21 a22 a23 a24 a25 a26 a27 := by
  refine pk_loop (fun n i s => wX_pack_53 post (nI N) fp fr fd fc n (nI i) a1 s a3 a4 a5 a6 a7 a8 a9 a10 a11 a12 a13 a14 a15 a16 a17 a18 a19 a20 a21 a22 a23 a24 a25 a26 a27) (fun i s => ∀ j, j < 8 → s j = nI (if j = c then i else 0)) N 0 a2 (by omega) ?_ ?_ ?_
  · intro j hj
    rw [h2 j hj]
    by_cases e : j = c
    · rw [if_pos e]
      rfl
    · rw [if_neg e]
      rfl
  · intro n s g2
    refine pk_le N N (fun _ => ?_) (fun z => absurd z (by omega))
    have r0 : sx_R a5 (sx_F c N 0) := by
      intro r hr w hw
      rw [h5 _ (by omega)]
      unfold sx_F sx_w
      rw [if_neg (by omega), show min 32 (0 - 32 * w) = 0 by omega]
      rfl
    refine sx_packTree hc hN h1 r0 (fun b5 r3 => ?_)
    refine sx_packMatrix hc hN h1 r3 (fun c3 c4 c5 c8 r6 k8 => ?_)
    refine sx_packMaps hc hN h1 r6 (fun d5 r21 => ?_)
    refine sx_packCodes hc hN g2 (fun b24 b25 b26 b27 k26 => ?_)
    exact sx_pack_101 hc hN h1 g2 r21 k8 h16 k26 H
  · intro n i s hi g2 hw
    refine pk_le N i (fun z => absurd z (by omega)) (fun _ => ⟨pk_in i 200 (by omega), ?_⟩)
    rw [nI_clamp (show i < 2 ^ 31 by omega), h1 i hi, nI_clamp (show c < 2 ^ 31 by omega), g2 c hc, if_pos rfl, nI_1, sx_s16 (i + 1) (by omega)]
    refine ⟨pk_in c 8 hc, pk_in c 8 hc, nm_e (nm_e (hw _ (fun j hj => ?_)))⟩
    by_cases e : j = c
    · rw [if_pos e, e, pk_us]
    · rw [if_neg e, pk_un e, g2 j hj, if_neg e]
theorem sx_pack {post : St2 → Prop} {u : St2} {c N : Nat} (hc : c < 8) (hN : N ≤ 200) (h : sx_V c N u ∨ sx_P c N u) (H : ∀ u, sx_P c N u → post u) : wpX_pack post u := by
  obtain ⟨fn, fp, fr, fd, fc, a1, a2, a3, a4, a5, a6, a7, a8, a9, a10, a11, a12, a13, a14, a15, a16, a17, a18, a19, a20, a21, a22, a23, a24, a25, a26, a27⟩ := u
  unfold wpX_pack
  dsimp only
  rcases h with h | h
  · obtain ⟨e1, e2, h1, h16⟩ := h
    subst e1 e2
    refine br_t rfl ?_
    refine pk_loop (fun n i s => wX_pack_10 post (nI N) 0 fr fd fc n (nI i) a1 a2 a3 a4 s a6 a7 a8 a9 a10 a11 a12 a13 a14 a15 a16 a17 a18 a19 a20 a21 a22 a23 a24 a25 a26 a27) (fun i s => ∀ j, j < i → s j = 0) 147 0 a5 (by omega) lt_0 ?_ ?_
    · intro n s5 g5
      refine pk_le 147 147 (fun _ => ?_) (fun z => absurd z (by omega))
      refine pk_loop (fun n i s => wX_pack_32 post (nI N) 0 fr fd fc n (nI i) a1 s a3 a4 s5 a6 a7 a8 a9 a10 a11 a12 a13 a14 a15 a16 a17 a18 a19 a20 a21 a22 a23 a24 a25 a26 a27) (fun i s => ∀ j, j < i → s j = 0) 8 0 a2 (by omega) lt_0 ?_ ?_
      · intro n s2 g2
        exact pk_le 8 8 (fun _ => sx_pack_53 hc hN h1 g2 g5 h16 H) (fun z => absurd z (by omega))
      · intro n i s hi hs hw
        exact pk_le 8 i (fun z => absurd z (by omega)) (fun _ => ⟨pk_in i 8 hi, nm_e (nm_r (nI_1 i) (hw _ (sx_fill (f := fun _ => 0) (nI_clamp (by omega)) hs rfl)))⟩)
    · intro n i s hi hs hw
      exact pk_le 147 i (fun z => absurd z (by omega)) (fun _ => ⟨pk_in i 147 hi, nm_e (nm_r (nI_1 i) (hw _ (sx_fill (f := fun _ => 0) (nI_clamp (by omega)) hs rfl)))⟩)
  · have e2 : fp = 1 := h.2.1
    exact br_f (by rw [e2]; decide) (H _ h)
end
section
/-! ranks: at a place i of the packed list the letter q is counted min (sx_M c N q) i times -/
theorem sx_Fon {c N r : Nat} (hr : r < 21) : sx_F c N 21 r = if sx_on c r = true then N else 0 := by
  unfold sx_F
  by_cases e : sx_on c r = true
  · rw [if_pos ⟨hr, e⟩, if_pos e]
  · rw [if_neg (fun z => e z.2), if_neg e]
/-- how many ones the rows of a level hold -/
def sx_D (c N l : Nat) : Nat := if sx_d c l = 1 then N else 0
theorem sx_F0 {c N l : Nat} (hl : l < 3) : sx_F c N 21 l = sx_D c N l := by
  rw [sx_Fon (by omega)]
  unfold sx_D
  by_cases e : sx_d c l = 1
  · rw [if_pos e, if_pos ((sx_on0 hl).mpr e)]
  · rw [if_neg e, if_neg (fun z => e ((sx_on0 hl).mp z))]
theorem sx_F3 {c N l : Nat} (hl : l < 3) : sx_F c N 21 (3 + l) = sx_D c N l := by
  rw [sx_Fon (by omega)]
  unfold sx_D
  by_cases e : sx_d c l = 1
  · rw [if_pos e, if_pos ((sx_on3 hl).mpr e)]
  · rw [if_neg e, if_neg (fun z => e ((sx_on3 hl).mp z))]
theorem sx_F6 {c N q : Nat} (hq : q < 8) : sx_F c N 21 (6 + q) = sx_M c N q := by
  rw [sx_Fon (by omega)]
  unfold sx_M
  by_cases e : q = c
  · rw [if_pos e, if_pos (sx_on6.mpr e)]
  · rw [if_neg e, if_neg (fun z => e (sx_on6.mp z))]
theorem sx_Dc (c N l : Nat) : (sx_d c l = 1 ∧ sx_D c N l = N) ∨ (sx_d c l = 0 ∧ sx_D c N l = 0) := by
  have h := sx_d2 c l
  unfold sx_D
  by_cases e : sx_d c l = 1
  · rw [if_pos e]
    exact Or.inl ⟨e, rfl⟩
  · rw [if_neg e]
    exact Or.inr ⟨by omega, rfl⟩
theorem sx_dN (c l : Nat) : sx_d c l = 0 ∨ sx_d c l = 1 := by
  have h := sx_d2 c l
  omega
theorem sx_half : ∀ c, c < 8 → ∀ l, l < 3 → c / 2 ^ (3 - (l + 1)) = 2 * (c / 2 ^ (3 - l)) + sx_d c l := by decide +kernel
theorem sx_top : ∀ c, c < 8 → c / 2 ^ (3 - 0) = 0 := by decide +kernel
theorem sx_bot (c : Nat) : c / 2 ^ (3 - 3) = c := Nat.div_one c
/-- a step down the tree, over plain numbers -/
theorem sx_tree_s {N i st en k F A B A' B' dq dc : Nat} (hi : i ≤ N) (hA : A' = 2 * A + dq) (hB : B' = 2 * B + dc) (hq : dq = 0 ∨ dq = 1) (hF : (dc = 1 ∧ F = N) ∨ (dc = 0 ∧ F = 0))
    (h : (st = 0 ∧ en = N ∧ k = i ∧ A = B) ∨ (k = 0 ∧ st = en ∧ (st = 0 ∨ st = N) ∧ A ≠ B)) :
    (dq = 1 → (st + ((en - F) - (st - F)) = 0 ∧ en = N ∧ k - ((st + k - F) - (st - F)) = i ∧ A' = B') ∨ (k - ((st + k - F) - (st - F)) = 0 ∧ st + ((en - F) - (st - F)) = en ∧ (st + ((en - F) - (st - F)) = 0 ∨ st + ((en - F) - (st - F)) = N) ∧ A' ≠ B')) ∧
    (dq = 0 → (st = 0 ∧ st + ((en - F) - (st - F)) = N ∧ (st + k - F) - (st - F) = i ∧ A' = B') ∨ ((st + k - F) - (st - F) = 0 ∧ st = st + ((en - F) - (st - F)) ∧ (st = 0 ∨ st = N) ∧ A' ≠ B')) := by
  subst hA hB
  rcases hF with ⟨rfl, rfl⟩ | ⟨rfl, rfl⟩ <;> rcases h with ⟨rfl, rfl, rfl, rfl⟩ | ⟨rfl, rfl, h3, h4⟩ <;> rcases hq with rfl | rfl <;> refine ⟨fun z => ?_, fun z => ?_⟩ <;> omega
theorem sx_rankInTree {post : Int32 → Prop} {u : St2} {c N q i : Nat} (hP : sx_P c N u) (hc : c < 8) (hq : q < 8) (hN : N ≤ 200) (hi : i ≤ N) (H : post (nI (min (sx_M c N q) i))) : wpX_rankInTree post u (nI q) (nI i) := by
  obtain ⟨fn, fp, fr, fd, fc, a1, a2, a3, a4, a5, a6, a7, a8, a9, a10, a11, a12, a13, a14, a15, a16, a17, a18, a19, a20, a21, a22, a23, a24, a25, a26, a27⟩ := u
  obtain ⟨e1, e2, e3, h1, h2, hQ, -, -, -, -, -, -, -⟩ := hP
  subst e1 e2 e3
  unfold wpX_rankInTree
  dsimp only
  refine pk_loop (σ := Int32 × Int32 × Int32) (fun n l s => wX_rankInTree_14 post (nI q) (nI N) 1 fr 0 fc a1 a2 a3 a4 a5 a6 a7 a8 a9 a10 a11 a12 a13 a14 a15 a16 a17 a18 a19 a20 a21 a22 a23 a24 a25 a26 a27 n s.1 s.2.1 s.2.2 (nI l))
    (fun l s => ∃ st en k, s = (nI st, nI en, nI k) ∧ ((st = 0 ∧ en = N ∧ k = i ∧ q / 2 ^ (3 - l) = c / 2 ^ (3 - l)) ∨ (k = 0 ∧ st = en ∧ (st = 0 ∨ st = N) ∧ q / 2 ^ (3 - l) ≠ c / 2 ^ (3 - l)))) 3 0 (0, nI N, nI i) (by omega)
    ⟨0, N, i, rfl, Or.inl ⟨rfl, rfl, rfl, by rw [sx_top q hq, sx_top c hc]⟩⟩ ?_ ?_
  · rintro n s ⟨st, en, k, rfl, h⟩
    rw [sx_bot, sx_bot] at h
    refine pk_le 3 3 (fun _ => ?_) (fun z => absurd z (by omega))
    have e : k = min (sx_M c N q) i := by
      rcases h with ⟨_, _, h3, h4⟩ | ⟨h1, _, _, h4⟩
      · rw [show sx_M c N q = N from if_pos h4]
        omega
      · rw [show sx_M c N q = 0 from if_neg h4]
        omega
    show post (nI k)
    rw [e]
    exact H
  · rintro n l s hl ⟨st, en, k, rfl, h⟩ hw
    have hd := sx_d2 q l
    have hD := sx_Dc c N l
    have hF := sx_F0 (c := c) (N := N) hl
    have hb : st + k ≤ N ∧ en ≤ N ∧ st ≤ en := by omega
    have hs := sx_tree_s (F := sx_D c N l) hi (sx_half q hq l hl) (sx_half c hc l hl) (sx_dN q l) hD h
    refine pk_le 3 l (fun z => absurd z (by omega)) (fun _ => nm_r (sx_z0 _) ?_)
    refine sx_zerosBefore rfl rfl (by omega) (by omega) hQ ?_
    refine sx_zerosBefore rfl rfl (by omega) (by omega) hQ ?_
    rw [hF]
    refine nm_r (pk_sub (by omega)) ?_
    refine sx_zerosBefore rfl (nI_add st k) (by omega) (by omega) hQ ?_
    rw [hF]
    refine nm_r (pk_sub (by omega)) ?_
    refine sx_digitOf rfl rfl hq hl ?_
    refine pk_eq (sx_d q l) 1 (fun z => ?_) (fun z => ?_)
    · refine br_f (by decide) (br_f (by decide) (br_f (by decide) (nm_r (nI_1 l) ?_)))
      rw [nI_add, pk_sub (by omega)]
      exact hw _ ⟨_, _, _, rfl, hs.1 z⟩
    · refine br_t rfl (br_t rfl (br_t rfl (nm_r (nI_add _ _) (nm_r (nI_1 l) ?_))))
      exact hw _ ⟨_, _, _, rfl, hs.2 (by omega)⟩
theorem sx_downInMatrix {post : Int32 → Prop} {u : St2} {c N l i : Nat} {o : Int32} (hP : sx_P c N u) (hl : l < 3) (hN : N ≤ 200) (hi : i ≤ N) (H0 : o = 0 → post (nI (i - sx_D c N l))) (H1 : ¬ o = 0 → post (nI (N - sx_D c N l + min (sx_D c N l) i))) : wpX_downInMatrix post u (nI l) (nI i) o := by
  obtain ⟨fn, fp, fr, fd, fc, a1, a2, a3, a4, a5, a6, a7, a8, a9, a10, a11, a12, a13, a14, a15, a16, a17, a18, a19, a20, a21, a22, a23, a24, a25, a26, a27⟩ := u
  obtain ⟨e1, e2, e3, h1, h2, hQ, h8, -, -, -, -, -, -⟩ := hP
  unfold wpX_downInMatrix
  dsimp only
  refine sx_onesBefore (r := 3 + l) (i := i) (nI_add 3 l) rfl (by omega) (by omega) hQ ?_
  rw [sx_F3 hl]
  refine br_c (fun z => ?_) (fun z => ⟨pk_in l 3 hl, ?_⟩)
  · rw [pk_sub (by omega), show i - min (sx_D c N l) i = i - sx_D c N l by omega]
    exact H0 z
  · rw [nI_clamp (show l < 2 ^ 31 by omega), h8 l hl, show (if sx_d c l = 1 then 0 else N) = N - sx_D c N l from ?_, nI_add]
    · exact H1 z
    · unfold sx_D
      by_cases e : sx_d c l = 1
      · rw [if_pos e, if_pos e]
        omega
      · rw [if_neg e, if_neg e]
        omega
theorem sx_rankInMatrix {post : Int32 → Prop} {u : St2} {c N q i : Nat} (hP : sx_P c N u) (hc : c < 8) (hq : q < 8) (hN : N ≤ 200) (hi : i ≤ N) (H : post (nI (min (sx_M c N q) i))) : wpX_rankInMatrix post u (nI q) (nI i) := by
  obtain ⟨fn, fp, fr, fd, fc, a1, a2, a3, a4, a5, a6, a7, a8, a9, a10, a11, a12, a13, a14, a15, a16, a17, a18, a19, a20, a21, a22, a23, a24, a25, a26, a27⟩ := u
  unfold wpX_rankInMatrix
  dsimp only
  refine pk_loop (σ := Int32 × Int32) (fun n l s => wX_rankInMatrix_8 post (nI q) fn fp fr fd fc a1 a2 a3 a4 a5 a6 a7 a8 a9 a10 a11 a12 a13 a14 a15 a16 a17 a18 a19 a20 a21 a22 a23 a24 a25 a26 a27 n s.1 s.2 (nI l))
    (fun l s => ∃ f t, s = (nI f, nI t) ∧ f ≤ N ∧ t ≤ N ∧ ((f = 0 ∧ t = i ∧ q / 2 ^ (3 - l) = c / 2 ^ (3 - l)) ∨ (f = t ∧ q / 2 ^ (3 - l) ≠ c / 2 ^ (3 - l)))) 3 0 (0, nI i) (by omega)
    ⟨0, i, rfl, by omega, hi, Or.inl ⟨rfl, rfl, by rw [sx_top q hq, sx_top c hc]⟩⟩ ?_ ?_
  · rintro n s ⟨f, t, rfl, hf, ht, h⟩
    rw [sx_bot, sx_bot] at h
    refine pk_le 3 3 (fun _ => ?_) (fun z => absurd z (by omega))
    have e : f ≤ t ∧ t - f = min (sx_M c N q) i := by
      rcases h with ⟨_, h3, h4⟩ | ⟨h1, h4⟩
      · rw [show sx_M c N q = N from if_pos h4]
        omega
      · rw [show sx_M c N q = 0 from if_neg h4]
        omega
    show post (nI t - nI f)
    rw [pk_sub e.1, e.2]
    exact H
  · rintro n l s hl ⟨f, t, rfl, hf, ht, h⟩ hw
    have hd := sx_d2 q l
    have hD := sx_Dc c N l
    have hA := sx_half q hq l hl
    have hB := sx_half c hc l hl
    generalize q / 2 ^ (3 - (l + 1)) = A' at hA hw
    generalize c / 2 ^ (3 - (l + 1)) = B' at hB hw
    generalize q / 2 ^ (3 - l) = A at hA h
    generalize c / 2 ^ (3 - l) = B at hB h
    refine pk_le 3 l (fun z => absurd z (by omega)) (fun _ => sx_digitOf rfl rfl hq hl (pk_eq (sx_d q l) 1 (fun z => ?_) (fun z => ?_)))
    · unfold wX_rankInMatrix_29
      refine sx_downInMatrix hP hl hN hf (fun y => absurd y (by decide)) (fun _ => sx_downInMatrix hP hl hN ht (fun y => absurd y (by decide)) (fun _ => nm_r (nI_1 l) (hw _ ⟨_, _, rfl, ?_, ?_, ?_⟩)))
      · omega
      · omega
      · omega
    · unfold wX_rankInMatrix_29
      refine sx_downInMatrix hP hl hN hf (fun _ => sx_downInMatrix hP hl hN ht (fun _ => nm_r (nI_1 l) (hw _ ⟨_, _, rfl, ?_, ?_, ?_⟩)) (fun y => absurd rfl y)) (fun y => absurd rfl y)
      · omega
      · omega
      · omega
theorem sx_ha : ∀ m, m < 17 → ∀ e, e < 32 → e < 2 * m → (((nI ((4 ^ m - 1) / 3)).toUInt32 >>> ((nI e).toUInt32 &&& Int32.toUInt32 31)).toInt32) &&& 1 = nI ((e + 1) % 2) := by decide +kernel
theorem sx_highAt {post : Int32 → Prop} {fn fp fr fd fc : Int32} {a1 a2 a3 a4 a5 a6 a7 a8 a9 a10 a11 a12 a13 a14 a15 a16 a17 a18 a19 a20 a21 a22 a23 a24 a25 a26 a27 : Nat → Int32} {c N j : Nat} (hc : c < 8) (hN : N ≤ 200) (hj : j < 2 * N) (h : sx_H c N a12) (H0 : j % 2 = 1 → post 0) (H1 : j % 2 = 0 → post 1) : wpX_highAt post (fn, fp, fr, fd, fc, a1, a2, a3, a4, a5, a6, a7, a8, a9, a10, a11, a12, a13, a14, a15, a16, a17, a18, a19, a20, a21, a22, a23, a24, a25, a26, a27) (nI c) (nI j) := by
  unfold wpX_highAt
  dsimp only
  have hj' : j < 2 ^ 31 := by omega
  rw [sx_ix13 c hj', sx_and31 hj', nI_clamp (show c * 13 + j / 32 < 2 ^ 31 by omega), h _ (by omega)]
  unfold sx_h
  rw [sx_ha _ (by omega) _ (by omega) (by omega)]
  exact ⟨vp_in_nI (by omega) (by decide), pk_eq ((j % 32 + 1) % 2) 0 (fun z => H0 (by omega)) (fun z => H1 (by omega))⟩
theorem sx_selectInParts {post : Int32 → Prop} {u : St2} {c N k : Nat} (hP : sx_P c N u) (hc : c < 8) (hN : N ≤ 200) (hk : k < N) (H : post (nI k)) : wpX_selectInParts post u (nI c) (nI k) := by
  obtain ⟨fn, fp, fr, fd, fc, a1, a2, a3, a4, a5, a6, a7, a8, a9, a10, a11, a12, a13, a14, a15, a16, a17, a18, a19, a20, a21, a22, a23, a24, a25, a26, a27⟩ := u
  obtain ⟨-, -, -, -, -, -, -, ⟨h9, h10, h11, h12⟩, -, -, -, -, -⟩ := hP
  unfold wpX_selectInParts
  dsimp only
  refine lp3 (fun n x3 x4 x5 => wX_selectInParts_8 post (nI c) (nI k) fn fp fr fd fc a1 a2 a3 a4 a5 a6 a7 a8 a9 a10 a11 a12 a13 a14 a15 a16 a17 a18 a19 a20 a21 a22 a23 a24 a25 a26 a27 n x3 x4 x5) (fun x3 x4 x5 => (∃ j, j ≤ 2 * k ∧ x3 = nI j ∧ x4 = nI ((j + 1) / 2) ∧ x5 = 1) ∨ (x3 = nI (2 * k) ∧ x5 = 0))
    (fun x3 _ x5 => if x5 = 0 then 0 else 2 * k + 1 - x3.toNatClampNeg) ?_ 0 0 1 (Or.inl ⟨0, by omega, rfl, rfl, rfl⟩)
  rintro n x3 x4 x5 (⟨j, hj, rfl, rfl, rfl⟩ | ⟨rfl, rfl⟩) hw
  · refine br_f (by decide) (sx_highAt hc hN (by omega) h12 (fun z => br_t rfl (br_t rfl (nm_r (e' := nI ((j + 1 + 1) / 2)) ?_ (br_f (by decide) (nm_r (nI_1 j) (hw _ _ _ (Or.inl ⟨j + 1, by omega, rfl, rfl, rfl⟩) ?_)))))) (fun z => br_f (by decide) (pk_eq ((j + 1) / 2) k (fun y => br_f (by decide) (nm_e (br_t rfl (nm_r (e' := nI (2 * k)) ?_ (hw _ _ _ (Or.inr ⟨rfl, rfl⟩) ?_))))) (fun y => br_f (by decide) (nm_r (e' := nI ((j + 1 + 1) / 2)) ?_ (br_f (by decide) (nm_r (nI_1 j) (hw _ _ _ (Or.inl ⟨j + 1, by omega, rfl, rfl, rfl⟩) ?_))))))))
    · rw [Int32.add_zero, show (j + 1 + 1) / 2 = (j + 1) / 2 by omega]
    · try dsimp only
      rw [if_neg (by decide), if_neg (by decide), nI_clamp (by omega), nI_clamp (by omega)]
      omega
    · rw [Int32.add_zero, show j = 2 * k by omega]
    · try dsimp only
      rw [if_pos rfl, if_neg (by decide), nI_clamp (by omega)]
      omega
    · rw [nI_1, show (j + 1 + 1) / 2 = (j + 1) / 2 + 1 by omega]
    · try dsimp only
      rw [if_neg (by decide), if_neg (by decide), nI_clamp (by omega), nI_clamp (by omega)]
      omega
  · refine br_t rfl ⟨pk_in c 8 hc, pk_in c 9 (by omega), ?_⟩
    rw [nI_clamp (show c < 2 ^ 31 by omega), h9, h10, Int32.zero_add, nI_clamp (show k < 2 ^ 31 by omega), h11 k hk, pk_sub (by omega), sb_shl0, Int32.or_zero, show 2 * k - k = k by omega]
    exact ⟨pk_in k 200 (by omega), H⟩
theorem sx_mid {a b : Nat} (ha : a ≤ 200) (hb : b ≤ 200) : (nI a + nI b) / 2 = nI ((a + b) / 2) := by
  rw [nI_add]
  exact pk_div (d := 2) (by omega) (by decide) (by decide)
theorem sx_rankInParts {post : Int32 → Prop} {u : St2} {c N q i : Nat} (hP : sx_P c N u) (hc : c < 8) (hq : q < 8) (hN : N ≤ 200) (hi : i ≤ N) (H : post (nI (min (sx_M c N q) i))) : wpX_rankInParts post u (nI q) (nI i) := by
  obtain ⟨fn, fp, fr, fd, fc, a1, a2, a3, a4, a5, a6, a7, a8, a9, a10, a11, a12, a13, a14, a15, a16, a17, a18, a19, a20, a21, a22, a23, a24, a25, a26, a27⟩ := u
  have h2 := hP.2.2.2.2.1
  unfold wpX_rankInParts
  dsimp only
  refine ⟨pk_in q 8 hq, nm_r (e' := nI (sx_M c N q)) (by rw [nI_clamp (by omega)]; exact h2 q hq) ?_⟩
  by_cases e : q = c
  · have eM : sx_M c N q = N := if_pos e
    rw [eM] at H ⊢
    rw [show min N i = i by omega] at H
    subst e
    refine lp2 (fun n x3 x4 => wX_rankInParts_10 post (nI q) (nI i) fn fp fr fd fc a1 a2 a3 a4 a5 a6 a7 a8 a9 a10 a11 a12 a13 a14 a15 a16 a17 a18 a19 a20 a21 a22 a23 a24 a25 a26 a27 n x3 x4) (fun x3 x4 => ∃ lo hh, x3 = nI lo ∧ x4 = nI hh ∧ lo ≤ i ∧ i ≤ hh ∧ hh ≤ N) (fun x3 x4 => x4.toNatClampNeg - x3.toNatClampNeg) ?_ 0 (nI N) ⟨0, N, rfl, rfl, by omega, hi, by omega⟩
    rintro n x3 x4 ⟨lo, hh, rfl, rfl, k1, k2, k3⟩ hw
    refine pk_le hh lo (fun z => ?_) (fun z => ⟨by decide, nm_r (sx_mid (by omega) (by omega)) (sx_selectInParts hP hc hN (by omega) (pk_le i ((lo + hh) / 2) (fun y => br_t rfl (br_t rfl (hw _ _ ⟨_, _, rfl, rfl, ?_, ?_, ?_⟩ ?_))) (fun y => br_f (by decide) (br_f (by decide) (hw _ _ ⟨(lo + hh) / 2 + 1, _, nI_1 _, rfl, ?_, ?_, ?_⟩ ?_)))))⟩)
    · rw [show lo = i by omega]
      exact H
    · omega
    · omega
    · omega
    · try dsimp only
      rw [nI_clamp (by omega), nI_clamp (by omega), nI_clamp (by omega)]
      omega
    · omega
    · omega
    · omega
    · try dsimp only
      rw [nI_1, nI_clamp (by omega), nI_clamp (by omega), nI_clamp (by omega)]
      omega
  · have eM : sx_M c N q = 0 := if_neg e
    rw [eM] at H ⊢
    rw [show min 0 i = 0 by omega] at H
    exact ⟨1, br_t (Int32.le_refl _) H⟩
theorem sx_rm : ∀ m, m < 8 → ∀ e, e < 7 → nI (2 ^ m - 1) &&& (((1 : Int32) <<< (nI e &&& 31)) - 1) = nI (2 ^ (min m e) - 1) := by decide +kernel
theorem sx_rankInBlocks {post : Int32 → Prop} {u : St2} {c N q i : Nat} (hP : sx_P c N u) (hc : c < 8) (hq : q < 8) (hN : N ≤ 200) (hi : i ≤ N) (H : post (nI (min (sx_M c N q) i))) : wpX_rankInBlocks post u (nI q) (nI i) := by
  obtain ⟨fn, fp, fr, fd, fc, a1, a2, a3, a4, a5, a6, a7, a8, a9, a10, a11, a12, a13, a14, a15, a16, a17, a18, a19, a20, a21, a22, a23, a24, a25, a26, a27⟩ := u
  obtain ⟨-, -, -, -, -, -, -, -, ⟨h13, h14, h15⟩, h16, -, -, -⟩ := hP
  unfold wpX_rankInBlocks
  dsimp only
  have hM := sx_Mle c N q
  have e30 : nI q * 30 + nI (i / 7) = nI (q * 30 + i / 7) := by
    rw [show (30 : Int32) = nI 30 from rfl, pk_mul, nI_add]
  have e31 : nI q * 31 + nI (i / 7) = nI (q * 31 + i / 7) := by
    rw [show (31 : Int32) = nI 31 from rfl, pk_mul, nI_add]
  have hm : sx_bm c N q (i / 7) < 8 := by
    unfold sx_bm
    omega
  have d30 : (q * 30 + i / 7) / 30 = q := by omega
  have m30 : (q * 30 + i / 7) % 30 = i / 7 := by omega
  have g13 : a13 (q * 30 + i / 7) = nI (sx_bm c N q (i / 7)) := by
    rw [h13 _ (by omega)]
    unfold sx_G13
    rw [d30, m30]
  have g14 : a14 (q * 30 + i / 7) = nI (sx_nb (sx_bm c N q (i / 7)) (sx_bm c N q (i / 7))) := by
    rw [h14 _ (by omega)]
    unfold sx_G14
    rw [d30, m30]
  have g15 : a15 (q * 31 + i / 7) = nI (min (sx_M c N q) (7 * (i / 7))) := by
    rw [h15 _ (by omega)]
    unfold sx_G15
    rw [show (q * 31 + i / 7) / 31 = q by omega, show (q * 31 + i / 7) % 31 = i / 7 by omega]
  refine ⟨by decide, nm_r (pk_div (d := 7) (by omega) (by decide) (by decide)) ⟨by decide, nm_r (pk_rem (d := 7) (by omega) (by decide) (by decide)) ?_⟩⟩
  rw [e30, e31, nI_clamp (show q * 30 + i / 7 < 2 ^ 31 by omega), nI_clamp (show q * 31 + i / 7 < 2 ^ 31 by omega), g13, g14, g15]
  refine ⟨vp_in_nI (by omega) (by decide), vp_in_nI (by omega) (by decide), sx_bitsOf rfl rfl hm h16 ⟨vp_in_nI (by omega) (by decide), sx_onesIn (sx_rm _ hm (i % 7) (by omega)) (by omega) ?_⟩⟩
  rw [nI_add]
  unfold sx_bm
  rw [show min (sx_M c N q) (7 * (i / 7)) + min (min 7 (sx_M c N q - 7 * (i / 7))) (i % 7) = min (sx_M c N q) i by omega]
  exact H
theorem sx_runBefore {post : Int32 → Prop} {u : St2} {c N i : Nat} (hP : sx_P c N u) (hN : N ≤ 200) (hi : i ≤ N) (H0 : i = 0 → post (-1)) (H1 : 0 < i → post 0) : wpX_runBeforePlace post u (nI i) := by
  obtain ⟨fn, fp, fr, fd, fc, a1, a2, a3, a4, a5, a6, a7, a8, a9, a10, a11, a12, a13, a14, a15, a16, a17, a18, a19, a20, a21, a22, a23, a24, a25, a26, a27⟩ := u
  obtain ⟨-, -, -, -, -, -, -, -, -, -, k0, k1, -⟩ := hP
  unfold wpX_runBeforePlace
  dsimp only
  by_cases n0 : N = 0
  · rw [k0 n0]
    exact ⟨1, br_t (by decide) (H0 (by omega))⟩
  · obtain ⟨e0, e17, -, -, -, -⟩ := k1 (by omega)
    rw [e0]
    refine ⟨2, br_f (by decide) ⟨by decide, nm_r (e' := nI 0) (by decide) ⟨pk_in 0 201 (by omega), ?_⟩⟩⟩
    rw [nI_clamp (show 0 < 2 ^ 31 by omega), e17]
    exact pk_le i 0 (fun z => br_t rfl (br_t rfl (br_t (by decide) (H0 (by omega))))) (fun z => br_f (by decide) (br_f (by decide) (br_t (by decide) (H1 z))))
theorem sx_rankInRuns {post : Int32 → Prop} {u : St2} {c N q i : Nat} (hP : sx_P c N u) (hc : c < 8) (hq : q < 8) (hN : N ≤ 200) (hi : i ≤ N) (H : post (nI (min (sx_M c N q) i))) : wpX_rankInRuns post u (nI q) (nI i) := by
  obtain ⟨fn, fp, fr, fd, fc, a1, a2, a3, a4, a5, a6, a7, a8, a9, a10, a11, a12, a13, a14, a15, a16, a17, a18, a19, a20, a21, a22, a23, a24, a25, a26, a27⟩ := u
  unfold wpX_rankInRuns
  dsimp only
  refine sx_runBefore hP hN hi (fun z => ⟨1, br_t (by decide) (br_f (by decide) ?_)⟩) (fun z => ?_)
  · rw [z, Nat.min_zero] at H
    exact H
  · obtain ⟨-, -, -, -, -, -, -, -, -, -, k0, k1, -⟩ := hP
    obtain ⟨e0, e17, e17', e18, e19, e21⟩ := k1 (by omega)
    refine ⟨2, br_f (by decide) ⟨pk_in 0 200 (by omega), ?_⟩⟩
    rw [sb_cl0, e18]
    refine pk_eq c q (fun e => ?_) (fun e => ?_)
    · rw [show sx_M c N q = N from if_pos e.symm, show min N i = i by omega] at H
      refine br_t (by decide) ⟨pk_in 1 201 (by omega), ?_⟩
      rw [show ((0 : Int32) + 1).toNatClampNeg = 1 by decide, e17']
      refine pk_le i N (fun _ => ⟨pk_in 0 200 (by omega), pk_in 0 201 (by omega), ?_⟩) (fun y => absurd y (by omega))
      rw [sb_cl0, e19, e17, Int32.zero_add, Int32.sub_zero]
      exact H
    · rw [show sx_M c N q = 0 from if_neg (fun t => e t.symm), Nat.zero_min] at H
      exact nm_r (e' := -1) (by decide) (br_t (by decide) (br_f (by decide) H))
theorem sx_rankInCodes {post : Int32 → Prop} {u : St2} {c N q i : Nat} (hP : sx_P c N u) (hc : c < 8) (hq : q < 8) (hN : N ≤ 200) (hi : i ≤ N) (H : post (nI (min (sx_M c N q) i))) : wpX_rankInCodes post u (nI q) (nI i) := by
  obtain ⟨fn, fp, fr, fd, fc, a1, a2, a3, a4, a5, a6, a7, a8, a9, a10, a11, a12, a13, a14, a15, a16, a17, a18, a19, a20, a21, a22, a23, a24, a25, a26, a27⟩ := u
  obtain ⟨-, -, -, -, h2, -, -, -, -, -, -, -, h26⟩ := hP
  unfold wpX_rankInCodes
  dsimp only
  have hM := sx_Mle c N q
  rw [nI_clamp (show q < 2 ^ 31 by omega), show a2 q = nI (sx_M c N q) from h2 q hq]
  refine ⟨pk_in q 8 hq, pk_eq (sx_M c N q) 0 (fun z => ?_) (fun z => nm_e ⟨1, pk_in q 16 (by omega), br_t ?_ ?_⟩)⟩
  · rw [z, Nat.zero_min] at H
    exact H
  · rw [nI_clamp (show q < 2 ^ 31 by omega), h26 q (by omega)]
    exact Int32.le_refl _
  · have e : sx_M c N q = N := by
      unfold sx_M at z ⊢
      by_cases e : q = c
      · exact if_pos e
      · rw [if_neg e] at z
        exact absurd rfl z
    rw [e, show min N i = i by omega] at H
    exact H
theorem sx_rankBy {post : Int32 → Prop} {u : St2} {c N e q i : Nat} {x : Int32} (hx : x = nI e) (hP : sx_P c N u) (hc : c < 8) (he : e < 7) (hq : q < 8) (hN : N ≤ 200) (hi : i ≤ N) (H : post (nI (min (sx_M c N q) i))) : wpX_rankBy post u x (nI q) (nI i) := by
  subst hx
  obtain ⟨fn, fp, fr, fd, fc, a1, a2, a3, a4, a5, a6, a7, a8, a9, a10, a11, a12, a13, a14, a15, a16, a17, a18, a19, a20, a21, a22, a23, a24, a25, a26, a27⟩ := u
  unfold wpX_rankBy
  dsimp only
  refine br_f (nI_pos (by omega)) (pk_lt 5 e (fun _ => sx_rankInCodes hP hc hq hN hi H) (fun z => ?_))
  refine pk_eq e 0 (fun _ => sx_rankInTree hP hc hq hN hi H) (fun z0 => ?_)
  refine pk_eq e 1 (fun _ => sx_rankInMatrix hP hc hq hN hi H) (fun z1 => ?_)
  refine pk_eq e 2 (fun _ => sx_onesBefore (r := 6 + q) (i := i) (nI_add 6 q) rfl (by omega) (by omega) hP.2.2.2.2.2.1 ?_) (fun z2 => ?_)
  · rw [sx_F6 hq]
    exact H
  refine pk_eq e 3 (fun _ => sx_rankInParts hP hc hq hN hi H) (fun z3 => ?_)
  refine pk_eq e 4 (fun _ => sx_rankInBlocks hP hc hq hN hi H) (fun z4 => ?_)
  exact pk_eq e 5 (fun _ => sx_rankInRuns hP hc hq hN hi H) (fun z5 => trivial)
end
section
/-! the letter at a place -/
theorem sx_atInTree {post : Int32 → Prop} {u : St2} {c N i : Nat} (hP : sx_P c N u) (hc : c < 8) (hN : N ≤ 200) (hi : i < N) (H : post (nI c)) : wpX_atInTree post u (nI i) := by
  obtain ⟨fn, fp, fr, fd, fc, a1, a2, a3, a4, a5, a6, a7, a8, a9, a10, a11, a12, a13, a14, a15, a16, a17, a18, a19, a20, a21, a22, a23, a24, a25, a26, a27⟩ := u
  obtain ⟨e1, e2, e3, h1, h2, hQ, -, -, -, -, -, -, -⟩ := hP
  subst e1 e2 e3
  unfold wpX_atInTree
  dsimp only
  refine pk_loop (σ := Int32) (fun n l s => wX_atInTree_16 post (nI N) 1 fr 0 fc a1 a2 a3 a4 a5 a6 a7 a8 a9 a10 a11 a12 a13 a14 a15 a16 a17 a18 a19 a20 a21 a22 a23 a24 a25 a26 a27 n s 0 (nI N) (nI i) (nI l)) (fun l s => s = nI (c / 2 ^ (3 - l))) 3 0 0 (by omega) ?_ ?_ ?_
  · show (0 : Int32) = nI (c / 2 ^ (3 - 0))
    rw [sx_top c hc]
    rfl
  · intro n s hs
    try dsimp only at hs
    rw [sx_bot] at hs
    subst hs
    exact pk_le 3 3 (fun _ => H) (fun z => absurd z (by omega))
  · intro n l s hl hs hw
    try dsimp only at hs
    subst hs
    have hF := sx_F0 (c := c) (N := N) hl
    have hB := sx_half c hc l hl
    refine pk_le 3 l (fun z => absurd z (by omega)) (fun _ => nm_r (sx_z0 _) ?_)
    refine sx_zerosBefore (i := 0) rfl rfl (by omega) (by omega) hQ ?_
    refine sx_zerosBefore rfl rfl (by omega) (by omega) hQ ?_
    rw [hF]
    refine nm_r (pk_sub (by omega)) ?_
    refine sx_zerosBefore rfl (sx_z0 _) (by omega) (by omega) hQ ?_
    rw [hF]
    refine nm_r (pk_sub (by omega)) ?_
    refine sx_bitAt rfl (sx_z0 _) (by omega) (by omega) hQ.1 ?_
    rw [hF]
    rcases sx_Dc c N l with ⟨d, e⟩ | ⟨d, e⟩
    · rw [e, if_pos hi]
      refine br_f (by decide) (nm_r (e' := nI (c / 2 ^ (3 - (l + 1)))) ?_ (br_f (by decide) (br_f (by decide) (br_f (by decide) (nm_r (nI_1 l) ?_)))))
      · rw [hB, d, show (2 : Int32) = nI 2 from rfl, pk_mul, nI_1]
      · have k := hw _ rfl
        rw [show N - N - (0 - N) = 0 by omega, show i - N - (0 - N) = 0 by omega, nI_0, Int32.add_zero, Int32.sub_zero]
        exact k
    · rw [e, if_neg (by omega)]
      refine br_t rfl (nm_r (e' := nI (c / 2 ^ (3 - (l + 1)))) ?_ (br_t rfl (br_t rfl (br_t rfl (nm_r (e' := nI N) ?_ (nm_r (nI_1 l) ?_))))))
      · rw [hB, d, show (2 : Int32) = nI 2 from rfl, pk_mul, Int32.add_zero, Nat.add_zero]
      · rw [Int32.zero_add, show N - 0 - (0 - 0) = N by omega]
      · have k := hw _ rfl
        rw [show i - 0 - (0 - 0) = i by omega]
        exact k
theorem sx_atInMatrix {post : Int32 → Prop} {u : St2} {c N i : Nat} (hP : sx_P c N u) (hc : c < 8) (hN : N ≤ 200) (hi : i < N) (H : post (nI c)) : wpX_atInMatrix post u (nI i) := by
  obtain ⟨fn, fp, fr, fd, fc, a1, a2, a3, a4, a5, a6, a7, a8, a9, a10, a11, a12, a13, a14, a15, a16, a17, a18, a19, a20, a21, a22, a23, a24, a25, a26, a27⟩ := u
  obtain ⟨e1, e2, e3, h1, h2, hQ, h8, -, -, -, -, -, -⟩ := hP
  unfold wpX_atInMatrix
  dsimp only
  refine pk_loop (σ := Int32) (fun n l s => wX_atInMatrix_7 post fn fp fr fd fc a1 a2 a3 a4 a5 a6 a7 a8 a9 a10 a11 a12 a13 a14 a15 a16 a17 a18 a19 a20 a21 a22 a23 a24 a25 a26 a27 n s (nI i) (nI l)) (fun l s => s = nI (c / 2 ^ (3 - l))) 3 0 0 (by omega) ?_ ?_ ?_
  · show (0 : Int32) = nI (c / 2 ^ (3 - 0))
    rw [sx_top c hc]
    rfl
  · intro n s hs
    try dsimp only at hs
    rw [sx_bot] at hs
    subst hs
    exact pk_le 3 3 (fun _ => H) (fun z => absurd z (by omega))
  · intro n l s hl hs hw
    try dsimp only at hs
    subst hs
    have hF := sx_F3 (c := c) (N := N) hl
    have hB := sx_half c hc l hl
    refine pk_le 3 l (fun z => absurd z (by omega)) (fun _ => sx_bitAt (r := 3 + l) (nI_add 3 l) rfl (by omega) (by omega) hQ.1 ?_)
    rw [hF]
    rcases sx_Dc c N l with ⟨d, e⟩ | ⟨d, e⟩
    · rw [e, if_pos hi]
      refine br_f (by decide) (nm_r (e' := nI (c / 2 ^ (3 - (l + 1)))) ?_ (sx_onesBefore (r := 3 + l) (nI_add 3 l) rfl (by omega) (by omega) hQ (br_f (by decide) ⟨pk_in l 3 hl, nm_r (e' := nI i) ?_ (nm_r (nI_1 l) (hw _ rfl))⟩)))
      · rw [hB, d, show (2 : Int32) = nI 2 from rfl, pk_mul, nI_1]
      · rw [nI_clamp (show l < 2 ^ 31 by omega), h8 l hl, if_pos d, hF, e, nI_add, show 0 + min N i = i by omega]
    · rw [e, if_neg (by omega)]
      refine br_t rfl (nm_r (e' := nI (c / 2 ^ (3 - (l + 1)))) ?_ (sx_onesBefore (r := 3 + l) (nI_add 3 l) rfl (by omega) (by omega) hQ (br_t rfl (nm_r (e' := nI i) ?_ (nm_r (nI_1 l) (hw _ rfl))))))
      · rw [hB, d, show (2 : Int32) = nI 2 from rfl, pk_mul, Int32.add_zero, Nat.add_zero]
      · rw [hF, e, Nat.zero_min, nI_0, Int32.sub_zero]
theorem sx_atInCodes {post : Int32 → Prop} {u : St2} {c N i : Nat} (hP : sx_P c N u) (hc : c < 8) (hN : N ≤ 200) (hi : i < N) (H : post (nI c)) : wpX_atInCodes post u (nI i) := by
  obtain ⟨fn, fp, fr, fd, fc, a1, a2, a3, a4, a5, a6, a7, a8, a9, a10, a11, a12, a13, a14, a15, a16, a17, a18, a19, a20, a21, a22, a23, a24, a25, a26, a27⟩ := u
  obtain ⟨-, -, e3, h1, -, -, -, -, -, -, -, -, -⟩ := hP
  unfold wpX_atInCodes
  dsimp only
  refine nm_e (br_t e3 ⟨pk_in i 200 (by omega), nm_r (e' := nI c) (by rw [nI_clamp (by omega)]; exact h1 i hi) ⟨1, br_t (nI_pos' (by omega)) H⟩⟩)
theorem sx_atByRanks {post : Int32 → Prop} {u : St2} {c N e i : Nat} (hP : sx_P c N u) (hc : c < 8) (he : e < 7) (hN : N ≤ 200) (hi : i < N) (H : post (nI c)) : wpX_atByRanks post u (nI e) (nI i) := by
  obtain ⟨fn, fp, fr, fd, fc, a1, a2, a3, a4, a5, a6, a7, a8, a9, a10, a11, a12, a13, a14, a15, a16, a17, a18, a19, a20, a21, a22, a23, a24, a25, a26, a27⟩ := u
  unfold wpX_atByRanks
  dsimp only
  refine pk_loop (σ := Int32) (fun n q s => wX_atByRanks_5 post (nI e) (nI i) fn fp fr fd fc a1 a2 a3 a4 a5 a6 a7 a8 a9 a10 a11 a12 a13 a14 a15 a16 a17 a18 a19 a20 a21 a22 a23 a24 a25 a26 a27 n s (nI q)) (fun q s => s = nI (if c < q then c else 0)) 8 0 0 (by omega) ?_ ?_ ?_
  · show (0 : Int32) = nI (if c < 0 then c else 0)
    rw [if_neg (by omega)]
    rfl
  · intro n s hs
    try dsimp only at hs
    rw [if_pos hc] at hs
    subst hs
    exact pk_le 8 8 (fun _ => H) (fun z => absurd z (by omega))
  · intro n q s hq hs hw
    try dsimp only at hs
    refine pk_le 8 q (fun z => absurd z (by omega)) (fun _ => sx_rankBy rfl hP hc he hq hN (by omega) ?_)
    rw [nI_1 i]
    refine sx_rankBy rfl hP hc he hq hN (by omega) ?_
    have hM := sx_Mle c N q
    refine pk_le (min (sx_M c N q) (i + 1)) (min (sx_M c N q) i) (fun z => nm_r (nI_1 q) (hw s ?_)) (fun z => nm_r (nI_1 q) (hw (nI q) ?_))
    · have k : q ≠ c := by
        intro k
        rw [show sx_M c N q = N from if_pos k] at z
        omega
      show s = nI (if c < q + 1 then c else 0)
      rw [hs]
      by_cases g : c < q
      · rw [if_pos g, if_pos (by omega)]
      · rw [if_neg g, if_neg (by omega)]
    · have k : q = c := by
        refine Decidable.byContradiction (fun k => ?_)
        rw [show sx_M c N q = 0 from if_neg k] at z
        omega
      show nI q = nI (if c < q + 1 then c else 0)
      rw [if_pos (by omega), k]
theorem sx_atBy {post : Int32 → Prop} {u : St2} {c N e i : Nat} (hP : sx_P c N u) (hc : c < 8) (he : e < 7) (hN : N ≤ 200) (hi : i < N) (H : post (nI c)) : wpX_atBy post u (nI e) (nI i) := by
  obtain ⟨fn, fp, fr, fd, fc, a1, a2, a3, a4, a5, a6, a7, a8, a9, a10, a11, a12, a13, a14, a15, a16, a17, a18, a19, a20, a21, a22, a23, a24, a25, a26, a27⟩ := u
  unfold wpX_atBy
  dsimp only
  refine pk_eq e 0 (fun _ => sx_atInTree hP hc hN hi H) (fun _ => pk_eq e 1 (fun _ => sx_atInMatrix hP hc hN hi H) (fun _ => pk_eq e 6 (fun _ => sx_atInCodes hP hc hN hi H) (fun _ => pk_eq e 5 (fun _ => ?_) (fun _ => sx_atByRanks hP hc he hN hi H))))
  rw [nI_1]
  refine sx_runBefore hP hN (by omega) (fun z => absurd z (by omega)) (fun _ => ⟨pk_in 0 200 (by omega), ?_⟩)
  obtain ⟨-, -, -, -, -, -, -, -, -, -, -, k1, -⟩ := hP
  obtain ⟨-, -, -, e18, -, -⟩ := k1 (by omega)
  rw [sb_cl0, e18]
  exact H
/-- the list, packed or not -/
def sx_X (c N : Nat) (u : St2) : Prop := sx_V c N u ∨ sx_P c N u
theorem sx_Xn {c N : Nat} {fn fp fr fd fc : Int32} {a1 a2 a3 a4 a5 a6 a7 a8 a9 a10 a11 a12 a13 a14 a15 a16 a17 a18 a19 a20 a21 a22 a23 a24 a25 a26 a27 : Nat → Int32} (h : sx_X c N (fn, fp, fr, fd, fc, a1, a2, a3, a4, a5, a6, a7, a8, a9, a10, a11, a12, a13, a14, a15, a16, a17, a18, a19, a20, a21, a22, a23, a24, a25, a26, a27)) : fn = nI N := by
  rcases h with h | h
  · exact h.1
  · exact h.1
theorem sx_at {post : Int32 → St2 → Prop} {u : St2} {c N : Nat} {x y : Int32} (hc : c < 8) (hN : N ≤ 200) (h : sx_X c N u)
    (H1 : sx_is 7 x → sx_is N y → ∀ u, sx_X c N u → post (nI c) u) (H0 : ¬ (sx_is 7 x ∧ sx_is N y) → ∀ u, sx_X c N u → post (-1) u) : wpX_at post u x y := by
  obtain ⟨fn, fp, fr, fd, fc, a1, a2, a3, a4, a5, a6, a7, a8, a9, a10, a11, a12, a13, a14, a15, a16, a17, a18, a19, a20, a21, a22, a23, a24, a25, a26, a27⟩ := u
  have en := sx_Xn h
  unfold wpX_at
  dsimp only
  refine sx_isEngine (fun z => br_t rfl (H0 (fun t => z t.1) _ h)) (fun z => br_f (by decide) (sx_brgt (N := N) (by omega) en (fun w => ?_) (fun w => H0 (fun t => w t.2) _ h)))
  refine sx_pack hc hN h ?_
  rintro ⟨fn, fp, fr, fd, fc, a1, a2, a3, a4, a5, a6, a7, a8, a9, a10, a11, a12, a13, a14, a15, a16, a17, a18, a19, a20, a21, a22, a23, a24, a25, a26, a27⟩ hP
  have z' := z
  have w' := w
  obtain ⟨e, he, rfl⟩ := z'
  obtain ⟨i, hi, rfl⟩ := w'
  exact sx_atBy hP hc he hN hi (H1 z w _ (Or.inr hP))
theorem sx_rank {post : Int32 → St2 → Prop} {u : St2} {c N : Nat} {x y w : Int32} (hc : c < 8) (hN : N ≤ 200) (h : sx_X c N u)
    (H1 : sx_is 7 x → sx_is 8 y → ∀ i, i ≤ N → w = nI i → ∀ r, (y = nI c → r = w) → (¬ y = nI c → r = 0) → ∀ u, sx_X c N u → post r u) (H0 : ¬ (sx_is 7 x ∧ sx_is 8 y ∧ sx_is (N + 1) w) → ∀ u, sx_X c N u → post (-1) u) : wpX_rank post u x y w := by
  obtain ⟨fn, fp, fr, fd, fc, a1, a2, a3, a4, a5, a6, a7, a8, a9, a10, a11, a12, a13, a14, a15, a16, a17, a18, a19, a20, a21, a22, a23, a24, a25, a26, a27⟩ := u
  have en := sx_Xn h
  unfold wpX_rank
  dsimp only
  refine sx_isEngine (fun z => br_t rfl (H0 (fun t => z t.1) _ h)) (fun z => br_f (by decide) ?_)
  refine sx_isLetter (fun v => br_t rfl (H0 (fun t => v t.2.1) _ h)) (fun v => br_f (by decide) (sx_brge (N := N) (by omega) en (fun s => ?_) (fun s => H0 (fun t => s t.2.2) _ h)))
  refine sx_pack hc hN h ?_
  rintro ⟨fn, fp, fr, fd, fc, a1, a2, a3, a4, a5, a6, a7, a8, a9, a10, a11, a12, a13, a14, a15, a16, a17, a18, a19, a20, a21, a22, a23, a24, a25, a26, a27⟩ hP
  have z' := z
  have v' := v
  obtain ⟨e, he, rfl⟩ := z'
  obtain ⟨q, hq, rfl⟩ := v'
  obtain ⟨i, hi, rfl⟩ := s
  refine sx_rankBy rfl hP hc he hq hN (by omega) (H1 z v i (by omega) rfl _ (fun t => ?_) (fun t => ?_) _ (Or.inr hP))
  · have k : q = c := (nI_eq (by omega) (by omega)).mp t
    rw [show sx_M c N q = N from if_pos k, show min N i = i by omega]
  · have k : q ≠ c := fun k => t (by rw [k])
    rw [show sx_M c N q = 0 from if_neg k, Nat.zero_min]
    rfl
end
section
/-! places of bits and letters: by halving -/
theorem sx_placeOfBit {post : Int32 → Prop} {u : St2} {c N r k : Nat} {x o : Int32} (hx : x = nI r) (hP : sx_P c N u) (hr : r < 21) (hN : N ≤ 200) (hk : k ≤ N) (h0 : o = 0 → sx_F c N 21 r = 0) (h1 : ¬ o = 0 → sx_F c N 21 r = N) (H : post (nI k)) : wpX_placeOfBit post u x o (nI k) := by
  subst hx
  obtain ⟨fn, fp, fr, fd, fc, a1, a2, a3, a4, a5, a6, a7, a8, a9, a10, a11, a12, a13, a14, a15, a16, a17, a18, a19, a20, a21, a22, a23, a24, a25, a26, a27⟩ := u
  obtain ⟨e1, -, -, -, -, hQ, -, -, -, -, -, -, -⟩ := hP
  unfold wpX_placeOfBit
  dsimp only
  rw [e1]
  refine lp2 (fun n x3 x4 => wX_placeOfBit_9 post (nI r) o (nI k) (nI N) fp fr fd fc a1 a2 a3 a4 a5 a6 a7 a8 a9 a10 a11 a12 a13 a14 a15 a16 a17 a18 a19 a20 a21 a22 a23 a24 a25 a26 a27 n x3 x4) (fun x3 x4 => ∃ lo hh, x3 = nI lo ∧ x4 = nI hh ∧ lo ≤ k ∧ k ≤ hh ∧ hh ≤ N) (fun x3 x4 => x4.toNatClampNeg - x3.toNatClampNeg) ?_ 0 (nI N) ⟨0, N, rfl, rfl, by omega, hk, by omega⟩
  rintro n x3 x4 ⟨lo, hh, rfl, rfl, k1, k2, k3⟩ hw
  refine pk_le hh lo (fun z => ?_) (fun z => ⟨by decide, nm_r (sx_mid (by omega) (by omega)) ?_⟩)
  · rw [show lo = k by omega]
    exact H
  · have key : wX_placeOfBit_50 post (wX_placeOfBit_9 post (nI r) o (nI k) (nI N) fp fr fd fc a1 a2 a3 a4 a5 a6 a7 a8 a9 a10 a11 a12 a13 a14 a15 a16 a17 a18 a19 a20 a21 a22 a23 a24 a25 a26 a27 n) (nI r) o (nI k) (nI lo) (nI hh) (nI ((lo + hh) / 2)) (nI ((lo + hh) / 2 + 1)) (nI N) fp fr fd fc a1 a2 a3 a4 a5 a6 a7 a8 a9 a10 a11 a12 a13 a14 a15 a16 a17 a18 a19 a20 a21 a22 a23 a24 a25 a26 a27 := by
      refine pk_lt k ((lo + hh) / 2 + 1) (fun y => br_t rfl (br_t rfl (hw _ _ ⟨_, _, rfl, rfl, ?_, ?_, ?_⟩ ?_))) (fun y => br_f (by decide) (br_f (by decide) (hw _ _ ⟨(lo + hh) / 2 + 1, _, nI_1 _, rfl, ?_, ?_, ?_⟩ ?_)))
      · omega
      · omega
      · omega
      · try dsimp only
        rw [nI_clamp (by omega), nI_clamp (by omega), nI_clamp (by omega)]
        omega
      · omega
      · omega
      · omega
      · try dsimp only
        rw [nI_1, nI_clamp (by omega), nI_clamp (by omega), nI_clamp (by omega)]
        omega
    refine br_c (fun y => sx_zerosBefore rfl (nI_1 _) hr (by omega) hQ ?_) (fun y => sx_onesBefore rfl (nI_1 _) hr (by omega) hQ ?_)
    · rw [h0 y, Nat.sub_zero]
      exact key
    · rw [h1 y, show min N ((lo + hh) / 2 + 1) = (lo + hh) / 2 + 1 by omega]
      exact key
theorem sx_selectByRanks {post : Int32 → Prop} {u : St2} {c N e k : Nat} (hP : sx_P c N u) (hc : c < 8) (he : e < 7) (hN : N ≤ 200) (hk : k ≤ N) (H : post (nI k)) : wpX_selectByRanks post u (nI e) (nI c) (nI k) := by
  obtain ⟨fn, fp, fr, fd, fc, a1, a2, a3, a4, a5, a6, a7, a8, a9, a10, a11, a12, a13, a14, a15, a16, a17, a18, a19, a20, a21, a22, a23, a24, a25, a26, a27⟩ := u
  have e1 : fn = nI N := hP.1
  unfold wpX_selectByRanks
  dsimp only
  subst e1
  refine lp2 (fun n x3 x4 => wX_selectByRanks_9 post (nI e) (nI c) (nI k) (nI N) fp fr fd fc a1 a2 a3 a4 a5 a6 a7 a8 a9 a10 a11 a12 a13 a14 a15 a16 a17 a18 a19 a20 a21 a22 a23 a24 a25 a26 a27 n x3 x4) (fun x3 x4 => ∃ lo hh, x3 = nI lo ∧ x4 = nI hh ∧ lo ≤ k ∧ k ≤ hh ∧ hh ≤ N) (fun x3 x4 => x4.toNatClampNeg - x3.toNatClampNeg) ?_ 0 (nI N) ⟨0, N, rfl, rfl, by omega, hk, by omega⟩
  rintro n x3 x4 ⟨lo, hh, rfl, rfl, k1, k2, k3⟩ hw
  refine pk_le hh lo (fun z => ?_) (fun z => ⟨by decide, nm_r (sx_mid (by omega) (by omega)) ?_⟩)
  · rw [show lo = k by omega]
    exact H
  · rw [nI_1]
    refine sx_rankBy rfl hP hc he hc hN (by omega) ?_
    rw [show sx_M c N c = N from if_pos rfl, show min N ((lo + hh) / 2 + 1) = (lo + hh) / 2 + 1 by omega]
    refine pk_lt k ((lo + hh) / 2 + 1) (fun y => br_t rfl (br_t rfl (hw _ _ ⟨_, _, rfl, rfl, ?_, ?_, ?_⟩ ?_))) (fun y => br_f (by decide) (br_f (by decide) (hw _ _ ⟨(lo + hh) / 2 + 1, _, nI_1 _, rfl, ?_, ?_, ?_⟩ ?_)))
    · omega
    · omega
    · omega
    · try dsimp only
      rw [nI_clamp (by omega), nI_clamp (by omega), nI_clamp (by omega)]
      omega
    · omega
    · omega
    · omega
    · try dsimp only
      rw [nI_1, nI_clamp (by omega), nI_clamp (by omega), nI_clamp (by omega)]
      omega
theorem sx_selectInRuns {post : Int32 → Prop} {u : St2} {c N k : Nat} (hP : sx_P c N u) (hc : c < 8) (hN : N ≤ 200) (hk : k < N) (H : post (nI k)) : wpX_selectInRuns post u (nI c) (nI k) := by
  obtain ⟨fn, fp, fr, fd, fc, a1, a2, a3, a4, a5, a6, a7, a8, a9, a10, a11, a12, a13, a14, a15, a16, a17, a18, a19, a20, a21, a22, a23, a24, a25, a26, a27⟩ := u
  obtain ⟨-, -, -, -, -, -, -, -, -, -, -, k1, -⟩ := hP
  obtain ⟨e0, e17, e17', e18, e19, e21⟩ := k1 (by omega)
  unfold wpX_selectInRuns
  dsimp only
  refine ⟨pk_in c 8 hc, nm_r (e' := 0) (by rw [nI_clamp (by omega)]; exact e21) ⟨1, pk_in 0 200 (by omega), br_t ?_ ⟨pk_in 0 201 (by omega), pk_in 0 200 (by omega), ?_⟩⟩⟩
  · rw [sb_cl0, e19]
    exact nI_pos' (by omega)
  · rw [sb_cl0, e19, e17, Int32.zero_add, Int32.sub_zero]
    exact H
theorem sx_sel_s {post : Int32 → Prop} {fn fp fr fd fc : Int32} {a1 a2 a3 a4 a5 a6 a7 a8 a9 a10 a11 a12 a13 a14 a15 a16 a17 a18 a19 a20 a21 a22 a23 a24 a25 a26 a27 : Nat → Int32} {c N k l n : Nat} (hP : sx_P c N (fn, fp, fr, fd, fc, a1, a2, a3, a4, a5, a6, a7, a8, a9, a10, a11, a12, a13, a14, a15, a16, a17, a18, a19, a20, a21, a22, a23, a24, a25, a26, a27)) (hc : c < 8) (hN : N ≤ 200) (hk : k ≤ N) (hl : l < 3) (H : wX_selectInMatrix_51 post (nI c) fn fp fr fd fc a1 a2 a3 a4 a5 a6 a7 a8 a9 a10 a11 a12 a13 a14 a15 a16 a17 a18 a19 a20 a21 a22 a23 a24 a25 a26 a27 n (nI k) (nI l + (-1))) : wX_selectInMatrix_51 post (nI c) fn fp fr fd fc a1 a2 a3 a4 a5 a6 a7 a8 a9 a10 a11 a12 a13 a14 a15 a16 a17 a18 a19 a20 a21 a22 a23 a24 a25 a26 a27 (n + 1) (nI k) (nI l) := by
  have h8 := hP.2.2.2.2.2.2.1
  have hF := sx_F3 (c := c) (N := N) hl
  refine br_f (nI_pos (by omega)) (sx_digitOf rfl rfl hc hl ?_)
  rcases sx_Dc c N l with ⟨d, e⟩ | ⟨d, e⟩
  · refine br_t (by rw [d]; rfl) (br_f (by decide) ⟨pk_in l 3 hl, ?_⟩)
    rw [nI_clamp (show l < 2 ^ 31 by omega), h8 l hl, if_pos d, nI_0, Int32.sub_zero]
    exact sx_placeOfBit (nI_add 3 l) hP (by omega) hN hk (fun z => absurd z (by decide)) (fun _ => by rw [hF, e]) (nm_e H)
  · refine br_f (by rw [d]; decide) (br_t rfl ?_)
    exact sx_placeOfBit (nI_add 3 l) hP (by omega) hN hk (fun _ => by rw [hF, e]) (fun z => absurd rfl z) (nm_e H)
theorem sx_selectInMatrix {post : Int32 → Prop} {u : St2} {c N k : Nat} (hP : sx_P c N u) (hc : c < 8) (hN : N ≤ 200) (hk : k < N) (H : post (nI k)) : wpX_selectInMatrix post u (nI c) (nI k) := by
  obtain ⟨fn, fp, fr, fd, fc, a1, a2, a3, a4, a5, a6, a7, a8, a9, a10, a11, a12, a13, a14, a15, a16, a17, a18, a19, a20, a21, a22, a23, a24, a25, a26, a27⟩ := u
  unfold wpX_selectInMatrix
  dsimp only
  refine pk_loop (σ := Unit) (fun n l _ => wX_selectInMatrix_5 post (nI c) (nI k) fn fp fr fd fc a1 a2 a3 a4 a5 a6 a7 a8 a9 a10 a11 a12 a13 a14 a15 a16 a17 a18 a19 a20 a21 a22 a23 a24 a25 a26 a27 n 0 (nI l)) (fun _ _ => True) 3 0 () (by omega) trivial ?_ ?_
  · intro n _ _
    refine pk_le 3 3 (fun _ => nm_r (sx_z0 _) ⟨4, ?_⟩) (fun z => absurd z (by omega))
    refine sx_sel_s (l := 2) hP hc hN (by omega) (by omega) ?_
    refine sx_sel_s (l := 1) hP hc hN (by omega) (by omega) ?_
    refine sx_sel_s (l := 0) hP hc hN (by omega) (by omega) ?_
    exact br_t (by decide) H
  · intro n l _ hl _ hw
    have k0 : wX_selectInMatrix_5 post (nI c) (nI k) fn fp fr fd fc a1 a2 a3 a4 a5 a6 a7 a8 a9 a10 a11 a12 a13 a14 a15 a16 a17 a18 a19 a20 a21 a22 a23 a24 a25 a26 a27 n (nI 0) (nI (l + 1)) := hw () trivial
    refine pk_le 3 l (fun z => absurd z (by omega)) (fun _ => sx_digitOf rfl rfl hc hl ?_)
    rcases sx_Dc c N l with ⟨d, e⟩ | ⟨d, e⟩
    · refine br_t (by rw [d]; rfl) (sx_downInMatrix (i := 0) hP hl hN (by omega) (fun z => absurd z (by decide)) (fun _ => nm_r (nI_1 l) ?_))
      rw [e, show N - N + min N 0 = 0 by omega]
      exact k0
    · refine br_f (by rw [d]; decide) (sx_downInMatrix (i := 0) hP hl hN (by omega) (fun _ => nm_r (nI_1 l) ?_) (fun z => absurd rfl z))
      rw [Nat.zero_sub]
      exact k0
theorem sx_select {post : Int32 → St2 → Prop} {u : St2} {c N : Nat} {x y w : Int32} (hc : c < 8) (hN : N ≤ 200) (h : sx_X c N u)
    (H1 : sx_is 7 x → y = nI c → sx_is N w → ∀ u, sx_X c N u → post w u) (H0 : ¬ (sx_is 7 x ∧ y = nI c ∧ sx_is N w) → ∀ u, sx_X c N u → post (-1) u) : wpX_select post u x y w := by
  obtain ⟨fn, fp, fr, fd, fc, a1, a2, a3, a4, a5, a6, a7, a8, a9, a10, a11, a12, a13, a14, a15, a16, a17, a18, a19, a20, a21, a22, a23, a24, a25, a26, a27⟩ := u
  unfold wpX_select
  dsimp only
  refine sx_pack hc hN h ?_
  rintro ⟨fn, fp, fr, fd, fc, a1, a2, a3, a4, a5, a6, a7, a8, a9, a10, a11, a12, a13, a14, a15, a16, a17, a18, a19, a20, a21, a22, a23, a24, a25, a26, a27⟩ hP
  dsimp only
  have h2 := hP.2.2.2.2.1
  refine sx_isEngine (fun z => br_t rfl (H0 (fun t => z t.1) _ (Or.inr hP))) (fun z => br_f (by decide) ?_)
  refine sx_isLetter (fun v => br_t rfl (H0 (fun t => v ⟨c, hc, t.2.1⟩) _ (Or.inr hP))) (fun v => br_f (by decide) ?_)
  obtain ⟨q, hq, rfl⟩ := v
  refine br_c (fun s => H0 (fun t => sx_is0 (by omega) s t.2.2) _ (Or.inr hP)) (fun s => ⟨pk_in q 8 hq, ?_⟩)
  rw [nI_clamp (show q < 2 ^ 31 by omega), h2 q hq]
  by_cases k : q = c
  · subst k
    rw [if_pos rfl]
    refine br_c (fun t => ?_) (fun t => H0 (fun g => sx_isN (by omega) (Int32.not_lt.mp t) g.2.2) _ (Or.inr hP))
    have hw := sx_isY (N := N) (by omega) s (Int32.not_le.mpr t)
    have z' := z
    have w' := hw
    obtain ⟨e, he, rfl⟩ := z'
    obtain ⟨i, hi, rfl⟩ := w'
    have G := H1 z rfl hw _ (Or.inr hP)
    refine pk_eq e 1 (fun _ => sx_selectInMatrix hP hc hN hi G) (fun _ => pk_eq e 2 (fun _ => ?_) (fun _ => pk_eq e 3 (fun _ => sx_selectInParts hP hc hN hi G) (fun _ => pk_eq e 5 (fun _ => sx_selectInRuns hP hc hN hi G) (fun _ => sx_selectByRanks hP hc he hN (by omega) G))))
    exact sx_placeOfBit (nI_add 6 q) hP (by omega) hN (by omega) (fun y => absurd y (by decide)) (fun _ => by rw [sx_F6 hq]; exact if_pos rfl) G
  · rw [if_neg k]
    refine br_c (fun t => absurd t s) (fun t => H0 (fun g => k ((nI_eq (by omega) (by omega)).mp g.2.1)) _ (Or.inr hP))
def sx_from (x : Int32) : Int32 := if 0 ≤ x then x else 0
theorem sx_next_i {post : Int32 → St2 → Prop} {fn fp fr fd fc : Int32} {a1 a2 a3 a4 a5 a6 a7 a8 a9 a10 a11 a12 a13 a14 a15 a16 a17 a18 a19 a20 a21 a22 a23 a24 a25 a26 a27 : Nat → Int32} {c N q i : Nat} {y : Int32} (hy : y = nI i) (hP : sx_P c N (fn, fp, fr, fd, fc, a1, a2, a3, a4, a5, a6, a7, a8, a9, a10, a11, a12, a13, a14, a15, a16, a17, a18, a19, a20, a21, a22, a23, a24, a25, a26, a27)) (hc : c < 8) (hq : q < 8) (hN : N ≤ 200) (hi : i ≤ N) (H1 : q = c → i < N → post (nI i) (fn, fp, fr, fd, fc, a1, a2, a3, a4, a5, a6, a7, a8, a9, a10, a11, a12, a13, a14, a15, a16, a17, a18, a19, a20, a21, a22, a23, a24, a25, a26, a27)) (H0 : ¬ (q = c ∧ i < N) → post (-1) (fn, fp, fr, fd, fc, a1, a2, a3, a4, a5, a6, a7, a8, a9, a10, a11, a12, a13, a14, a15, a16, a17, a18, a19, a20, a21, a22, a23, a24, a25, a26, a27)) : wX_next_33 post (nI q) y (nI q) 2 fn fp fr fd fc a1 a2 a3 a4 a5 a6 a7 a8 a9 a10 a11 a12 a13 a14 a15 a16 a17 a18 a19 a20 a21 a22 a23 a24 a25 a26 a27 := by
  subst hy
  have h2 := hP.2.2.2.2.1
  have hM := sx_Mle c N q
  unfold wX_next_33
  refine sx_rankBy (e := 2) rfl hP hc (by omega) hq hN hi ⟨pk_in q 8 hq, ?_⟩
  rw [nI_clamp (show q < 2 ^ 31 by omega), show a2 q = nI (sx_M c N q) from h2 q hq]
  refine pk_le (sx_M c N q) (min (sx_M c N q) i) (fun z => H0 (fun t => ?_)) (fun z => ?_)
  · rw [show sx_M c N q = N from if_pos t.1] at z
    omega
  · have k : q = c := by
      refine Decidable.byContradiction (fun k => ?_)
      rw [show sx_M c N q = 0 from if_neg k] at z
      omega
    have eM : sx_M c N q = N := if_pos k
    rw [eM] at z ⊢
    rw [show min N i = i by omega]
    exact sx_placeOfBit (nI_add 6 q) hP (by omega) hN hi (fun y => absurd y (by decide)) (fun _ => by rw [sx_F6 hq, eM]) (H1 k (by omega))
theorem sx_next {post : Int32 → St2 → Prop} {u : St2} {c N : Nat} {x y : Int32} (hc : c < 8) (hN : N ≤ 200) (h : sx_X c N u)
    (H1 : x = nI c → sx_is N (sx_from y) → ∀ u, sx_X c N u → post (sx_from y) u) (H0 : ¬ (x = nI c ∧ sx_is N (sx_from y)) → ∀ u, sx_X c N u → post (-1) u) : wpX_next post u x y := by
  obtain ⟨fn, fp, fr, fd, fc, a1, a2, a3, a4, a5, a6, a7, a8, a9, a10, a11, a12, a13, a14, a15, a16, a17, a18, a19, a20, a21, a22, a23, a24, a25, a26, a27⟩ := u
  have en := sx_Xn h
  unfold wpX_next
  dsimp only
  refine sx_isLetter (fun v => br_t rfl (H0 (fun t => v ⟨c, hc, t.1⟩) _ h)) (fun v => br_f (by decide) ?_)
  obtain ⟨q, hq, rfl⟩ := v
  subst en
  refine br_c (fun w => ?_) (fun w => H0 (fun t => ?_) _ h)
  · refine sx_pack hc hN h ?_
    · rintro ⟨fn, fp, fr, fd, fc, a1, a2, a3, a4, a5, a6, a7, a8, a9, a10, a11, a12, a13, a14, a15, a16, a17, a18, a19, a20, a21, a22, a23, a24, a25, a26, a27⟩ hP
      have key : ∀ i, i ≤ N → sx_from y = nI i → (i < N ∨ N = 0) → wX_next_33 post (nI q) (sx_from y) (nI q) 2 fn fp fr fd fc a1 a2 a3 a4 a5 a6 a7 a8 a9 a10 a11 a12 a13 a14 a15 a16 a17 a18 a19 a20 a21 a22 a23 a24 a25 a26 a27 := by
        intro i hi ei hc0
        refine sx_next_i ei hP hc hq hN hi (fun k1 k2 => ?_) (fun k => H0 (fun t => ?_) _ (Or.inr hP))
        · have G := H1 (by rw [k1]) ⟨i, k2, ei⟩ _ (Or.inr hP)
          rw [ei] at G
          exact G
        · obtain ⟨j, hj, ej⟩ := t.2
          rw [ei] at ej
          have e1 : i = j := (nI_eq (by omega) (by omega)).mp ej
          exact k ⟨(nI_eq (by omega) (by omega)).mp t.1, by omega⟩
      refine br_c (fun g => ?_) (fun g => ?_)
      · have ey : sx_from y = y := if_pos g
        obtain ⟨i, hi, ei⟩ := sx_isY (N := N) (by omega) (Int32.not_lt.mpr g) (Int32.not_le.mpr w)
        rw [← ey] at ei
        have K := key i (by omega) ei (Or.inl hi)
        rw [ey] at K
        exact K
      · have ey : sx_from y = 0 := if_neg g
        have K := key 0 (by omega) ey (by omega)
        rw [ey] at K
        exact K
  · have g : 0 ≤ y := Int32.le_trans (nI_pos' (n := N) (by omega)) (Int32.not_lt.mp w)
    have ey : sx_from y = y := if_pos g
    rw [ey] at t
    exact sx_isN (by omega) (Int32.not_lt.mp w) t.2
theorem sx_bits {post : Int32 → St2 → Prop} {u : St2} {c N : Nat} (hc : c < 8) (hN : N ≤ 200) (h : sx_X c N u) (H : ∀ u, sx_X c N u → post (nI N) u) : wpX_bits post u := by
  obtain ⟨fn, fp, fr, fd, fc, a1, a2, a3, a4, a5, a6, a7, a8, a9, a10, a11, a12, a13, a14, a15, a16, a17, a18, a19, a20, a21, a22, a23, a24, a25, a26, a27⟩ := u
  unfold wpX_bits
  dsimp only
  refine sx_pack hc hN h ?_
  rintro ⟨fn, fp, fr, fd, fc, a1, a2, a3, a4, a5, a6, a7, a8, a9, a10, a11, a12, a13, a14, a15, a16, a17, a18, a19, a20, a21, a22, a23, a24, a25, a26, a27⟩ hP
  have e1 : fn = nI N := hP.1
  have e3 : fd = 0 := hP.2.2.1
  refine br_t e3 ?_
  have G := H _ (Or.inr hP)
  rw [← e1] at G
  exact G
end
section
/-! the law's checks, from the last to the first -/
theorem sx_L321 {post : Int32 → St0 → Prop} {mc ms kc ks : Nat} {x12 x14 z0 z1 : Int32} (h1 : z1 = z0) (h2 : x12 = x14) (H : post 1 ()) : wL_lawOf_321 post mc ms x12 x14 z0 z1 kc ks := br_t h1 (br_t h2 H)
theorem sx_L298 {post : Int32 → St0 → Prop} {mc ms kc ks : Nat} {x11 x12 x14 x18 x19 z0 z1 : Int32} (h : z1 = z0) (h2 : x12 = x14) (ha : ¬ x18 = 0 → ¬ x14 ≤ x19 → x11 = x19) (hb : ¬ (¬ x18 = 0 ∧ ¬ x14 ≤ x19) → x11 = -1) (H : post 1 ()) :
    wL_lawOf_298 post mc ms x11 x12 x14 x18 x19 z0 z1 kc ks :=
  br_t h (br_c (fun z => sx_L321 (hb (fun t => t.1 z)) h2 H) (fun z => br_c (fun w => sx_L321 (hb (fun t => t.2 w)) h2 H) (fun w => sx_L321 (ha z w) h2 H)))
theorem sx_L265 {post : Int32 → St0 → Prop} {mc ms kc ks : Nat} {x5 x10 x11 x12 x14 x15 x18 x19 z0 z1 : Int32} (h : z1 = z0) (ha : ¬ x15 = 0 → ¬ x18 = 0 → ¬ x5 < 0 → ¬ x14 ≤ x5 → x10 = x5) (hb : ¬ (¬ x15 = 0 ∧ ¬ x18 = 0 ∧ ¬ x5 < 0 ∧ ¬ x14 ≤ x5) → x10 = -1)
    (K : ∀ z, x10 = z → wL_lawOf_298 post mc ms x11 x12 x14 x18 x19 z x10 kc ks) : wL_lawOf_265 post mc ms x5 x10 x11 x12 x14 x15 x18 x19 z0 z1 kc ks :=
  br_t h (br_c (fun z => K (-1) (hb (fun t => t.1 z))) (fun a => br_c (fun z => K (-1) (hb (fun t => t.2.1 z))) (fun b => br_c (fun z => K (-1) (hb (fun t => t.2.2.1 z))) (fun c => br_c (fun z => K (-1) (hb (fun t => t.2.2.2 z))) (fun d => K x5 (ha a b c d))))))
theorem sx_L223 {post : Int32 → St0 → Prop} {mc ms kc ks : Nat} {x4 x5 x9 x10 x11 x12 x14 x15 x16 x18 x19 z0 z1 : Int32} (h : z1 = z0) (ha : ¬ x15 = 0 → ¬ x16 = 0 → ¬ x4 < 0 → ¬ x14 < x4 → (x18 = 0 → x9 = 0) ∧ (¬ x18 = 0 → x9 = x4)) (hb : ¬ (¬ x15 = 0 ∧ ¬ x16 = 0 ∧ ¬ x4 < 0 ∧ ¬ x14 < x4) → x9 = -1)
    (K : ∀ z, x9 = z → wL_lawOf_265 post mc ms x5 x10 x11 x12 x14 x15 x18 x19 z x9 kc ks) : wL_lawOf_223 post mc ms x4 x5 x9 x10 x11 x12 x14 x15 x16 x18 x19 z0 z1 kc ks :=
  br_t h (br_c (fun z => K (-1) (hb (fun t => t.1 z))) (fun a => br_c (fun z => K (-1) (hb (fun t => t.2.1 z))) (fun b => br_c (fun z => K (-1) (hb (fun t => t.2.2.1 z))) (fun c => br_c (fun z => K (-1) (hb (fun t => t.2.2.2 z))) (fun d => br_c (fun z => K 0 ((ha a b c d).1 z)) (fun z => K x4 ((ha a b c d).2 z)))))))
theorem sx_L203 {post : Int32 → St0 → Prop} {mc ms kc ks : Nat} {x0 x4 x5 x8 x9 x10 x11 x12 x14 x15 x16 x17 x18 x19 z0 z1 : Int32} (h : z1 = z0) (ha : ¬ x15 = 0 → ¬ x17 = 0 → x8 = x0) (hb : ¬ (¬ x15 = 0 ∧ ¬ x17 = 0) → x8 = -1)
    (K : ∀ z, x8 = z → wL_lawOf_223 post mc ms x4 x5 x9 x10 x11 x12 x14 x15 x16 x18 x19 z x8 kc ks) : wL_lawOf_203 post mc ms x0 x4 x5 x8 x9 x10 x11 x12 x14 x15 x16 x17 x18 x19 z0 z1 kc ks :=
  br_t h (br_c (fun z => K (-1) (hb (fun t => t.1 z))) (fun a => br_c (fun z => K (-1) (hb (fun t => t.2 z))) (fun b => K x0 (ha a b))))
theorem sx_fl {P : Prop} (h : P) : (1 : Int32) = 0 ↔ ¬ P := ⟨fun z => absurd z (by decide), fun z => absurd h z⟩
theorem sx_fl0 {P : Prop} (h : ¬ P) : (0 : Int32) = 0 ↔ ¬ P := ⟨fun _ => h, fun _ => rfl⟩
theorem sx_fromN {N : Nat} {x : Int32} (hN : N < 2 ^ 31) : ¬ nI N ≤ sx_from x ↔ sx_is N (sx_from x) := by
  constructor
  · intro h
    refine sx_isY hN ?_ h
    unfold sx_from
    by_cases g : 0 ≤ x
    · rw [if_pos g]
      exact Int32.not_lt.mpr g
    · rw [if_neg g]
      decide
  · rintro h g
    exact sx_isN hN g h
theorem sx_fin {post : Int32 → St0 → Prop} {mc ms kc ks : Nat} {x0 x1 x2 x3 x4 x5 x7 x8 x9 x10 x11 x12 x13 x14 : Int32} {N : Nat} {M : Prop} (hN : N ≤ 200) (h14 : x14 = nI N)
    (h7a : x13 = 0 → x7 = -1) (h7b : ¬ x13 = 0 → x7 = x1)
    (h8a : sx_is 7 x2 → sx_is N x4 → x8 = x0) (h8b : ¬ (sx_is 7 x2 ∧ sx_is N x4) → x8 = -1)
    (h9a : sx_is 7 x2 → sx_is 8 x3 → sx_is (N + 1) x4 → (¬ M → x9 = 0) ∧ (M → x9 = x4)) (h9b : ¬ (sx_is 7 x2 ∧ sx_is 8 x3 ∧ sx_is (N + 1) x4) → x9 = -1)
    (h10a : sx_is 7 x2 → M → sx_is N x5 → x10 = x5) (h10b : ¬ (sx_is 7 x2 ∧ M ∧ sx_is N x5) → x10 = -1)
    (h11a : M → sx_is N (sx_from x4) → x11 = sx_from x4) (h11b : ¬ (M ∧ sx_is N (sx_from x4)) → x11 = -1)
    (h12 : x12 = nI N) (hM : M ↔ (¬ x13 = 0 ∧ x3 = x0)) (H : post 1 ()) : wL_lawOf_106 post mc ms x0 x1 x2 x3 x4 x5 x7 x8 x9 x10 x11 x12 x13 x14 kc ks := by
  subst h14
  have k106 : ∀ x15, (x15 = 0 ↔ ¬ sx_is 7 x2) → wL_lawOf_123 post mc ms x0 x1 x3 x4 x5 x7 x8 x9 x10 x11 x12 x13 (nI N) x15 kc ks := by
    intro x15 f15
    have k123 : ∀ x16, (x16 = 0 ↔ ¬ sx_is 8 x3) → wL_lawOf_140 post mc ms x0 x1 x3 x4 x5 x7 x8 x9 x10 x11 x12 x13 (nI N) x15 x16 kc ks := by
      intro x16 f16
      have k140 : ∀ x17, (x17 = 0 ↔ ¬ sx_is N x4) → wL_lawOf_159 post mc ms x0 x1 x3 x4 x5 x7 x8 x9 x10 x11 x12 x13 (nI N) x15 x16 x17 kc ks := by
        intro x17 f17
        have k159 : ∀ x18, (x18 = 0 ↔ ¬ M) → wL_lawOf_176 post mc ms x0 x1 x4 x5 x7 x8 x9 x10 x11 x12 x13 (nI N) x15 x16 x17 x18 kc ks := by
          intro x18 f18
          have p15 : ¬ x15 = 0 → sx_is 7 x2 := fun z => Classical.byContradiction (fun t => z (f15.mpr t))
          have p16 : ¬ x16 = 0 → sx_is 8 x3 := fun z => Classical.byContradiction (fun t => z (f16.mpr t))
          have p17 : ¬ x17 = 0 → sx_is N x4 := fun z => Classical.byContradiction (fun t => z (f17.mpr t))
          have p18 : ¬ x18 = 0 → M := fun z => Classical.byContradiction (fun t => z (f18.mpr t))
          have k176 : wL_lawOf_189 post mc ms x0 x1 x4 x5 x7 x8 x9 x10 x11 x12 x13 (nI N) x15 x16 x17 x18 (sx_from x4) kc ks := by
            have k189 : ∀ z, x7 = z → wL_lawOf_203 post mc ms x0 x4 x5 x8 x9 x10 x11 x12 (nI N) x15 x16 x17 x18 (sx_from x4) z x7 kc ks := by
              intro z hz
              refine sx_L203 hz (fun a b => h8a (p15 a) (p17 b)) (fun t => h8b (fun s => t ⟨fun g => f15.mp g s.1, fun g => f17.mp g s.2⟩)) (fun z hz => ?_)
              refine sx_L223 hz (fun a b c d => ?_) (fun t => h9b (fun s => t ⟨fun g => f15.mp g s.1, fun g => f16.mp g s.2.1, fun g => sx_is0 (by omega) g s.2.2, fun g => sx_isL (by omega) g s.2.2⟩)) (fun z hz => ?_)
              · have q := h9a (p15 a) (p16 b) (sx_isZ (by omega) c d)
                exact ⟨fun t => q.1 (f18.mp t), fun t => q.2 (p18 t)⟩
              refine sx_L265 hz (fun a b c d => h10a (p15 a) (p18 b) (sx_isY (by omega) c d)) (fun t => h10b (fun s => t ⟨fun g => f15.mp g s.1, fun g => f18.mp g s.2.1, fun g => sx_is0 (by omega) g s.2.2, fun g => sx_isN (by omega) g s.2.2⟩)) (fun z hz => ?_)
              exact sx_L298 hz h12 (fun a b => h11a (p18 a) ((sx_fromN (by omega)).mp b)) (fun t => h11b (fun s => t ⟨fun g => f18.mp g s.1, (sx_fromN (by omega)).mpr s.2⟩)) H
            exact br_c (fun z => k189 (-1) (h7a z)) (fun z => k189 x1 (h7b z))
          refine br_c (fun z => ?_) (fun z => ?_)
          · rw [show sx_from x4 = x4 from if_pos z] at k176
            exact k176
          · rw [show sx_from x4 = 0 from if_neg z] at k176
            exact k176
        refine br_c (fun z => k159 0 (sx_fl0 (fun t => (hM.mp t).1 z))) (fun z => br_c (fun w => k159 1 (sx_fl (hM.mpr ⟨z, w⟩))) (fun w => k159 0 (sx_fl0 (fun t => w (hM.mp t).2))))
      exact sx_brle (N := N) (by omega) rfl (fun z => k140 1 (sx_fl z)) (fun z => k140 0 (sx_fl0 z))
    exact sx_brlt (N := 7) (by decide) rfl (fun z => k123 1 (sx_fl z)) (fun z => k123 0 (sx_fl0 z))
  exact sx_brlt (N := 6) (by decide) rfl (fun z => k106 1 (sx_fl z)) (fun z => k106 0 (sx_fl0 z))
/-! the calls, with one way on each -/
theorem sx_append' {post : Int32 → St2 → Prop} {fr fd fc : Int32} {a1 a2 a3 a4 a5 a6 a7 a8 a9 a10 a11 a12 a13 a14 a15 a16 a17 a18 a19 a20 a21 a22 a23 a24 a25 a26 a27 : Nat → Int32} {x y : Int32} (h16 : sx_Ch a16)
    (H : ∀ r c N u, c < 8 → N ≤ 200 → sx_X c N u → (sx_good x y → x = nI c ∧ y = nI N ∧ r = y) → (¬ sx_good x y → N = 0 ∧ r = -1) → post r u) : wpX_append post (0, 0, fr, fd, fc, a1, a2, a3, a4, a5, a6, a7, a8, a9, a10, a11, a12, a13, a14, a15, a16, a17, a18, a19, a20, a21, a22, a23, a24, a25, a26, a27) x y := by
  refine sx_append (fun z => ?_) (fun c N hc h1 hN ex ey g b hb => ?_)
  · exact H (-1) 0 0 _ (by omega) (by omega) (Or.inl ⟨rfl, rfl, lt_0, h16⟩) (fun t => absurd t z) (fun _ => ⟨rfl, rfl⟩)
  · exact H (nI N) c N _ hc hN (Or.inl ⟨rfl, rfl, hb, h16⟩) (fun _ => ⟨ex, ey, ey.symm⟩) (fun t => absurd g t)
theorem sx_at' {post : Int32 → St2 → Prop} {u : St2} {c N : Nat} {x y : Int32} (hc : c < 8) (hN : N ≤ 200) (h : sx_X c N u)
    (H : ∀ r u, sx_X c N u → (sx_is 7 x → sx_is N y → r = nI c) → (¬ (sx_is 7 x ∧ sx_is N y) → r = -1) → post r u) : wpX_at post u x y :=
  sx_at hc hN h (fun a b u hu => H _ u hu (fun _ _ => rfl) (fun t => absurd ⟨a, b⟩ t)) (fun t u hu => H _ u hu (fun a b => absurd ⟨a, b⟩ t) (fun _ => rfl))
theorem sx_rank' {post : Int32 → St2 → Prop} {u : St2} {c N : Nat} {x y w : Int32} (hc : c < 8) (hN : N ≤ 200) (h : sx_X c N u)
    (H : ∀ r u, sx_X c N u → (sx_is 7 x → sx_is 8 y → sx_is (N + 1) w → (y = nI c → r = w) ∧ (¬ y = nI c → r = 0)) → (¬ (sx_is 7 x ∧ sx_is 8 y ∧ sx_is (N + 1) w) → r = -1) → post r u) : wpX_rank post u x y w :=
  sx_rank hc hN h (fun a b i hi e r k1 k2 u hu => H r u hu (fun _ _ _ => ⟨k1, k2⟩) (fun t => absurd ⟨a, b, i, by omega, e⟩ t)) (fun t u hu => H _ u hu (fun a b d => absurd ⟨a, b, d⟩ t) (fun _ => rfl))
theorem sx_select' {post : Int32 → St2 → Prop} {u : St2} {c N : Nat} {x y w : Int32} (hc : c < 8) (hN : N ≤ 200) (h : sx_X c N u)
    (H : ∀ r u, sx_X c N u → (sx_is 7 x → y = nI c → sx_is N w → r = w) → (¬ (sx_is 7 x ∧ y = nI c ∧ sx_is N w) → r = -1) → post r u) : wpX_select post u x y w :=
  sx_select hc hN h (fun a b d u hu => H _ u hu (fun _ _ _ => rfl) (fun t => absurd ⟨a, b, d⟩ t)) (fun t u hu => H _ u hu (fun a b d => absurd ⟨a, b, d⟩ t) (fun _ => rfl))
theorem sx_next' {post : Int32 → St2 → Prop} {u : St2} {c N : Nat} {x y : Int32} (hc : c < 8) (hN : N ≤ 200) (h : sx_X c N u)
    (H : ∀ r u, sx_X c N u → (x = nI c → sx_is N (sx_from y) → r = sx_from y) → (¬ (x = nI c ∧ sx_is N (sx_from y)) → r = -1) → post r u) : wpX_next post u x y :=
  sx_next hc hN h (fun a b u hu => H _ u hu (fun _ _ => rfl) (fun t => absurd ⟨a, b⟩ t)) (fun t u hu => H _ u hu (fun a b => absurd ⟨a, b⟩ t) (fun _ => rfl))
theorem sx_lawOf (p0 p1 p2 p3 p4 p5 : Int32) : wpL_lawOf (fun r _ => r = 1) 28 3548 () p0 p1 p2 p3 p4 p5 := by
  unfold wpL_lawOf
  refine ⟨by decide, by decide, 27, 3516, by decide, by decide, sx_init (by decide) (by decide) (fun b16 h16 => ?_)⟩
  refine sx_append' h16 (fun r7 c N u hc hN hX hg hb => ?_)
  obtain ⟨fn, fp, fr, fd, fc, a1, a2, a3, a4, a5, a6, a7, a8, a9, a10, a11, a12, a13, a14, a15, a16, a17, a18, a19, a20, a21, a22, a23, a24, a25, a26, a27⟩ := u
  refine sx_at' hc hN hX (fun r8 u hX ya8 yb8 => ?_)
  obtain ⟨fn, fp, fr, fd, fc, a1, a2, a3, a4, a5, a6, a7, a8, a9, a10, a11, a12, a13, a14, a15, a16, a17, a18, a19, a20, a21, a22, a23, a24, a25, a26, a27⟩ := u
  refine sx_rank' hc hN hX (fun r9 u hX ya9 yb9 => ?_)
  obtain ⟨fn, fp, fr, fd, fc, a1, a2, a3, a4, a5, a6, a7, a8, a9, a10, a11, a12, a13, a14, a15, a16, a17, a18, a19, a20, a21, a22, a23, a24, a25, a26, a27⟩ := u
  refine sx_select' hc hN hX (fun r10 u hX ya10 yb10 => ?_)
  obtain ⟨fn, fp, fr, fd, fc, a1, a2, a3, a4, a5, a6, a7, a8, a9, a10, a11, a12, a13, a14, a15, a16, a17, a18, a19, a20, a21, a22, a23, a24, a25, a26, a27⟩ := u
  refine sx_next' hc hN hX (fun r11 u hX ya11 yb11 => ?_)
  obtain ⟨fn, fp, fr, fd, fc, a1, a2, a3, a4, a5, a6, a7, a8, a9, a10, a11, a12, a13, a14, a15, a16, a17, a18, a19, a20, a21, a22, a23, a24, a25, a26, a27⟩ := u
  refine sx_bits hc hN hX (fun u hX => ?_)
  obtain ⟨fn, fp, fr, fd, fc, a1, a2, a3, a4, a5, a6, a7, a8, a9, a10, a11, a12, a13, a14, a15, a16, a17, a18, a19, a20, a21, a22, a23, a24, a25, a26, a27⟩ := u
  by_cases G : sx_good p0 p1
  · obtain ⟨e0, e1, e7⟩ := hg G
    have g1 := G.1
    obtain ⟨t, ht, et⟩ := g1
    have k : wL_lawOf_94 (fun r _ => r = 1) 28 3548 p0 p1 p2 p3 p4 p5 r7 r8 r9 r10 r11 (nI N) 1 (1 + 27) (32 + 3516) := by
      refine br_f (by decide) (sx_fin (M := p3 = nI c) hN e1 (fun z => absurd z (by decide)) (fun _ => e7) (fun a b => (ya8 a b).trans e0.symm) yb8 (fun a b d => ⟨(ya9 a b d).2, (ya9 a b d).1⟩) yb9 ya10 yb10 ya11 yb11 rfl ?_ rfl)
      rw [e0]
      exact ⟨fun z => ⟨by decide, z⟩, fun z => z.2⟩
    exact sx_brlt (N := 7) (by decide) rfl (fun _ => br_f G.2.1 (br_f G.2.2 k)) (fun z => absurd G.1 z)
  · obtain ⟨n0, e7⟩ := hb G
    subst n0
    have no : ∀ x, ¬ sx_is 0 x := fun x t => by
      obtain ⟨e, he, _⟩ := t
      omega
    have k : wL_lawOf_93 (fun r _ => r = 1) 28 3548 p0 p1 p2 p3 p4 p5 r7 r8 r9 r10 r11 (nI 0) (1 + 27) (32 + 3516) := by
      refine br_t rfl (sx_fin (N := 0) (M := False) hN rfl (fun _ => e7) (fun z => absurd rfl z) (fun a b => absurd b (no _)) yb8 (fun a b d => ⟨fun _ => ?_, fun t => t.elim⟩) yb9 (fun _ t => t.elim) (fun _ => yb10 (fun t => no _ t.2.2)) (fun t => t.elim) (fun _ => yb11 (fun t => no _ t.2)) rfl ⟨fun t => t.elim, fun t => t.1 rfl⟩ rfl)
      by_cases w : p3 = nI c
      · rw [(ya9 a b d).1 w]
        obtain ⟨e, he, ee⟩ := d
        rw [ee, show e = 0 by omega]
        rfl
      · exact (ya9 a b d).2 w
    exact sx_brlt (N := 7) (by decide) rfl (fun z => br_c (fun _ => k) (fun w => br_c (fun _ => k) (fun s => absurd ⟨z, w, s⟩ G))) (fun _ => k)
theorem sx_cell {post : Int32 → Prop} {L k : Nat} {xs : Nat → Int32} (hL : L ≤ 6) (hk : k < 6) (H : ∀ r, post r) : wpL_cellAt post L xs () (nI k) := pk_le L k (fun _ => H 0) (fun z => ⟨pk_in k L z, H _⟩)
end
section
theorem i_vc (xs : Nat → Int32) (L : Nat) (hL : L ≤ 6) : wpL_law (fun r => r = 1) L xs := by
  unfold wpL_law
  refine sx_cell (k := 0) hL (by decide) (fun r1 => sx_cell (k := 1) hL (by decide) (fun r2 => sx_cell (k := 2) hL (by decide) (fun r3 => sx_cell (k := 3) hL (by decide) (fun r4 => sx_cell (k := 4) hL (by decide) (fun r5 => sx_cell (k := 5) hL (by decide) (fun r6 => ?_))))))
  exact ⟨28, 3548, by decide, by decide, sx_lawOf r1 r2 r3 r4 r5 r6⟩
end
