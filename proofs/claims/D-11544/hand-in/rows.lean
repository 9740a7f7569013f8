section
/-! pure facts: small masks, comparisons, the intervals of a comparison -/
def sf_b : Bool → Int32
  | true => 1
  | false => 0
theorem sf_b0 {b : Bool} {A B : Prop} (f : b = false → A) (g : b = true → B) : (sf_b b = 0 → A) ∧ (¬ sf_b b = 0 → B) := by
  cases b
  · exact br_t rfl (f rfl)
  · exact br_f (by decide) (g rfl)
theorem sf_b1 {b : Bool} {A B : Prop} (f : b = true → A) (g : b = false → B) : (sf_b b = 1 → A) ∧ (¬ sf_b b = 1 → B) := by
  cases b
  · exact br_f (by decide) (g rfl)
  · exact br_t rfl (f rfl)
theorem sf_pt {post : Int32 → Prop} {b : Bool} (H : post (sf_b b)) (e : b = true) : post 1 := by
  rw [e] at H
  exact H
theorem sf_pf {post : Int32 → Prop} {b : Bool} (H : post (sf_b b)) (e : b = false) : post 0 := by
  rw [e] at H
  exact H
theorem sf_uu (f : Nat → Int32) (k : Nat) (x y : Int32) : upd (upd f k x) k y = upd f k y := by
  funext j
  by_cases e : j = k
  · rw [e, pk_us, pk_us]
  · rw [pk_un e, pk_un e, pk_un e]
theorem sf_uc (f : Nat → Int32) (k : Nat) (x : Int32) (h : k < 2 ^ 31) : upd f (nI k).toNatClampNeg x = upd f k x := by rw [nI_clamp h]
/-- the law's own comparison of z with v -/
def sf_cmp (c z v : Nat) : Bool :=
  if c = 1 then decide (z = v) else if c = 2 then decide (z ≠ v) else if c = 3 then decide (z < v) else if c = 4 then decide (z ≤ v) else if c = 5 then decide (v < z) else if c = 0 then true else decide (v ≤ z)
/-- what normalise makes of a comparison -/
def sf_lo (c v : Nat) : Int32 := if c = 1 then nI v else if c = 2 then nI v else if c = 6 then nI v else if c = 5 then nI v + 1 else -2147483648
def sf_hi (c v : Nat) : Int32 := if c = 1 then nI v else if c = 2 then nI v else if c = 4 then nI v else if c = 3 then nI v - 1 else 2147483647
def sf_ou (c : Nat) : Int32 := if c = 2 then 1 else 0
theorem sf_kc1 : ∀ c, c < 7 → ∀ v, v < 8 → ∀ z, z < 8 → c ≠ 0 → nI z < sf_lo c v → (if 0 = sf_ou c then (0 : Int32) else 1) = sf_b (sf_cmp c z v) := by decide +kernel
theorem sf_kc2 : ∀ c, c < 7 → ∀ v, v < 8 → ∀ z, z < 8 → c ≠ 0 → sf_hi c v < nI z → (if 0 = sf_ou c then (0 : Int32) else 1) = sf_b (sf_cmp c z v) := by decide +kernel
theorem sf_kc4 : ∀ c, c < 7 → ∀ v, v < 8 → ∀ z, z < 8 → c = 0 ∨ nI z < sf_lo c v ∨ sf_hi c v < nI z ∨ (if 1 = sf_ou c then (0 : Int32) else 1) = sf_b (sf_cmp c z v) := by decide +kernel
theorem sf_kc3 (c : Nat) (hc : c < 7) (v : Nat) (hv : v < 8) (z : Nat) (hz : z < 8) (h0 : c ≠ 0) (h1 : ¬ nI z < sf_lo c v) (h2 : ¬ sf_hi c v < nI z) : (if 1 = sf_ou c then (0 : Int32) else 1) = sf_b (sf_cmp c z v) := by
  rcases sf_kc4 c hc v hv z hz with h | h | h | h
  · exact absurd h h0
  · exact absurd h h1
  · exact absurd h h2
  · exact h
theorem sf_k1 : ∀ c, c < 7 → nI (8 + c) >>> ((3 : Int32) &&& 31) = nI 1 := by decide +kernel
theorem sf_k2 : ∀ c, c < 7 → nI (8 + c) &&& 7 = nI c := by decide +kernel
theorem sf_k3 : (0 : Int32) >>> ((3 : Int32) &&& 31) = nI 0 := by decide +kernel
theorem sf_k4 : (0 : Int32) &&& 7 = nI 0 := by decide +kernel
theorem sf_nb0 : vp_nar .boolean 0 = 0 := by decide +kernel
theorem sf_nb1 : vp_nar .boolean 1 = 1 := by decide +kernel
/-- the mask of the first n places of p -/
def sf_bs (p : Nat → Bool) : Nat → Nat
  | 0 => 0
  | r + 1 => if p r = true then sf_bs p r + 2 ^ r else sf_bs p r
theorem sf_bs_lt (p : Nat → Bool) (r : Nat) : sf_bs p r < 2 ^ r := by
  induction r with
  | zero => exact Nat.one_pos
  | succ r ih =>
    show (if p r = true then sf_bs p r + 2 ^ r else sf_bs p r) < 2 ^ (r + 1)
    rw [Nat.pow_succ]
    split <;> omega
theorem sf_bs8 (p : Nat → Bool) : sf_bs p 3 < 8 := sf_bs_lt p 3
theorem sf_bs_bit (p : Nat → Bool) {r : Nat} (hr : r < 3) : (sf_bs p 3).testBit r = p r := by
  have key : ∀ b0 b1 b2 : Bool, ∀ r, r < 3 → (if b2 = true then (if b1 = true then (if b0 = true then 0 + 2 ^ 0 else 0) + 2 ^ 1 else (if b0 = true then 0 + 2 ^ 0 else 0)) + 2 ^ 2 else (if b1 = true then (if b0 = true then 0 + 2 ^ 0 else 0) + 2 ^ 1 else (if b0 = true then 0 + 2 ^ 0 else 0))).testBit r = (if r = 0 then b0 else if r = 1 then b1 else b2) := by decide +kernel
  have h := key (p 0) (p 1) (p 2) r hr
  refine Eq.trans h ?_
  rcases (show r = 0 ∨ r = 1 ∨ r = 2 by omega) with e | e | e <;> subst e <;> rfl
theorem sf_bs_sub {p q : Nat → Bool} (h : ∀ r, r < 3 → p r = true → q r = true) : sf_bs p 3 &&& sf_bs q 3 = sf_bs p 3 := by
  have key : ∀ b0 b1 b2 c0 c1 c2 : Bool, (b0 = true → c0 = true) → (b1 = true → c1 = true) → (b2 = true → c2 = true) → (if b2 = true then (if b1 = true then (if b0 = true then 0 + 2 ^ 0 else 0) + 2 ^ 1 else (if b0 = true then 0 + 2 ^ 0 else 0)) + 2 ^ 2 else (if b1 = true then (if b0 = true then 0 + 2 ^ 0 else 0) + 2 ^ 1 else (if b0 = true then 0 + 2 ^ 0 else 0))) &&& (if c2 = true then (if c1 = true then (if c0 = true then 0 + 2 ^ 0 else 0) + 2 ^ 1 else (if c0 = true then 0 + 2 ^ 0 else 0)) + 2 ^ 2 else (if c1 = true then (if c0 = true then 0 + 2 ^ 0 else 0) + 2 ^ 1 else (if c0 = true then 0 + 2 ^ 0 else 0))) = (if b2 = true then (if b1 = true then (if b0 = true then 0 + 2 ^ 0 else 0) + 2 ^ 1 else (if b0 = true then 0 + 2 ^ 0 else 0)) + 2 ^ 2 else (if b1 = true then (if b0 = true then 0 + 2 ^ 0 else 0) + 2 ^ 1 else (if b0 = true then 0 + 2 ^ 0 else 0))) := by decide +kernel
  exact key (p 0) (p 1) (p 2) (q 0) (q 1) (q 2) (h 0 (by decide)) (h 1 (by decide)) (h 2 (by decide))
/-- one more bit -/
theorem sf_or : ∀ r, r < 3 → ∀ q, q < 2 ^ r → nI q ||| ((1 : Int32) <<< (nI r &&& 31)) = nI (q + 2 ^ r) := by decide +kernel
/-- one bit read -/
theorem sf_bit : ∀ r, r < 3 → ∀ q, q < 8 → ((nI q >>> (nI r &&& 31)) &&& 1) = sf_b (q.testBit r) := by decide +kernel
/-- the first rule of m that holds (H), 3 if none -/
def sf_fn (H m : Nat) : Nat := if (m &&& H).testBit 0 = true then 0 else if (m &&& H).testBit 1 = true then 1 else if (m &&& H).testBit 2 = true then 2 else 3
def sf_ix (q : Int32) (f : Nat) : Int32 := if f = 3 then q else nI f
theorem sf_fn_le (H m : Nat) : sf_fn H m ≤ 3 := by
  unfold sf_fn
  split
  · omega
  · split
    · omega
    · split <;> omega
/-- how many rules of m hold -/
def sf_many (H m : Nat) : Nat → Nat
  | 0 => 0
  | r + 1 => sf_many H m r + (if m.testBit r && H.testBit r then 1 else 0)
/-- the useful rules of a set -/
def sf_cut (a : Nat) : Nat := if a % 2 = 1 then 1 else if a % 4 = 2 then 2 else 4
def sf_us (m p : Nat) : Nat := if m &&& p = 0 then m else m &&& (sf_cut (m &&& p) ||| (sf_cut (m &&& p) - 1))
theorem sf_us8 : ∀ m, m < 8 → ∀ p, p < 8 → sf_us m p < 8 := by decide +kernel
theorem sf_us0 : ∀ m, m < 8 → ∀ p, p < 8 → (nI m &&& nI p) &&& (-(nI m &&& nI p)) = 0 → sf_us m p = m := by decide +kernel
theorem sf_us1 : ∀ m, m < 8 → ∀ p, p < 8 → ¬ (nI m &&& nI p) &&& (-(nI m &&& nI p)) = 0 → nI m &&& (((nI m &&& nI p) &&& (-(nI m &&& nI p))) ||| (((nI m &&& nI p) &&& (-(nI m &&& nI p))) - 1)) = nI (sf_us m p) := by decide +kernel
def sf_cl (u : Nat) : List Nat := if u.testBit 0 = true then 0 :: (if u.testBit 1 = true then 1 :: (if u.testBit 2 = true then 2 :: [] else []) else (if u.testBit 2 = true then 2 :: [] else [])) else (if u.testBit 1 = true then 1 :: (if u.testBit 2 = true then 2 :: [] else []) else (if u.testBit 2 = true then 2 :: [] else []))
def sf_fl (H : Nat) : List Nat → Nat
  | [] => 3
  | r :: L => if H.testBit r = true then r else sf_fl H L
theorem sf_fcl : ∀ m, m < 8 → ∀ p, p < 8 → ∀ H, H < 8 → p &&& H = p → sf_fl H (sf_cl (sf_us m p)) = sf_fn H m := by decide +kernel
theorem sf_cl_lt : ∀ u, u < 8 → (sf_cl u).length ≤ 3 ∧ ∀ r, r ∈ sf_cl u → r < 3 := by decide +kernel
end
section
/-! isNumber, isAction, meets, holds, normalise -/
theorem sf_isN {post : Int32 → Prop} {k : Nat} (hk : k < 32) (H : post 1) : wpX_isNumber post () (nI k) :=
  pk_lt k 0 (fun z => absurd z (by omega)) (fun _ => pk_le 32 k (fun z => absurd z (by omega)) (fun _ => H))
theorem sf_isA {post : Int32 → Prop} {k : Nat} (hk : k < 4) (H : post 1) : wpX_isAction post () (nI k) :=
  pk_lt k 0 (fun z => absurd z (by omega)) (fun _ => pk_lt 3 k (fun z => absurd z (by omega)) (fun _ => H))
theorem sf_m60 {post : Int32 → Prop} {F1 F2 F3 F4 F5 F6 F7 F8 : Int32} {a1 a2 a3 a4 a5 a6 a7 a8 a9 a10 a11 a12 a13 a14 a15 a16 a17 a18 a19 a20 a21 a22 a23 : Nat → Int32} {i : Nat} {q o : Int32} (hi : i < 24) (e9 : a9 i = o) (H : post (if q = o then 0 else 1)) : wX_meets_60 post (nI i) q F1 F2 F3 F4 F5 F6 F7 F8 a1 a2 a3 a4 a5 a6 a7 a8 a9 a10 a11 a12 a13 a14 a15 a16 a17 a18 a19 a20 a21 a22 a23 := by
  unfold wX_meets_60
  rw [nI_clamp (show i < 2 ^ 31 by omega), e9]
  refine ⟨pk_in i 24 hi, br_c (fun e => ?_) (fun e => ?_)⟩
  · rw [if_pos e] at H
    exact H
  · rw [if_neg e] at H
    exact H
theorem sf_meets0 {post : Int32 → Prop} {F1 F2 F3 F4 F5 F6 F7 F8 : Int32} {a1 a2 a3 a4 a5 a6 a7 a8 a9 a10 a11 a12 a13 a14 a15 a16 a17 a18 a19 a20 a21 a22 a23 : Nat → Int32} {i c v z : Nat} (hi : i < 24) (hc : c < 7) (hv : v < 8) (hz : z < 8) (e3 : a3 i = nI (8 + c)) (e4 : a4 i = 7) (ex : a20 1 &&& 7 = nI z) (e7 : a7 i = sf_lo c v) (e8 : a8 i = sf_hi c v) (e9 : a9 i = sf_ou c) (H : post (sf_b (sf_cmp c z v))) : wpX_meets post (F1, F2, F3, F4, F5, F6, F7, F8, a1, a2, a3, a4, a5, a6, a7, a8, a9, a10, a11, a12, a13, a14, a15, a16, a17, a18, a19, a20, a21, a22, a23) (nI i) := by
  unfold wpX_meets
  dsimp only
  rw [nI_clamp (show i < 2 ^ 31 by omega), e3, e4, e7, e8, sf_k1 c hc, nI_clamp (show 1 < 2 ^ 31 by decide)]
  refine ⟨pk_in i 26 (by omega), pk_in 1 2 (by decide), pk_in i 26 (by omega), nm_r ex ⟨pk_in i 26 (by omega), ?_⟩⟩
  refine pk_eq c 0 (fun e0 => ?_) (fun e0 => ⟨pk_in i 24 hi, ?_⟩) (sf_k2 c hc)
  · subst e0
    exact H
  · refine br_c (fun g => ?_) (fun g => ⟨pk_in i 24 hi, br_c (fun g2 => ?_) (fun g2 => ?_)⟩)
    · unfold wX_meets_59
      exact sf_m60 hi e9 (by rw [sf_kc1 c hc v hv z hz e0 g]; exact H)
    · unfold wX_meets_59
      exact sf_m60 hi e9 (by rw [sf_kc2 c hc v hv z hz e0 g2]; exact H)
    · exact sf_m60 hi e9 (by rw [sf_kc3 c hc v hv z hz e0 g g2]; exact H)
theorem sf_meets1 {post : Int32 → Prop} {F1 F2 F3 F4 F5 F6 F7 F8 : Int32} {a1 a2 a3 a4 a5 a6 a7 a8 a9 a10 a11 a12 a13 a14 a15 a16 a17 a18 a19 a20 a21 a22 a23 : Nat → Int32} {i : Nat} (hi : i < 24) (e3 : a3 i = 0) (H : post 1) : wpX_meets post (F1, F2, F3, F4, F5, F6, F7, F8, a1, a2, a3, a4, a5, a6, a7, a8, a9, a10, a11, a12, a13, a14, a15, a16, a17, a18, a19, a20, a21, a22, a23) (nI i) := by
  unfold wpX_meets
  dsimp only
  rw [nI_clamp (show i < 2 ^ 31 by omega), e3, sf_k3, sf_k4]
  exact ⟨pk_in i 26 (by omega), pk_in 0 2 (by decide), pk_in i 26 (by omega), nm_e ⟨pk_in i 26 (by omega), br_t rfl H⟩⟩
theorem sf_2r (r : Nat) : (2 : Int32) * nI r = nI (2 * r) := pk_mul 2 r
theorem sf_holds {post : Int32 → Prop} {F1 F2 F3 F4 F5 F6 F7 F8 : Int32} {a1 a2 a3 a4 a5 a6 a7 a8 a9 a10 a11 a12 a13 a14 a15 a16 a17 a18 a19 a20 a21 a22 a23 : Nat → Int32} {r c v z : Nat} (hr : r < 3) (hc : c < 7) (hv : v < 8) (hz : z < 8) (e3 : a3 (2 * r) = nI (8 + c)) (e3' : a3 (2 * r + 1) = 0) (e4 : a4 (2 * r) = 7) (ex : a20 1 &&& 7 = nI z) (e7 : a7 (2 * r) = sf_lo c v) (e8 : a8 (2 * r) = sf_hi c v) (e9 : a9 (2 * r) = sf_ou c) (H : post (sf_b (sf_cmp c z v))) : wpX_holds post (F1, F2, F3, F4, F5, F6, F7, F8, a1, a2, a3, a4, a5, a6, a7, a8, a9, a10, a11, a12, a13, a14, a15, a16, a17, a18, a19, a20, a21, a22, a23) (nI r) := by
  unfold wpX_holds
  rw [sf_2r, nI_1 (2 * r)]
  refine sf_meets0 (by omega) hc hv hz e3 e4 ex e7 e8 e9 ?_
  refine sf_b0 (fun e => ?_) (fun e => ?_)
  · exact sf_pf H e
  · exact sf_meets1 (by omega) e3' (br_f (by decide) (sf_pt H e))
theorem sf_nrm {post : St2 → Prop} {F1 F2 F3 F4 F5 F6 F7 F8 : Int32} {a1 a2 a3 a4 a5 a6 a7 a8 a9 a10 a11 a12 a13 a14 a15 a16 a17 a18 a19 a20 a21 a22 a23 : Nat → Int32} {i c v : Nat} (hi : i < 24) (hc : c < 7) (hv : v < 8) (e3 : a3 i &&& 7 = nI c) (e5 : a5 i = nI v)
    (H : post (F1, F2, F3, F4, F5, F6, F7, F8, a1, a2, a3, a4, a5, a6, upd a7 i (sf_lo c v), upd a8 i (sf_hi c v), upd a9 i (sf_ou c), a10, a11, a12, a13, a14, a15, a16, a17, a18, a19, a20, a21, a22, a23)) : wpX_normalise post (F1, F2, F3, F4, F5, F6, F7, F8, a1, a2, a3, a4, a5, a6, a7, a8, a9, a10, a11, a12, a13, a14, a15, a16, a17, a18, a19, a20, a21, a22, a23) (nI i) := by
  unfold wpX_normalise
  rw [nI_clamp (show i < 2 ^ 31 by omega)]
  refine ⟨pk_in i 26 (by omega), nm_r e3 ⟨pk_in i 26 (by omega), nm_r e5 ⟨pk_in i 24 hi, nm_e ⟨pk_in i 24 hi, nm_e ?_⟩⟩⟩⟩
  have hn : (nI i).toNatClampNeg = i := nI_clamp (by omega)
  have hv1 : ¬ nI v = -2147483648 := by
    have : ∀ v, v < 8 → ¬ nI v = -2147483648 := by decide +kernel
    exact this v hv
  have hv2 : ¬ nI v = 2147483647 := by
    have : ∀ v, v < 8 → ¬ nI v = 2147483647 := by decide +kernel
    exact this v hv
  rcases (show c = 0 ∨ c = 1 ∨ c = 2 ∨ c = 3 ∨ c = 4 ∨ c = 5 ∨ c = 6 by omega) with e | e | e | e | e | e | e <;> subst e
  · refine br_f (by decide) ?_
    unfold wX_normalise_48
    rw [hn, sf_nb0]
    refine ⟨pk_in i 24 hi, nm_e ?_⟩
    exact br_f (by decide) (br_f (by decide) (br_f (by decide) (br_f (by decide) (br_f (by decide) (br_f (by decide) H)))))
  · refine br_f (by decide) ?_
    unfold wX_normalise_48
    rw [hn, sf_nb0]
    refine ⟨pk_in i 24 hi, nm_e ?_⟩
    refine br_t (by decide) ?_
    unfold wX_normalise_59
    rw [hn, sf_uu, sf_uu]
    exact ⟨pk_in i 24 hi, nm_e ⟨pk_in i 24 hi, nm_e H⟩⟩
  · refine br_t (by decide) ?_
    unfold wX_normalise_48
    rw [hn, sf_nb1]
    refine ⟨pk_in i 24 hi, nm_e ?_⟩
    refine br_f (by decide) (br_t (by decide) ?_)
    unfold wX_normalise_59
    rw [hn, sf_uu, sf_uu]
    exact ⟨pk_in i 24 hi, nm_e ⟨pk_in i 24 hi, nm_e H⟩⟩
  · refine br_f (by decide) ?_
    unfold wX_normalise_48
    rw [hn, sf_nb0]
    refine ⟨pk_in i 24 hi, nm_e ?_⟩
    refine br_f (by decide) (br_f (by decide) (br_f (by decide) (br_f (by decide) (br_t (by decide) ⟨pk_in i 24 hi, nm_r (sf_uu _ _ _ _) (br_f hv1 H)⟩))))
  · refine br_f (by decide) ?_
    unfold wX_normalise_48
    rw [hn, sf_nb0]
    refine ⟨pk_in i 24 hi, nm_e ?_⟩
    refine br_f (by decide) (br_f (by decide) (br_t (by decide) ⟨pk_in i 24 hi, nm_r (sf_uu _ _ _ _) H⟩))
  · refine br_f (by decide) ?_
    unfold wX_normalise_48
    rw [hn, sf_nb0]
    refine ⟨pk_in i 24 hi, nm_e ?_⟩
    refine br_f (by decide) (br_f (by decide) (br_f (by decide) (br_f (by decide) (br_f (by decide) (br_t (by decide) ⟨pk_in i 24 hi, nm_r (sf_uu _ _ _ _) (br_f hv2 H)⟩)))))
  · refine br_f (by decide) ?_
    unfold wX_normalise_48
    rw [hn, sf_nb0]
    refine ⟨pk_in i 24 hi, nm_e ?_⟩
    refine br_f (by decide) (br_f (by decide) (br_f (by decide) (br_t (by decide) ⟨pk_in i 24 hi, nm_r (sf_uu _ _ _ _) H⟩)))
end
section
/-! cutStretches: the masks of the numbers, the stretches -/
/-- the range of a rule has k -/
def sf_in (l h : Nat → Nat) (k r : Nat) : Bool := decide (l r ≤ k) && decide (k ≤ h r)
theorem sf_17 {post : St2 → Prop} {J : Int32 → (Nat → Int32) → (Nat → Int32) → (Nat → Int32) → (Nat → Int32) → (Nat → Int32) → (Nat → Int32) → (Nat → Int32) → (Nat → Int32) → (Nat → Int32) → (Nat → Int32) → (Nat → Int32) → (Nat → Int32) → (Nat → Int32) → (Nat → Int32) → (Nat → Int32) → (Nat → Int32) → (Nat → Int32) → (Nat → Int32) → (Nat → Int32) → (Nat → Int32) → (Nat → Int32) → (Nat → Int32) → (Nat → Int32) → Prop} {F1 F2 F4 F5 F6 F7 F8 : Int32} {a1 a2 a3 a4 a5 a6 a7 a8 a9 a10 a11 a12 a13 a14 a15 a16 a17 a18 a19 a20 a21 a22 a23 : Nat → Int32} {n k r : Nat} {l h : Nat → Nat} (hk : k < 32) (hr : r < 3) (hl : l r < 32) (hh : h r < 32) (e1 : a1 r = nI (l r)) (e2 : a2 r = nI (h r)) (e10 : a10 k = nI (sf_bs (sf_in l h k) r))
    (H : ∀ b : Nat → Int32, (∀ j, j ≠ k → b j = a10 j) → b k = nI (sf_bs (sf_in l h k) (r + 1)) → wX_cutStretches_17 post J (nI k) F1 F2 (nI 3) F4 F5 F6 F7 F8 n (nI (r + 1)) a1 a2 a3 a4 a5 a6 a7 a8 a9 b a11 a12 a13 a14 a15 a16 a17 a18 a19 a20 a21 a22 a23) :
    wX_cutStretches_17 post J (nI k) F1 F2 (nI 3) F4 F5 F6 F7 F8 (n + 1) (nI r) a1 a2 a3 a4 a5 a6 a7 a8 a9 a10 a11 a12 a13 a14 a15 a16 a17 a18 a19 a20 a21 a22 a23 := by
  have hn : (nI k).toNatClampNeg = k := nI_clamp (by omega)
  have hm : (nI r).toNatClampNeg = r := nI_clamp (by omega)
  have F : sf_in l h k r = false → wX_cutStretches_17 post J (nI k) F1 F2 (nI 3) F4 F5 F6 F7 F8 n (nI (r + 1)) a1 a2 a3 a4 a5 a6 a7 a8 a9 a10 a11 a12 a13 a14 a15 a16 a17 a18 a19 a20 a21 a22 a23 := by
    intro e
    refine H a10 (fun _ _ => rfl) ?_
    show a10 k = nI (if sf_in l h k r = true then sf_bs (sf_in l h k) r + 2 ^ r else sf_bs (sf_in l h k) r)
    rw [e, if_neg (by decide)]
    exact e10
  refine pk_le 3 r (fun z => absurd z (by omega)) (fun _ => ⟨pk_in r 13 (by omega), ?_⟩)
  rw [hm, hn, e1, e2, e10]
  refine pk_lt k (l r) (fun z => nm_r (nI_1 r) (F ?_)) (fun z => ⟨pk_in r 13 (by omega), ?_⟩)
  · unfold sf_in
    rw [decide_eq_false (by omega)]
    rfl
  · refine pk_lt (h r) k (fun y => nm_r (nI_1 r) (F ?_)) (fun y => ⟨pk_in k 32 hk, pk_in k 32 hk, nm_e (nm_r (nI_1 r) (H _ (fun j hj => pk_un hj) ?_))⟩)
    · unfold sf_in
      rw [decide_eq_false (show ¬ k ≤ h r by omega), Bool.and_false]
    · rw [pk_us, sf_or r hr _ (sf_bs_lt _ _)]
      have e : sf_in l h k r = true := by
        unfold sf_in
        rw [decide_eq_true z, decide_eq_true y]
        rfl
      show _ = nI (if sf_in l h k r = true then sf_bs (sf_in l h k) r + 2 ^ r else sf_bs (sf_in l h k) r)
      rw [if_pos e]
/-- the stretches up to k: sc of them, b s their first numbers, b sc = k -/
def sf_J (m : Nat → Nat) (k sc : Nat) (b : Nat → Nat) (a : Nat → Int32) : Prop :=
  (0 < k → 0 < sc) ∧ sc ≤ k ∧ b 0 = 0 ∧ b sc = k ∧ (∀ s, s < sc → b s < b (s + 1)) ∧ (∀ s, s < sc → ∀ j, b s ≤ j → j < b (s + 1) → m j = m (b s)) ∧ (∀ s, s < sc → a s = nI (b s))
theorem sf_J0 (m : Nat → Nat) (a : Nat → Int32) : sf_J m 0 0 (fun _ => 0) a :=
  ⟨fun h => h, Nat.le_refl 0, rfl, rfl, fun s h => absurd h (by omega), fun s h => absurd h (by omega), fun s h => absurd h (by omega)⟩
theorem sf_J1 {m : Nat → Nat} {k sc : Nat} {b : Nat → Nat} {a : Nat → Int32} (h : sf_J m k sc b a) : sf_J m (k + 1) (sc + 1) (fun s => if s = sc + 1 then k + 1 else b s) (upd a sc (nI k)) := by
  obtain ⟨h1, h2, h3, h4, h5, h6, h7⟩ := h
  refine ⟨fun _ => by omega, by omega, ?_, ?_, ?_, ?_, ?_⟩
  · show (if 0 = sc + 1 then k + 1 else b 0) = 0
    rw [if_neg (by omega), h3]
  · show (if sc + 1 = sc + 1 then k + 1 else b (sc + 1)) = k + 1
    rw [if_pos rfl]
  · intro s hs
    show (if s = sc + 1 then k + 1 else b s) < (if s + 1 = sc + 1 then k + 1 else b (s + 1))
    rw [if_neg (by omega)]
    by_cases e : s = sc
    · rw [if_pos (by omega), e, h4]
      omega
    · rw [if_neg (by omega)]
      exact h5 s (by omega)
  · intro s hs j
    show (if s = sc + 1 then k + 1 else b s) ≤ j → j < (if s + 1 = sc + 1 then k + 1 else b (s + 1)) → m j = m (if s = sc + 1 then k + 1 else b s)
    rw [if_neg (show ¬ s = sc + 1 by omega)]
    by_cases e : s = sc
    · rw [if_pos (by omega), e, h4]
      intro g1 g2
      rw [show j = k by omega]
    · rw [if_neg (by omega)]
      exact h6 s (by omega) j
  · intro s hs
    show upd a sc (nI k) s = nI (if s = sc + 1 then k + 1 else b s)
    rw [if_neg (by omega)]
    by_cases e : s = sc
    · rw [e, pk_us, h4]
    · rw [pk_un e]
      exact h7 s (by omega)
theorem sf_J2 {m : Nat → Nat} {k sc : Nat} {b : Nat → Nat} {a : Nat → Int32} (hk : m (k + 1) = m k) (h : sf_J m (k + 1) sc b a) : sf_J m (k + 2) sc (fun s => if s = sc then k + 2 else b s) a := by
  obtain ⟨h1, h2, h3, h4, h5, h6, h7⟩ := h
  have hp := h1 (by omega)
  refine ⟨fun _ => hp, by omega, ?_, ?_, ?_, ?_, ?_⟩
  · show (if 0 = sc then k + 2 else b 0) = 0
    rw [if_neg (by omega), h3]
  · show (if sc = sc then k + 2 else b sc) = k + 2
    rw [if_pos rfl]
  · intro s hs
    show (if s = sc then k + 2 else b s) < (if s + 1 = sc then k + 2 else b (s + 1))
    rw [if_neg (by omega)]
    have := h5 s hs
    by_cases e : s + 1 = sc
    · rw [if_pos e]
      rw [e, h4] at this
      omega
    · rw [if_neg e]
      exact this
  · intro s hs j
    show (if s = sc then k + 2 else b s) ≤ j → j < (if s + 1 = sc then k + 2 else b (s + 1)) → m j = m (if s = sc then k + 2 else b s)
    rw [if_neg (show ¬ s = sc by omega)]
    by_cases e : s + 1 = sc
    · rw [if_pos e]
      intro g1 g2
      have q := h6 s hs
      have g5 := h5 s hs
      rw [e, h4] at q g5
      by_cases ej : j = k + 1
      · rw [ej, hk]
        exact q k (by omega) (by omega)
      · exact q j g1 (by omega)
    · rw [if_neg e]
      exact h6 s hs j
  · intro s hs
    show a s = nI (if s = sc then k + 2 else b s)
    rw [if_neg (by omega)]
    exact h7 s hs
/-- all stretches -/
def sf_St (m : Nat → Nat) (sc : Nat) (b : Nat → Nat) (a : Nat → Int32) : Prop :=
  0 < sc ∧ sc ≤ 32 ∧ b 0 = 0 ∧ b sc = 32 ∧ (∀ s, s < sc → b s < b (s + 1)) ∧ (∀ s, s < sc → ∀ j, b s ≤ j → j < b (s + 1) → m j = m (b s)) ∧ (∀ s, s ≤ sc → a s = nI (b s))
theorem sf_JS {m : Nat → Nat} {sc : Nat} {b : Nat → Nat} {a : Nat → Int32} (h : sf_J m 32 sc b a) : sf_St m sc b (upd a sc 32) := by
  obtain ⟨h1, h2, h3, h4, h5, h6, h7⟩ := h
  refine ⟨h1 (by omega), h2, h3, h4, h5, h6, fun s hs => ?_⟩
  by_cases e : s = sc
  · rw [e, pk_us, h4]
    rfl
  · rw [pk_un e]
    exact h7 s (by omega)
theorem sf_mono {sc : Nat} {b : Nat → Nat} (h : ∀ s, s < sc → b s < b (s + 1)) : ∀ d s, s + d ≤ sc → b s + d ≤ b (s + d) := by
  intro d
  induction d with
  | zero => intro s _; exact Nat.le_refl _
  | succ d ih =>
    intro s hs
    have h1 := ih s (by omega)
    have h2 := h (s + d) (by omega)
    rw [show s + (d + 1) = s + d + 1 by omega]
    omega
theorem sf_80 {post : St2 → Prop} {F1 F2 F3 F4 F5 F7 F8 : Int32} {a1 a2 a3 a4 a5 a6 a7 a8 a9 a10 a11 a12 a13 a14 a15 a16 a17 a18 a19 a20 a21 a22 a23 : Nat → Int32} {m : Nat → Nat} (hm : ∀ k, k < 32 → m k < 8) (e10 : ∀ k, k < 32 → a10 k = nI (m k))
    (H : ∀ (sc : Nat) (b : Nat → Nat) (a : Nat → Int32), sf_St m sc b a → post (F1, F2, F3, F4, F5, nI sc, F7, F8, a1, a2, a3, a4, a5, a6, a7, a8, a9, a10, a, a12, a13, a14, a15, a16, a17, a18, a19, a20, a21, a22, a23)) : ∃ n, wX_cutStretches_80 post F1 F2 F3 F4 F5 F7 F8 n 0 0 a1 a2 a3 a4 a5 a6 a7 a8 a9 a10 a11 a12 a13 a14 a15 a16 a17 a18 a19 a20 a21 a22 a23 := by
  refine pk_loop (σ := Nat × (Nat → Nat) × (Nat → Int32)) (fun n k s => wX_cutStretches_80 post F1 F2 F3 F4 F5 F7 F8 n (nI k) (nI s.1) a1 a2 a3 a4 a5 a6 a7 a8 a9 a10 s.2.2 a12 a13 a14 a15 a16 a17 a18 a19 a20 a21 a22 a23) (fun k s => sf_J m k s.1 s.2.1 s.2.2) 32 0 (0, (fun _ => 0), a11) (by omega) (sf_J0 m a11) ?_ ?_
  · intro n s h
    obtain ⟨sc, b, a⟩ := s
    have h' : sf_J m 32 sc b a := h
    have hs : sc ≤ 32 := h'.2.1
    show wX_cutStretches_80 post F1 F2 F3 F4 F5 F7 F8 (n + 1) (nI 32) (nI sc) a1 a2 a3 a4 a5 a6 a7 a8 a9 a10 a a12 a13 a14 a15 a16 a17 a18 a19 a20 a21 a22 a23
    refine pk_le 32 32 (fun _ => ⟨pk_in sc 33 (by omega), nm_r (sf_uc _ _ _ (by omega)) (H sc b _ (sf_JS h'))⟩) (fun z => absurd z (by omega))
  · intro n k s hk h hw
    obtain ⟨sc, b, a⟩ := s
    have h' : sf_J m k sc b a := h
    have hs : sc ≤ k := h'.2.1
    have N : wX_cutStretches_107 post (wX_cutStretches_80 post F1 F2 F3 F4 F5 F7 F8 n) (nI k) F1 F2 F3 F4 F5 (nI sc) F7 F8 a1 a2 a3 a4 a5 a6 a7 a8 a9 a10 a a12 a13 a14 a15 a16 a17 a18 a19 a20 a21 a22 a23 := by
      unfold wX_cutStretches_107
      refine ⟨pk_in sc 33 (by omega), nm_r (sf_uc _ _ _ (by omega)) (nm_r (nI_1 sc) (nm_r (nI_1 k) ?_))⟩
      exact hw (sc + 1, _, _) (sf_J1 h')
    show wX_cutStretches_80 post F1 F2 F3 F4 F5 F7 F8 (n + 1) (nI k) (nI sc) a1 a2 a3 a4 a5 a6 a7 a8 a9 a10 a a12 a13 a14 a15 a16 a17 a18 a19 a20 a21 a22 a23
    refine pk_le 32 k (fun z => absurd z (by omega)) (fun _ => pk_eq k 0 (fun _ => N) (fun z => ?_))
    obtain ⟨q, rfl⟩ : ∃ q, k = q + 1 := ⟨k - 1, by omega⟩
    rw [nI_pred]
    refine ⟨pk_in (q + 1) 32 hk, pk_in q 32 (by omega), ?_⟩
    rw [nI_clamp (show q < 2 ^ 31 by omega), nI_clamp (show q + 1 < 2 ^ 31 by omega), e10 q (by omega), e10 (q + 1) hk]
    have m1 := hm q (by omega)
    have m2 := hm (q + 1) hk
    refine pk_eq (m (q + 1)) (m q) (fun e => nm_r (nI_1 (q + 1)) ?_) (fun _ => N)
    exact hw (sc, _, a) (sf_J2 e h')
theorem sf_cutS {post : St2 → Prop} {F1 F2 F4 F5 F6 F7 F8 : Int32} {a1 a2 a3 a4 a5 a6 a7 a8 a9 a10 a11 a12 a13 a14 a15 a16 a17 a18 a19 a20 a21 a22 a23 : Nat → Int32} {l h : Nat → Nat} (hl : ∀ r, r < 3 → l r < 32) (hh : ∀ r, r < 3 → h r < 32) (e1 : ∀ r, r < 3 → a1 r = nI (l r)) (e2 : ∀ r, r < 3 → a2 r = nI (h r))
    (H : ∀ (sc : Nat) (b : Nat → Nat) (c d : Nat → Int32), (∀ k, k < 32 → c k = nI (sf_bs (sf_in l h k) 3)) → sf_St (fun k => sf_bs (sf_in l h k) 3) sc b d → post (F1, F2, nI 3, F4, F5, nI sc, F7, F8, a1, a2, a3, a4, a5, a6, a7, a8, a9, c, d, a12, a13, a14, a15, a16, a17, a18, a19, a20, a21, a22, a23)) : wpX_cutStretches post (F1, F2, nI 3, F4, F5, F6, F7, F8, a1, a2, a3, a4, a5, a6, a7, a8, a9, a10, a11, a12, a13, a14, a15, a16, a17, a18, a19, a20, a21, a22, a23) := by
  refine pk_loop (σ := Nat → Int32) (fun n k s => wX_cutStretches_2 post F1 F2 (nI 3) F4 F5 F6 F7 F8 n (nI k) a1 a2 a3 a4 a5 a6 a7 a8 a9 s a11 a12 a13 a14 a15 a16 a17 a18 a19 a20 a21 a22 a23) (fun k s => ∀ j, j < k → s j = nI (sf_bs (sf_in l h j) 3)) 32 0 a10 (by omega) (fun j hj => absurd hj (by omega)) ?_ ?_
  · intro n s hs
    refine pk_le 32 32 (fun _ => ?_) (fun z => absurd z (by omega))
    exact sf_80 (m := fun k => sf_bs (sf_in l h k) 3) (fun k _ => sf_bs8 _) hs (fun sc b a ha => H sc b s a hs ha)
  · intro n k s hk hs hw
    refine pk_le 32 k (fun z => absurd z (by omega)) (fun _ => ⟨pk_in k 32 hk, nm_r (sf_uc _ _ _ (by omega)) ⟨4, ?_⟩⟩)
    refine sf_17 (r := 0) (l := l) (h := h) hk (by decide) (hl 0 (by decide)) (hh 0 (by decide)) (e1 0 (by decide)) (e2 0 (by decide)) pk_us (fun b1 c1 d1 => ?_)
    refine sf_17 (r := 1) (l := l) (h := h) hk (by decide) (hl 1 (by decide)) (hh 1 (by decide)) (e1 1 (by decide)) (e2 1 (by decide)) d1 (fun b2 c2 d2 => ?_)
    refine sf_17 (r := 2) (l := l) (h := h) hk (by decide) (hl 2 (by decide)) (hh 2 (by decide)) (e1 2 (by decide)) (e2 2 (by decide)) d2 (fun b3 c3 d3 => ?_)
    refine pk_le 3 3 (fun _ => nm_r (nI_1 k) (hw b3 (fun j hj => ?_))) (fun z => absurd z (by omega))
    by_cases e : j = k
    · rw [e]
      exact d3
    · rw [c3 j e, c2 j e, c1 j e, pk_un e]
      exact hs j (by omega)
end
section
/-! test, buildChain, follow: a node stands for a list of rules -/
def sf_rep (c d : Nat → Int32) (T : Nat) : List Nat → Int32 → Prop
  | [], x => x = -1
  | r :: L, x => ∃ t, t < T ∧ x = nI t ∧ c t = nI r ∧ sf_rep c d T L (d t)
theorem sf_repM {c d c' d' : Nat → Int32} {T T' : Nat} (hT : T ≤ T') (hc : ∀ j, j < T → c' j = c j ∧ d' j = d j) : ∀ (L : List Nat) (x : Int32), sf_rep c d T L x → sf_rep c' d' T' L x := by
  intro L
  induction L with
  | nil => intro x h; exact h
  | cons r L ih =>
    intro x h
    obtain ⟨t, h1, h2, h3, h4⟩ := h
    refine ⟨t, by omega, h2, ?_, ?_⟩
    · rw [(hc t h1).1, h3]
    · rw [(hc t h1).2]
      exact ih _ h4
theorem sf_test {post : Int32 → St2 → Prop} {F1 F2 F3 F4 F5 F6 F8 : Int32} {a1 a2 a3 a4 a5 a6 a7 a8 a9 a10 a11 a12 a13 a14 a15 a16 a17 a18 a19 a20 a21 a22 a23 : Nat → Int32} {T : Nat} {x y : Int32} (hT : T < 400)
    (H : ∀ (T' t : Nat) (c d : Nat → Int32), t < T' → T ≤ T' → T' ≤ T + 1 → (∀ j, j < T → c j = a13 j ∧ d j = a14 j) → c t = x → d t = y → post (nI t) (F1, F2, F3, F4, F5, F6, nI T', F8, a1, a2, a3, a4, a5, a6, a7, a8, a9, a10, a11, a12, c, d, a15, a16, a17, a18, a19, a20, a21, a22, a23)) : wpX_test post (F1, F2, F3, F4, F5, F6, nI T, F8, a1, a2, a3, a4, a5, a6, a7, a8, a9, a10, a11, a12, a13, a14, a15, a16, a17, a18, a19, a20, a21, a22, a23) x y := by
  refine pk_loop (σ := Unit) (fun n i _ => wX_test_2 post x y F1 F2 F3 F4 F5 F6 (nI T) F8 a1 a2 a3 a4 a5 a6 a7 a8 a9 a10 a11 a12 a13 a14 a15 a16 a17 a18 a19 a20 a21 a22 a23 n (nI i)) (fun _ _ => True) T 0 () (by omega) trivial ?_ ?_
  · intro n _ _
    have hn : (nI T).toNatClampNeg = T := nI_clamp (by omega)
    refine pk_le T T (fun _ => pk_eq T 400 (fun z => absurd z (by omega)) (fun _ => ?_)) (fun z => absurd z (by omega))
    rw [hn]
    refine ⟨pk_in T 400 hT, nm_e ⟨pk_in T 400 hT, nm_e (nm_r (nI_1 T) ?_)⟩⟩
    rw [nI_pred]
    refine H (T + 1) T _ _ (by omega) (by omega) (by omega) (fun j hj => ⟨pk_un (by omega), pk_un (by omega)⟩) pk_us pk_us
  · intro n i _ hi _ hw
    have hn : (nI i).toNatClampNeg = i := nI_clamp (by omega)
    refine pk_le T i (fun z => absurd z (by omega)) (fun _ => ?_)
    rw [hn]
    refine ⟨pk_in i 400 (by omega), br_c (fun e => ⟨pk_in i 400 (by omega), br_c (fun e2 => ?_) (fun _ => nm_r (nI_1 i) (hw () trivial))⟩) (fun _ => nm_r (nI_1 i) (hw () trivial))⟩
    exact H T i a13 a14 hi (by omega) (by omega) (fun j _ => ⟨rfl, rfl⟩) e e2
theorem sf_40 {post : Int32 → St2 → Prop} {F1 F2 F3 F4 F5 F6 F8 : Int32} {a1 a2 a3 a4 a5 a6 a7 a8 a9 a10 a11 a12 a13 a14 a15 a16 a17 a18 a19 a20 a21 a22 a23 : Nat → Int32} {T u r n : Nat} {L : List Nat} {x x' : Int32} (hT : T < 400) (hu : u < 8) (hr : r < 3) (hx : sf_rep a13 a14 T L x) (hx' : nI r + (-1) = x')
    (H : ∀ (T' : Nat) (c d : Nat → Int32) (y : Int32), T ≤ T' → T' ≤ T + 1 → (∀ j, j < T → c j = a13 j ∧ d j = a14 j) → sf_rep c d T' (if u.testBit r = true then r :: L else L) y → wX_buildChain_40 post (nI u) n y x' F1 F2 F3 F4 F5 F6 (nI T') F8 a1 a2 a3 a4 a5 a6 a7 a8 a9 a10 a11 a12 c d a15 a16 a17 a18 a19 a20 a21 a22 a23) :
    wX_buildChain_40 post (nI u) (n + 1) x (nI r) F1 F2 F3 F4 F5 F6 (nI T) F8 a1 a2 a3 a4 a5 a6 a7 a8 a9 a10 a11 a12 a13 a14 a15 a16 a17 a18 a19 a20 a21 a22 a23 := by
  refine pk_lt r 0 (fun z => absurd z (by omega)) (fun _ => ?_)
  rw [sf_bit r hr u hu]
  refine sf_b1 (fun e => ?_) (fun e => ?_)
  · refine sf_test hT (fun T' t c d h1 h2 h3 h4 h5 h6 => ?_)
    refine nm_r hx' (H T' c d (nI t) h2 h3 h4 ?_)
    rw [if_pos e]
    refine ⟨t, h1, rfl, h5, ?_⟩
    rw [h6]
    exact sf_repM h2 h4 L x hx
  · refine nm_r hx' (H T a13 a14 x (by omega) (by omega) (fun j _ => ⟨rfl, rfl⟩) ?_)
    rw [e, if_neg (by decide)]
    exact hx
theorem sf_27 {post : Int32 → St2 → Prop} {F1 F2 F4 F5 F6 F8 : Int32} {a1 a2 a3 a4 a5 a6 a7 a8 a9 a10 a11 a12 a13 a14 a15 a16 a17 a18 a19 a20 a21 a22 a23 : Nat → Int32} {T u : Nat} (hT : T + 3 ≤ 400) (hu : u < 8)
    (H : ∀ (T' : Nat) (c d : Nat → Int32) (y : Int32), T ≤ T' → T' ≤ T + 3 → (∀ j, j < T → c j = a13 j ∧ d j = a14 j) → sf_rep c d T' (sf_cl u) y → post y (F1, F2, nI 3, F4, F5, F6, nI T', F8, a1, a2, a3, a4, a5, a6, a7, a8, a9, a10, a11, a12, c, d, a15, a16, a17, a18, a19, a20, a21, a22, a23)) :
    wX_buildChain_27 post (nI u) F1 F2 (nI 3) F4 F5 F6 (nI T) F8 a1 a2 a3 a4 a5 a6 a7 a8 a9 a10 a11 a12 a13 a14 a15 a16 a17 a18 a19 a20 a21 a22 a23 := by
  unfold wX_buildChain_27
  refine nm_r (nI_pred 2) ⟨4, ?_⟩
  refine sf_40 (L := []) (by omega) hu (by decide) rfl (pk_m1 1) (fun T1 c1 d1 y1 h1 g1 e1 r1 => ?_)
  refine sf_40 (by omega) hu (by decide) r1 (pk_m1 0) (fun T2 c2 d2 y2 h2 g2 e2 r2 => ?_)
  refine sf_40 (by omega) hu (by decide) r2 rfl (fun T3 c3 d3 y3 h3 g3 e3 r3 => ?_)
  refine br_t (by decide) ?_
  refine H T3 c3 d3 y3 (by omega) (by omega) (fun j hj => ?_) r3
  rw [(e3 j (by omega)).1, (e3 j (by omega)).2, (e2 j (by omega)).1, (e2 j (by omega)).2]
  exact e1 j hj
theorem sf_bch {post : Int32 → St2 → Prop} {F1 F2 F4 F6 F8 : Int32} {a1 a2 a3 a4 a5 a6 a7 a8 a9 a10 a11 a12 a13 a14 a15 a16 a17 a18 a19 a20 a21 a22 a23 : Nat → Int32} {T m p : Nat} (hT : T + 3 ≤ 400) (hm : m < 8) (hp : p < 8)
    (H : ∀ (T' : Nat) (c d : Nat → Int32) (y : Int32), T ≤ T' → T' ≤ T + 3 → (∀ j, j < T → c j = a13 j ∧ d j = a14 j) → sf_rep c d T' (sf_cl (sf_us m p)) y → post y (F1, F2, nI 3, F4, nI p, F6, nI T', F8, a1, a2, a3, a4, a5, a6, a7, a8, a9, a10, a11, a12, c, d, a15, a16, a17, a18, a19, a20, a21, a22, a23)) :
    wpX_buildChain post (F1, F2, nI 3, F4, nI p, F6, nI T, F8, a1, a2, a3, a4, a5, a6, a7, a8, a9, a10, a11, a12, a13, a14, a15, a16, a17, a18, a19, a20, a21, a22, a23) (nI m) := by
  unfold wpX_buildChain
  refine nm_e (nm_e (br_c (fun e => ?_) (fun e => ?_)))
  · have q := sf_us0 m hm p hp e
    rw [q] at H
    exact sf_27 hT hm H
  · have q := sf_us1 m hm p hp e
    rw [q]
    exact sf_27 hT (sf_us8 m hm p hp) H
/-- follow: the first rule of the list that holds -/
theorem sf_f4 {post : Int32 → Prop} {F1 F2 F3 F4 F5 F6 F7 F8 : Int32} {a1 a2 a3 a4 a5 a6 a7 a8 a9 a10 a11 a12 a13 a14 a15 a16 a17 a18 a19 a20 a21 a22 a23 : Nat → Int32} {T H : Nat} (hT : T ≤ 400)
    (hH : ∀ (q : Int32 → Prop) (r : Nat), r < 3 → q (sf_b (H.testBit r)) → wpX_holds q (F1, F2, F3, F4, F5, F6, F7, F8, a1, a2, a3, a4, a5, a6, a7, a8, a9, a10, a11, a12, a13, a14, a15, a16, a17, a18, a19, a20, a21, a22, a23) (nI r)) :
    ∀ (L : List Nat) (x : Int32) (j n : Nat), sf_rep a13 a14 T L x → (∀ r, r ∈ L → r < 3) → j + L.length < 12 → L.length < n → post (sf_ix (-1) (sf_fl H L)) → wX_follow_4 post F1 F2 F3 F4 F5 F6 F7 F8 a1 a2 a3 a4 a5 a6 a7 a8 a9 a10 a11 a12 a13 a14 a15 a16 a17 a18 a19 a20 a21 a22 a23 n x (nI j) := by
  intro L
  induction L with
  | nil =>
    intro x j n hx _ hj hn hP
    obtain ⟨n, rfl⟩ : ∃ q, n = q + 1 := ⟨n - 1, by simp only [List.length_nil] at hn; omega⟩
    simp only [List.length_nil] at hj
    refine pk_le 12 j (fun z => absurd z (by omega)) (fun _ => br_t hx hP)
  | cons r L ih =>
    intro x j n hx hL hj hn hP
    simp only [List.length_cons] at hj hn
    obtain ⟨n, rfl⟩ : ∃ q, n = q + 1 := ⟨n - 1, by omega⟩
    obtain ⟨t, h1, rfl, h3, h4⟩ := hx
    have hr : r < 3 := hL r (List.mem_cons_self ..)
    have ht : (nI t).toNatClampNeg = t := nI_clamp (by omega)
    have hne : ¬ nI t = -1 := by
      intro e
      have e2 := congrArg Int32.toInt e
      rw [nI_toInt (by omega), show (-1 : Int32).toInt = -1 by decide] at e2
      omega
    refine pk_le 12 j (fun z => absurd z (by omega)) (fun _ => br_f hne ?_)
    rw [ht, h3]
    refine ⟨pk_in t 400 (by omega), hH _ r hr (sf_b0 (fun e => ⟨pk_in t 400 (by omega), nm_e (nm_r (nI_1 j) ?_)⟩) (fun e => ⟨pk_in t 400 (by omega), ?_⟩))⟩
    · refine ih (a14 t) (j + 1) n h4 (fun s hs => hL s (List.mem_cons_of_mem _ hs)) (by omega) (by omega) ?_
      have q : sf_fl H (r :: L) = sf_fl H L := by
        show (if H.testBit r = true then r else sf_fl H L) = _
        rw [e, if_neg (by decide)]
      rw [q] at hP
      exact hP
    · have q : sf_fl H (r :: L) = r := by
        show (if H.testBit r = true then r else sf_fl H L) = _
        rw [if_pos e]
      rw [q] at hP
      have q2 : sf_ix (-1) r = nI r := if_neg (by omega)
      rw [q2] at hP
      exact hP
end
section
/-! buildTree, stretchOf -/
def sf_ps (g : Nat → Nat) : Nat → Nat
  | 0 => 0
  | n + 1 => sf_ps g n + g n
theorem sf_psC {g g' : Nat → Nat} {n : Nat} (h : ∀ i, i < n → g i = g' i) : sf_ps g n = sf_ps g' n := by
  induction n with
  | zero => rfl
  | succ n ih =>
    show sf_ps g n + g n = sf_ps g' n + g' n
    rw [ih (fun i hi => h i (by omega)), h n (by omega)]
theorem sf_psL {g : Nat → Nat} {a b : Nat} (h : a ≤ b) : sf_ps g a ≤ sf_ps g b := by
  induction b with
  | zero => rw [show a = 0 by omega]; exact Nat.le_refl _
  | succ b ih =>
    by_cases e : a = b + 1
    · rw [e]; exact Nat.le_refl _
    · have := ih (by omega)
      show sf_ps g a ≤ sf_ps g b + g b
      omega
/-- a node that is done: a leaf, or one with two children -/
def sf_nd (b lo hi : Nat → Nat) (made : Nat) (p q w : Nat → Int32) (i : Nat) : Prop :=
  (hi i = lo i + 1 ∧ p i = -1 ∧ q i = nI (lo i)) ∨
  (∃ c, c + 1 < made ∧ lo i + 2 ≤ hi i ∧ p i = nI (b ((lo i + hi i) / 2)) ∧ q i = nI c ∧ w i = nI (c + 1) ∧ lo c = lo i ∧ hi c = (lo i + hi i) / 2 ∧ lo (c + 1) = (lo i + hi i) / 2 ∧ hi (c + 1) = hi i)
def sf_TI (sc : Nat) (b : Nat → Nat) (made nd : Nat) (lo hi : Nat → Nat) (p q w x y : Nat → Int32) : Prop :=
  nd ≤ made ∧ 0 < made ∧ lo 0 = 0 ∧ hi 0 = sc ∧ (∀ i, i < made → lo i < hi i ∧ hi i ≤ sc ∧ x i = nI (lo i) ∧ y i = nI (hi i)) ∧ (∀ i, i < nd → sf_nd b lo hi made p q w i) ∧ made + 2 * sf_ps (fun i => hi i - lo i - 1) made = 2 * sc - 1 + 2 * sf_ps (fun i => hi i - lo i - 1) nd
theorem sf_TI0 {sc : Nat} {b : Nat → Nat} {p q w x y : Nat → Int32} (h : 0 < sc) (hx : x 0 = 0) (hy : y 0 = nI sc) : sf_TI sc b 1 0 (fun _ => 0) (fun _ => sc) p q w x y := by
  refine ⟨by omega, by omega, rfl, rfl, fun i hi => ?_, fun i hi => absurd hi (by omega), ?_⟩
  · have e : i = 0 := by omega
    subst e
    exact ⟨h, Nat.le_refl _, hx, hy⟩
  · show 1 + 2 * (0 + (sc - 0 - 1)) = 2 * sc - 1 + 2 * 0
    omega
theorem sf_TIb {sc : Nat} {b : Nat → Nat} {made nd : Nat} {lo hi : Nat → Nat} {p q w x y : Nat → Int32} (h : sf_TI sc b made nd lo hi p q w x y) (hn : nd < made) : made + 2 * (hi nd - lo nd - 1) ≤ 2 * sc - 1 := by
  obtain ⟨h1, h2, h3, h4, h5, h6, h7⟩ := h
  have k : sf_ps (fun i => hi i - lo i - 1) (nd + 1) ≤ sf_ps (fun i => hi i - lo i - 1) made := sf_psL (by omega)
  have k2 : sf_ps (fun i => hi i - lo i - 1) (nd + 1) = sf_ps (fun i => hi i - lo i - 1) nd + (hi nd - lo nd - 1) := rfl
  omega
theorem sf_TIl {sc : Nat} {b : Nat → Nat} {made nd : Nat} {lo hi : Nat → Nat} {p q w x y : Nat → Int32} (h : sf_TI sc b made nd lo hi p q w x y) (hn : nd < made) (hl : hi nd = lo nd + 1) :
    sf_TI sc b made (nd + 1) lo hi (upd p nd (-1)) (upd q nd (nI (lo nd))) w x y := by
  obtain ⟨h1, h2, h3, h4, h5, h6, h7⟩ := h
  refine ⟨by omega, h2, h3, h4, h5, fun i hi' => ?_, ?_⟩
  · unfold sf_nd
    by_cases e : i = nd
    · rw [e, pk_us, pk_us]
      exact Or.inl ⟨hl, rfl, rfl⟩
    · rw [pk_un e, pk_un e]
      exact h6 i (by omega)
  · have k2 : sf_ps (fun i => hi i - lo i - 1) (nd + 1) = sf_ps (fun i => hi i - lo i - 1) nd + (hi nd - lo nd - 1) := rfl
    omega
theorem sf_TIn {sc : Nat} {b : Nat → Nat} {made nd mid : Nat} {lo hi lo' hi' : Nat → Nat} {p q w x y : Nat → Int32} (h : sf_TI sc b made nd lo hi p q w x y) (hn : nd < made) (hl : lo nd + 2 ≤ hi nd) (hmid : mid = (lo nd + hi nd) / 2)
    (k1 : ∀ i, i < made → lo' i = lo i) (k2 : lo' made = lo nd) (k3 : lo' (made + 1) = mid) (k4 : ∀ i, i < made → hi' i = hi i) (k5 : hi' made = mid) (k6 : hi' (made + 1) = hi nd) :
    sf_TI sc b (made + 2) (nd + 1) lo' hi' (upd p nd (nI (b mid))) (upd q nd (nI made)) (upd w nd (nI (made + 1))) (upd (upd x made (nI (lo nd))) (made + 1) (nI mid)) (upd (upd y made (nI mid)) (made + 1) (nI (hi nd))) := by
  obtain ⟨h1, h2, h3, h4, h5, h6, h7⟩ := h
  obtain ⟨n1, n2, n3, n4⟩ := h5 nd hn
  refine ⟨by omega, by omega, ?_, ?_, fun i hi' => ?_, fun i hi' => ?_, ?_⟩
  · rw [k1 0 h2, h3]
  · rw [k4 0 h2, h4]
  · by_cases e : i = made + 1
    · rw [e, pk_us, pk_us, k3, k6]
      exact ⟨by omega, n2, rfl, rfl⟩
    · rw [pk_un e, pk_un e]
      by_cases e2 : i = made
      · rw [e2, pk_us, pk_us, k2, k5]
        exact ⟨by omega, by omega, rfl, rfl⟩
      · rw [pk_un e2, pk_un e2, k1 i (by omega), k4 i (by omega)]
        exact h5 i (by omega)
  · unfold sf_nd
    by_cases e : i = nd
    · rw [e, pk_us, pk_us, pk_us, k1 nd hn, k4 nd hn, ← hmid]
      exact Or.inr ⟨made, by omega, hl, rfl, rfl, rfl, k2, k5, k3, k6⟩
    · rw [pk_un e, pk_un e, pk_un e, k1 i (by omega), k4 i (by omega)]
      rcases h6 i (by omega) with g | ⟨c, g1, g2, g3, g4, g5, g6, g7, g8, g9⟩
      · exact Or.inl g
      · refine Or.inr ⟨c, by omega, g2, g3, g4, g5, ?_, ?_, ?_, ?_⟩
        · rw [k1 c (by omega), g6]
        · rw [k4 c (by omega), g7]
        · rw [k1 (c + 1) (by omega), g8]
        · rw [k4 (c + 1) (by omega), g9]
  · have c1 : ∀ n, n ≤ made → sf_ps (fun i => hi' i - lo' i - 1) n = sf_ps (fun i => hi i - lo i - 1) n := fun n hn' => sf_psC (fun i hi'' => by
      show hi' i - lo' i - 1 = hi i - lo i - 1
      rw [k1 i (by omega), k4 i (by omega)])
    have c2 : sf_ps (fun i => hi' i - lo' i - 1) (made + 2) = sf_ps (fun i => hi' i - lo' i - 1) made + (hi' made - lo' made - 1) + (hi' (made + 1) - lo' (made + 1) - 1) := rfl
    have c3 : sf_ps (fun i => hi' i - lo' i - 1) (nd + 1) = sf_ps (fun i => hi' i - lo' i - 1) nd + (hi' nd - lo' nd - 1) := rfl
    rw [c2, c3, c1 made (Nat.le_refl _), c1 nd h1, k2, k3, k5, k6, k1 nd hn, k4 nd hn]
    omega
/-- a finished tree -/
def sf_Tr (sc : Nat) (b : Nat → Nat) (p q w : Nat → Int32) : Prop :=
  ∃ (made : Nat) (lo hi : Nat → Nat), made ≤ 63 ∧ 0 < made ∧ lo 0 = 0 ∧ hi 0 = sc ∧ (∀ i, i < made → lo i < hi i ∧ hi i ≤ sc) ∧ (∀ i, i < made → sf_nd b lo hi made p q w i)
theorem sf_TIe {sc : Nat} {b : Nat → Nat} {made : Nat} {lo hi : Nat → Nat} {p q w x y : Nat → Int32} (hs : sc ≤ 32) (h : sf_TI sc b made made lo hi p q w x y) : sf_Tr sc b p q w := by
  obtain ⟨h1, h2, h3, h4, h5, h6, h7⟩ := h
  exact ⟨made, lo, hi, by omega, h2, h3, h4, fun i hi' => ⟨(h5 i hi').1, (h5 i hi').2.1⟩, h6⟩
theorem sf_mid : ∀ s, s < 65 → nI s >>> ((1 : Int32) &&& 31) = nI (s / 2) := by decide +kernel
theorem sf_21 {post : St2 → Prop} {F1 F2 F3 F4 F5 F7 F8 : Int32} {a1 a2 a3 a4 a5 a6 a7 a8 a9 a10 a11 a12 a13 a14 a20 a21 a22 a23 : Nat → Int32} {sc : Nat} {b : Nat → Nat} (h32 : sc ≤ 32) (e11 : ∀ s, s ≤ sc → a11 s = nI (b s))
    (H : ∀ a15 a16 a17 a18 a19 : Nat → Int32, sf_Tr sc b a15 a16 a17 → post (F1, F2, F3, F4, F5, nI sc, F7, F8, a1, a2, a3, a4, a5, a6, a7, a8, a9, a10, a11, a12, a13, a14, a15, a16, a17, a18, a19, a20, a21, a22, a23)) :
    ∀ (n made nd : Nat) (lo hi : Nat → Nat) (a15 a16 a17 a18 a19 : Nat → Int32), sf_TI sc b made nd lo hi a15 a16 a17 a18 a19 → 63 - nd < n → wX_buildTree_21 post F1 F2 F3 F4 F5 (nI sc) F7 F8 n (nI made) (nI nd) a1 a2 a3 a4 a5 a6 a7 a8 a9 a10 a11 a12 a13 a14 a15 a16 a17 a18 a19 a20 a21 a22 a23 := by
  intro n
  induction n with
  | zero => intro made nd lo hi _ _ _ _ _ _ h; omega
  | succ n ih =>
    intro made nd lo hi a15 a16 a17 a18 a19 h hn
    have hle : nd ≤ made := h.1
    have hmd : made ≤ 63 := by
      by_cases e : nd < made
      · have := sf_TIb h e
        omega
      · have e2 : nd = made := by omega
        subst e2
        have := h.2.2.2.2.2.2
        omega
    have E : made ≤ nd → post (F1, F2, F3, F4, F5, nI sc, F7, F8, a1, a2, a3, a4, a5, a6, a7, a8, a9, a10, a11, a12, a13, a14, a15, a16, a17, a18, a19, a20, a21, a22, a23) := by
      intro e
      have e2 : nd = made := by omega
      subst e2
      exact H a15 a16 a17 a18 a19 (sf_TIe h32 h)
    refine pk_le 63 nd (fun z => E (by omega)) (fun z => pk_le made nd (fun y => E y) (fun y => ?_))
    obtain ⟨n1, n2, n3, n4⟩ := h.2.2.2.2.1 nd y
    have hb := sf_TIb h y
    have hnd : (nI nd).toNatClampNeg = nd := nI_clamp (by omega)
    have hma : (nI made).toNatClampNeg = made := nI_clamp (by omega)
    have hma1 : (nI (made + 1)).toNatClampNeg = made + 1 := nI_clamp (by omega)
    rw [hnd]
    refine ⟨pk_in nd 64 (by omega), nm_r n3 ⟨pk_in nd 64 (by omega), nm_r n4 ?_⟩⟩
    refine pk_lt (hi nd - lo nd) 2 (fun g => ?_) (fun g => ?_) (pk_sub (by omega))
    · unfold wX_buildTree_61
      rw [hnd]
      refine ⟨pk_in nd 64 (by omega), nm_e ⟨pk_in nd 64 (by omega), nm_e (nm_r (nI_1 nd) ?_)⟩⟩
      exact ih made (nd + 1) lo hi _ _ _ _ _ (sf_TIl h y (by omega)) (by omega)
    · refine pk_le made 62 (fun _ => ?_) (fun k => absurd k (by omega))
      refine nm_r (show _ = nI ((lo nd + hi nd) / 2) by rw [nI_add]; exact sf_mid _ (by omega)) ?_
      rw [nI_1 made, hma, hma1, nI_clamp (show (lo nd + hi nd) / 2 < 2 ^ 31 by omega), e11 ((lo nd + hi nd) / 2) (by omega)]
      refine ⟨pk_in ((lo nd + hi nd) / 2) 33 (by omega), pk_in nd 64 (by omega), nm_e ⟨pk_in nd 64 (by omega), nm_e ⟨pk_in made 64 (by omega), nm_e ⟨pk_in made 64 (by omega), nm_e ⟨pk_in nd 64 (by omega), nm_e ⟨pk_in (made + 1) 64 (by omega), nm_e ⟨pk_in (made + 1) 64 (by omega), nm_e (nm_r (nI_add made 2) (nm_r (nI_1 nd) ?_))⟩⟩⟩⟩⟩⟩⟩
      refine ih (made + 2) (nd + 1) (fun i => if i = made then lo nd else if i = made + 1 then (lo nd + hi nd) / 2 else lo i) (fun i => if i = made then (lo nd + hi nd) / 2 else if i = made + 1 then hi nd else hi i) _ _ _ _ _ (sf_TIn (mid := (lo nd + hi nd) / 2) h y (by omega) rfl ?_ ?_ ?_ ?_ ?_ ?_) (by omega)
      · intro i hi'
        rw [if_neg (by omega), if_neg (by omega)]
      · rw [if_pos rfl]
      · rw [if_neg (by omega), if_pos rfl]
      · intro i hi'
        rw [if_neg (by omega), if_neg (by omega)]
      · rw [if_pos rfl]
      · rw [if_neg (by omega), if_pos rfl]
theorem sf_tree {post : St2 → Prop} {F1 F2 F3 F4 F5 F7 F8 : Int32} {a1 a2 a3 a4 a5 a6 a7 a8 a9 a10 a11 a12 a13 a14 a15 a16 a17 a18 a19 a20 a21 a22 a23 : Nat → Int32} {sc : Nat} {b : Nat → Nat} (h0 : 0 < sc) (h32 : sc ≤ 32) (e11 : ∀ s, s ≤ sc → a11 s = nI (b s))
    (H : ∀ c15 c16 c17 c18 c19 : Nat → Int32, sf_Tr sc b c15 c16 c17 → post (F1, F2, F3, F4, F5, nI sc, F7, F8, a1, a2, a3, a4, a5, a6, a7, a8, a9, a10, a11, a12, a13, a14, c15, c16, c17, c18, c19, a20, a21, a22, a23)) : wpX_buildTree post (F1, F2, F3, F4, F5, nI sc, F7, F8, a1, a2, a3, a4, a5, a6, a7, a8, a9, a10, a11, a12, a13, a14, a15, a16, a17, a18, a19, a20, a21, a22, a23) := by
  unfold wpX_buildTree
  refine nm_e (nm_e ⟨64, ?_⟩)
  exact sf_21 h32 e11 H 64 1 0 (fun _ => 0) (fun _ => sc) a15 a16 a17 _ _ (sf_TI0 h0 pk_us pk_us) (by omega)
theorem sf_so4 {post : Int32 → Prop} {F1 F2 F3 F4 F5 F6 F7 F8 : Int32} {a1 a2 a3 a4 a5 a6 a7 a8 a9 a10 a11 a12 a13 a14 a15 a16 a17 a18 a19 a20 a21 a22 a23 : Nat → Int32} {sc k : Nat} {b : Nat → Nat} {made : Nat} {lo hi : Nat → Nat} (hk : k < 32) (hmd : made ≤ 63) (hsc : sc ≤ 32) (hb : ∀ s, s ≤ sc → b s ≤ 32) (h5 : ∀ i, i < made → lo i < hi i ∧ hi i ≤ sc) (h6 : ∀ i, i < made → sf_nd b lo hi made a15 a16 a17 i)
    (H : ∀ s, s < sc → b s ≤ k → k < b (s + 1) → post (nI s)) :
    ∀ (e i j n : Nat), i < made → hi i - lo i ≤ 2 ^ e → j + e < 8 → e < n → b (lo i) ≤ k → k < b (hi i) → wX_stretchOf_4 post (nI k) F1 F2 F3 F4 F5 F6 F7 F8 a1 a2 a3 a4 a5 a6 a7 a8 a9 a10 a11 a12 a13 a14 a15 a16 a17 a18 a19 a20 a21 a22 a23 n (nI i) (nI j) := by
  intro e
  induction e with
  | zero =>
    intro i j n hi' hs hj hn g1 g2
    obtain ⟨n, rfl⟩ : ∃ q, n = q + 1 := ⟨n - 1, by omega⟩
    obtain ⟨n1, n2⟩ := h5 i hi'
    have hni : (nI i).toNatClampNeg = i := nI_clamp (by omega)
    rw [Nat.pow_zero] at hs
    rcases h6 i hi' with ⟨q1, q2, q3⟩ | ⟨c, q1, q2, _⟩
    · refine pk_le 8 j (fun z => absurd z (by omega)) (fun _ => ?_)
      rw [hni, q2, q3]
      refine ⟨pk_in i 64 (by omega), br_t rfl ⟨pk_in i 64 (by omega), H (lo i) (by omega) g1 (by rw [← q1]; exact g2)⟩⟩
    · omega
  | succ e ih =>
    intro i j n hi' hs hj hn g1 g2
    obtain ⟨n, rfl⟩ : ∃ q, n = q + 1 := ⟨n - 1, by omega⟩
    obtain ⟨n1, n2⟩ := h5 i hi'
    have hni : (nI i).toNatClampNeg = i := nI_clamp (by omega)
    rw [Nat.pow_succ] at hs
    rcases h6 i hi' with ⟨q1, q2, q3⟩ | ⟨c, q1, q2, q3, q4, q5, q6, q7, q8, q9⟩
    · refine pk_le 8 j (fun z => absurd z (by omega)) (fun _ => ?_)
      rw [hni, q2, q3]
      refine ⟨pk_in i 64 (by omega), br_t rfl ⟨pk_in i 64 (by omega), H (lo i) (by omega) g1 (by rw [← q1]; exact g2)⟩⟩
    · have hbm := hb ((lo i + hi i) / 2) (by omega)
      have hne : ¬ nI (b ((lo i + hi i) / 2)) = -1 := by
        intro e1
        have e2 := congrArg Int32.toInt e1
        rw [nI_toInt (by omega), show (-1 : Int32).toInt = -1 by decide] at e2
        omega
      refine pk_le 8 j (fun z => absurd z (by omega)) (fun _ => ?_)
      rw [hni, q3, q4, q5]
      refine ⟨pk_in i 64 (by omega), br_f hne ⟨pk_in i 64 (by omega), ?_⟩⟩
      refine pk_le (b ((lo i + hi i) / 2)) k (fun z => ⟨pk_in i 64 (by omega), nm_e (nm_r (nI_1 j) ?_)⟩) (fun z => ⟨pk_in i 64 (by omega), nm_e (nm_r (nI_1 j) ?_)⟩)
      · refine ih (c + 1) (j + 1) n (by omega) (by rw [q8, q9]; omega) (by omega) (by omega) (by rw [q8]; exact z) (by rw [q9]; exact g2)
      · refine ih c (j + 1) n (by omega) (by rw [q6, q7]; omega) (by omega) (by omega) (by rw [q6]; exact g1) (by rw [q7]; exact z)
theorem sf_so {post : Int32 → Prop} {F1 F2 F3 F4 F5 F6 F7 F8 : Int32} {a1 a2 a3 a4 a5 a6 a7 a8 a9 a10 a11 a12 a13 a14 a15 a16 a17 a18 a19 a20 a21 a22 a23 : Nat → Int32} {m : Nat → Nat} {sc k : Nat} {b : Nat → Nat} {a : Nat → Int32} (hk : k < 32) (hS : sf_St m sc b a) (hT : sf_Tr sc b a15 a16 a17)
    (H : ∀ s, s < sc → b s ≤ k → k < b (s + 1) → post (nI s)) : wpX_stretchOf post (F1, F2, F3, F4, F5, F6, F7, F8, a1, a2, a3, a4, a5, a6, a7, a8, a9, a10, a11, a12, a13, a14, a15, a16, a17, a18, a19, a20, a21, a22, a23) (nI k) := by
  obtain ⟨s1, s2, s3, s4, s5, s6, s7⟩ := hS
  obtain ⟨made, lo, hi, t1, t2, t3, t4, t5, t6⟩ := hT
  have hb : ∀ s, s ≤ sc → b s ≤ 32 := fun s hs => by
    have := sf_mono s5 (sc - s) s (by omega)
    rw [show s + (sc - s) = sc by omega, s4] at this
    omega
  unfold wpX_stretchOf
  refine ⟨6, ?_⟩
  exact sf_so4 hk t1 s2 hb t5 t6 H 5 0 0 6 t2 (by rw [t3, t4]; omega) (by omega) (by omega) (by rw [t3, s3]; omega) (by rw [t4, s4]; exact hk)
end
section
/-! compile: any fresh state ends compiled -/
/-- the rules below n, as the arrays hold them -/
def sf_R (l h c v : Nat → Nat) (act : Nat → Int32) (n : Nat) (a1 a2 a3 a4 a5 a6 : Nat → Int32) : Prop :=
  ∀ r, r < n → a1 r = nI (l r) ∧ a2 r = nI (h r) ∧ a3 (2 * r) = nI (8 + c r) ∧ a3 (2 * r + 1) = 0 ∧ a4 (2 * r) = 7 ∧ a5 (2 * r) = nI (v r) ∧ a5 (2 * r + 1) = 0 ∧ a6 r = act r
/-- a compiled state: m k: the mask of the rules whose range has k, H: the mask of the rules that hold -/
def sf_Cm (m : Nat → Nat) (H : Nat) (d : Int32) (act : Nat → Int32) (u : St2) : Prop := match u with
  | (F1, F2, F3, F4, F5, F6, F7, F8, a1, a2, a3, a4, a5, a6, a7, a8, a9, a10, a11, a12, a13, a14, a15, a16, a17, a18, a19, a20, a21, a22, a23) => F8 = 1 ∧ F3 = nI 3 ∧ F4 = d ∧ (∀ r, r < 3 → a6 r = act r) ∧ (∀ k, k < 32 → a10 k = nI (m k)) ∧ (∀ (q : Int32 → Prop) (r : Nat), r < 3 → q (sf_b (H.testBit r)) → wpX_holds q (F1, F2, F3, F4, F5, F6, F7, F8, a1, a2, a3, a4, a5, a6, a7, a8, a9, a10, a11, a12, a13, a14, a15, a16, a17, a18, a19, a20, a21, a22, a23) (nI r)) ∧ ∃ (sc : Nat) (b : Nat → Nat) (p T : Nat), F6 = nI sc ∧ p < 8 ∧ p &&& H = p ∧ T ≤ 400 ∧ sf_St m sc b a11 ∧ sf_Tr sc b a15 a16 a17 ∧ (∀ s, s < sc → sf_rep a13 a14 T (sf_cl (sf_us (m (b s)) p)) (a12 s))
theorem sf_bs32 {m : Nat → Nat} {sc : Nat} {b : Nat → Nat} {a : Nat → Int32} (h : sf_St m sc b a) {s : Nat} (hs : s < sc) : b s < 32 := by
  obtain ⟨s1, s2, s3, s4, s5, s6, s7⟩ := h
  have := sf_mono s5 (sc - s) s (by omega)
  rw [show s + (sc - s) = sc by omega, s4] at this
  omega
theorem sf_103 {post : St2 → Prop} {F1 F2 F4 F8 : Int32} {a1 a2 a3 a4 a5 a6 a7 a8 a9 a10 a11 a12 a13 a14 a15 a16 a17 a18 a19 a20 a21 a22 a23 : Nat → Int32} {m : Nat → Nat} {sc : Nat} {b : Nat → Nat} {p : Nat} (hm : ∀ k, k < 32 → m k < 8) (hp : p < 8) (hS : sf_St m sc b a11) (e10 : ∀ k, k < 32 → a10 k = nI (m k))
    (H : ∀ (T : Nat) (c12 c13 c14 c15 c16 c17 c18 c19 : Nat → Int32), T ≤ 400 → sf_Tr sc b c15 c16 c17 → (∀ s, s < sc → sf_rep c13 c14 T (sf_cl (sf_us (m (b s)) p)) (c12 s)) → post (F1, F2, nI 3, F4, nI p, nI sc, nI T, F8, a1, a2, a3, a4, a5, a6, a7, a8, a9, a10, a11, c12, c13, c14, c15, c16, c17, c18, c19, a20, a21, a22, a23)) :
    ∃ n, wX_compile_103 post n 0 F1 F2 (nI 3) F4 (nI p) (nI sc) 0 F8 a1 a2 a3 a4 a5 a6 a7 a8 a9 a10 a11 a12 a13 a14 a15 a16 a17 a18 a19 a20 a21 a22 a23 := by
  have hS' := hS
  obtain ⟨s1, s2, s3, s4, s5, s6, s7⟩ := hS'
  refine pk_loop (σ := Nat × (Nat → Int32) × (Nat → Int32) × (Nat → Int32)) (fun n s t => wX_compile_103 post n (nI s) F1 F2 (nI 3) F4 (nI p) (nI sc) (nI t.1) F8 a1 a2 a3 a4 a5 a6 a7 a8 a9 a10 a11 t.2.1 t.2.2.1 t.2.2.2 a15 a16 a17 a18 a19 a20 a21 a22 a23) (fun s t => t.1 ≤ 3 * s ∧ ∀ s', s' < s → sf_rep t.2.2.1 t.2.2.2 t.1 (sf_cl (sf_us (m (b s')) p)) (t.2.1 s')) sc 0 (0, a12, a13, a14) (by omega) ⟨Nat.le_refl 0, fun s h => absurd h (by omega)⟩ ?_ ?_
  · intro n t ht
    obtain ⟨T, c12, c13, c14⟩ := t
    have t1 : T ≤ 3 * sc := ht.1
    have t2 : ∀ s', s' < sc → sf_rep c13 c14 T (sf_cl (sf_us (m (b s')) p)) (c12 s') := ht.2
    show wX_compile_103 post (n + 1) (nI sc) F1 F2 (nI 3) F4 (nI p) (nI sc) (nI T) F8 a1 a2 a3 a4 a5 a6 a7 a8 a9 a10 a11 c12 c13 c14 a15 a16 a17 a18 a19 a20 a21 a22 a23
    refine pk_le sc sc (fun _ => ?_) (fun z => absurd z (by omega))
    exact sf_tree s1 s2 s7 (fun c15 c16 c17 c18 c19 hT => H T c12 c13 c14 c15 c16 c17 c18 c19 (by omega) hT t2)
  · intro n s t hs ht hw
    obtain ⟨T, c12, c13, c14⟩ := t
    have t1 : T ≤ 3 * s := ht.1
    have t2 : ∀ s', s' < s → sf_rep c13 c14 T (sf_cl (sf_us (m (b s')) p)) (c12 s') := ht.2
    have hb := sf_bs32 hS hs
    show wX_compile_103 post (n + 1) (nI s) F1 F2 (nI 3) F4 (nI p) (nI sc) (nI T) F8 a1 a2 a3 a4 a5 a6 a7 a8 a9 a10 a11 c12 c13 c14 a15 a16 a17 a18 a19 a20 a21 a22 a23
    refine pk_le sc s (fun z => absurd z (by omega)) (fun _ => ?_)
    rw [nI_clamp (show s < 2 ^ 31 by omega), s7 s (by omega), nI_clamp (show b s < 2 ^ 31 by omega), e10 (b s) hb]
    refine ⟨pk_in s 33 (by omega), pk_in (b s) 32 hb, ?_⟩
    refine sf_bch (by omega) (hm (b s) hb) hp (fun T' c d y g1 g2 g3 g4 => ?_)
    refine ⟨pk_in s 32 (by omega), nm_e (nm_r (nI_1 s) ?_)⟩
    refine hw (T', upd c12 s y, c, d) ⟨?_, fun s' hs' => ?_⟩
    · show T' ≤ 3 * (s + 1)
      omega
    · show sf_rep c d T' (sf_cl (sf_us (m (b s')) p)) (upd c12 s y s')
      by_cases e : s' = s
      · rw [e, pk_us]
        exact g4
      · rw [pk_un e]
        exact sf_repM g1 g3 _ _ (t2 s' (by omega))
theorem sf_c20 {post : St2 → Prop} {F1 F2 F4 F6 F7 F8 : Int32} {a1 a2 a3 a4 a5 a6 a7 a8 a9 a10 a11 a12 a13 a14 a15 a16 a17 a18 a19 a20 a21 a22 a23 : Nat → Int32} {n r : Nat} {c v : Nat → Nat} (hr : r < 3) (hc : c r < 7) (hv : v r < 8) (e3 : a3 (2 * r) = nI (8 + c r)) (e3' : a3 (2 * r + 1) = 0) (e5 : a5 (2 * r) = nI (v r)) (e5' : a5 (2 * r + 1) = 0)
    (H : wX_compile_20 post n (nI (r + 1)) F1 F2 (nI 3) F4 (nI (sf_bs (fun r => decide (c r = 0)) (r + 1))) F6 F7 F8 a1 a2 a3 a4 a5 a6 (upd (upd a7 (2 * r) (sf_lo (c r) (v r))) (2 * r + 1) (sf_lo 0 0)) (upd (upd a8 (2 * r) (sf_hi (c r) (v r))) (2 * r + 1) (sf_hi 0 0)) (upd (upd a9 (2 * r) (sf_ou (c r))) (2 * r + 1) (sf_ou 0)) a10 a11 a12 a13 a14 a15 a16 a17 a18 a19 a20 a21 a22 a23) :
    wX_compile_20 post (n + 1) (nI r) F1 F2 (nI 3) F4 (nI (sf_bs (fun r => decide (c r = 0)) r)) F6 F7 F8 a1 a2 a3 a4 a5 a6 a7 a8 a9 a10 a11 a12 a13 a14 a15 a16 a17 a18 a19 a20 a21 a22 a23 := by
  refine pk_le 3 r (fun z => absurd z (by omega)) (fun _ => ?_)
  rw [sf_2r, nI_1 (2 * r), nI_clamp (show 2 * r < 2 ^ 31 by omega), nI_clamp (show 2 * r + 1 < 2 ^ 31 by omega)]
  refine sf_nrm (by omega) hc hv (by rw [e3]; exact sf_k2 _ hc) e5 ?_
  refine sf_nrm (c := 0) (v := 0) (by omega) (by omega) (by omega) (by rw [e3']; exact sf_k4) e5' ?_
  dsimp only
  rw [e3, e3', sf_k4]
  refine ⟨pk_in (2 * r) 26 (by omega), pk_eq (c r) 0 (fun e => ⟨pk_in (2 * r + 1) 26 (by omega), br_t rfl (nm_r (sf_or r hr _ (sf_bs_lt _ _)) (nm_r (nI_1 r) ?_))⟩) (fun e => nm_r (nI_1 r) ?_) (sf_k2 _ hc)⟩
  · have q : sf_bs (fun r => decide (c r = 0)) (r + 1) = sf_bs (fun r => decide (c r = 0)) r + 2 ^ r := by
      show (if decide (c r = 0) = true then sf_bs (fun r => decide (c r = 0)) r + 2 ^ r else sf_bs (fun r => decide (c r = 0)) r) = _
      rw [if_pos (decide_eq_true e)]
    rw [q] at H
    exact H
  · have q : sf_bs (fun r => decide (c r = 0)) (r + 1) = sf_bs (fun r => decide (c r = 0)) r := by
      show (if decide (c r = 0) = true then sf_bs (fun r => decide (c r = 0)) r + 2 ^ r else sf_bs (fun r => decide (c r = 0)) r) = _
      rw [if_neg (by rw [decide_eq_false e]; decide)]
    rw [q] at H
    exact H
theorem sf_u6 (f : Nat → Int32) (x0 y0 x1 y1 x2 y2 : Int32) (x : Nat → Int32) (h0 : x0 = x 0) (h1 : x1 = x 1) (h2 : x2 = x 2) {r : Nat} (hr : r < 3) : upd (upd (upd (upd (upd (upd f (2 * 0) x0) (2 * 0 + 1) y0) (2 * 1) x1) (2 * 1 + 1) y1) (2 * 2) x2) (2 * 2 + 1) y2 (2 * r) = x r := by
  rcases (show r = 0 ∨ r = 1 ∨ r = 2 by omega) with e | e | e <;> subst e
  · rw [pk_un (by decide), pk_un (by decide), pk_un (by decide), pk_un (by decide), pk_un (by decide), pk_us, h0]
  · rw [pk_un (by decide), pk_un (by decide), pk_un (by decide), pk_us, h1]
  · rw [pk_un (by decide), pk_us, h2]
theorem sf_comp {post : St2 → Prop} {F1 F2 F4 F5 F6 F7 : Int32} {a1 a2 a3 a4 a5 a6 a7 a8 a9 a10 a11 a12 a13 a14 a15 a16 a17 a18 a19 a20 a21 a22 a23 : Nat → Int32} {l h c v : Nat → Nat} {act : Nat → Int32} {z : Nat} (hl : ∀ r, r < 3 → l r < 32) (hh : ∀ r, r < 3 → h r < 32) (hc : ∀ r, r < 3 → c r < 7) (hv : ∀ r, r < 3 → v r < 8) (hz : z < 8) (ex : a20 1 &&& 7 = nI z) (hR : sf_R l h c v act 3 a1 a2 a3 a4 a5 a6)
    (H : ∀ u : St2, sf_Cm (fun k => sf_bs (sf_in l h k) 3) (sf_bs (fun r => sf_cmp (c r) z (v r)) 3) F4 act u → post u) : wpX_compile post (F1, F2, nI 3, F4, F5, F6, F7, 0, a1, a2, a3, a4, a5, a6, a7, a8, a9, a10, a11, a12, a13, a14, a15, a16, a17, a18, a19, a20, a21, a22, a23) := by
  have R0 := hR 0 (by decide)
  have R1 := hR 1 (by decide)
  have R2 := hR 2 (by decide)
  unfold wpX_compile
  refine br_t rfl ⟨4, ?_⟩
  refine sf_c20 (r := 0) (c := c) (v := v) (by decide) (hc 0 (by decide)) (hv 0 (by decide)) R0.2.2.1 R0.2.2.2.1 R0.2.2.2.2.2.1 R0.2.2.2.2.2.2.1 ?_
  refine sf_c20 (r := 1) (c := c) (v := v) (by decide) (hc 1 (by decide)) (hv 1 (by decide)) R1.2.2.1 R1.2.2.2.1 R1.2.2.2.2.2.1 R1.2.2.2.2.2.2.1 ?_
  refine sf_c20 (r := 2) (c := c) (v := v) (by decide) (hc 2 (by decide)) (hv 2 (by decide)) R2.2.2.1 R2.2.2.2.1 R2.2.2.2.2.2.1 R2.2.2.2.2.2.2.1 ?_
  refine pk_le 3 3 (fun _ => ?_) (fun z => absurd z (by omega))
  refine sf_cutS hl hh (fun r hr => (hR r hr).1) (fun r hr => (hR r hr).2.1) (fun sc b c10 c11 h10 hS => ?_)
  refine sf_103 (m := fun k => sf_bs (sf_in l h k) 3) (p := sf_bs (fun r => decide (c r = 0)) 3) (fun k _ => sf_bs8 _) (sf_bs8 _) hS h10 (fun T c12 c13 c14 c15 c16 c17 c18 c19 hT hTr hrep => H _ ?_)
  unfold sf_Cm
  refine ⟨rfl, rfl, rfl, fun r hr => (hR r hr).2.2.2.2.2.2.2, h10, fun q r hr hq => ?_, sc, b, sf_bs (fun r => decide (c r = 0)) 3, T, rfl, sf_bs8 _, ?_, hT, hS, hTr, hrep⟩
  · rw [sf_bs_bit (fun r => sf_cmp (c r) z (v r)) hr] at hq
    have Rr := hR r hr
    exact sf_holds hr (hc r hr) (hv r hr) hz Rr.2.2.1 Rr.2.2.2.1 Rr.2.2.2.2.1 ex (sf_u6 a7 _ _ _ _ _ _ (fun r => sf_lo (c r) (v r)) rfl rfl rfl hr) (sf_u6 a8 _ _ _ _ _ _ (fun r => sf_hi (c r) (v r)) rfl rfl rfl hr) (sf_u6 a9 _ _ _ _ _ _ (fun r => sf_ou (c r)) rfl rfl rfl hr) hq
  · refine sf_bs_sub (fun r _ hd => ?_)
    have e : c r = 0 := of_decide_eq_true hd
    show sf_cmp (c r) z (v r) = true
    rw [e]
    rfl
end
section
/-! the queries over a compiled state -/
/-- the verdict of a set of rules -/
def sf_V (H : Nat) (d : Int32) (act : Nat → Int32) (m : Nat) : Int32 := if sf_fn H m = 3 then d else act (sf_fn H m)
def sf_Rd (m : Nat → Nat) (H : Nat) (d : Int32) (act : Nat → Int32) (u : St2) : Prop := ∀ q : St2 → Prop, (∀ u', sf_Cm m H d act u' → q u') → wpX_compile q u
theorem sf_CR {m : Nat → Nat} {H : Nat} {d : Int32} {act : Nat → Int32} {u : St2} (hC : sf_Cm m H d act u) : sf_Rd m H d act u := by
  intro q hq
  obtain ⟨F1, F2, F3, F4, F5, F6, F7, F8, a1, a2, a3, a4, a5, a6, a7, a8, a9, a10, a11, a12, a13, a14, a15, a16, a17, a18, a19, a20, a21, a22, a23⟩ := u
  have e : F8 = 1 := hC.1
  subst e
  unfold wpX_compile
  exact br_f (by decide) (hq _ hC)
theorem sf_ixc {f : Nat} (hf : f ≤ 3) {A B : Prop} (h3 : f = 3 → A) (hl : f < 3 → sf_ix (-1) f = nI f → B) : (sf_ix (-1) f = -1 → A) ∧ (¬ sf_ix (-1) f = -1 → B) := by
  by_cases e : f = 3
  · subst e
    exact br_t rfl (h3 rfl)
  · have q : sf_ix (-1) f = nI f := if_neg e
    refine br_f ?_ (hl (by omega) q)
    rw [q]
    intro e1
    have e2 := congrArg Int32.toInt e1
    rw [nI_toInt (by omega), show (-1 : Int32).toInt = -1 by decide] at e2
    omega
theorem sf_follow {post : Int32 → Prop} {F1 F2 F3 F4 F5 F6 F7 F8 : Int32} {a1 a2 a3 a4 a5 a6 a7 a8 a9 a10 a11 a12 a13 a14 a15 a16 a17 a18 a19 a20 a21 a22 a23 : Nat → Int32} {m : Nat → Nat} {H sc p T s : Nat} {b : Nat → Nat} (hm : ∀ k, k < 32 → m k < 8) (hH : H < 8) (hh : ∀ (q : Int32 → Prop) (r : Nat), r < 3 → q (sf_b (H.testBit r)) → wpX_holds q (F1, F2, F3, F4, F5, F6, F7, F8, a1, a2, a3, a4, a5, a6, a7, a8, a9, a10, a11, a12, a13, a14, a15, a16, a17, a18, a19, a20, a21, a22, a23) (nI r)) (hp : p < 8) (hpH : p &&& H = p) (hT : T ≤ 400) (hS : sf_St m sc b a11) (hrep : ∀ s, s < sc → sf_rep a13 a14 T (sf_cl (sf_us (m (b s)) p)) (a12 s)) (hs : s < sc)
    (HP : post (sf_ix (-1) (sf_fn H (m (b s))))) : wpX_follow post (F1, F2, F3, F4, F5, F6, F7, F8, a1, a2, a3, a4, a5, a6, a7, a8, a9, a10, a11, a12, a13, a14, a15, a16, a17, a18, a19, a20, a21, a22, a23) (a12 s) := by
  have hb := sf_bs32 hS hs
  have hu := sf_us8 (m (b s)) (hm _ hb) p hp
  have hl := sf_cl_lt _ hu
  unfold wpX_follow
  refine ⟨4, ?_⟩
  refine sf_f4 hT hh (sf_cl (sf_us (m (b s)) p)) (a12 s) 0 4 (hrep s hs) hl.2 (by omega) (by omega) ?_
  rw [sf_fcl (m (b s)) (hm _ hb) p hp H hH hpH]
  exact HP
theorem sf_verd {post : Int32 → Prop} {F1 F2 F3 F4 F5 F6 F7 F8 : Int32} {a1 a2 a3 a4 a5 a6 a7 a8 a9 a10 a11 a12 a13 a14 a15 a16 a17 a18 a19 a20 a21 a22 a23 : Nat → Int32} {m : Nat → Nat} {H : Nat} {d : Int32} {act : Nat → Int32} {sc p T s : Nat} {b : Nat → Nat} (hm : ∀ k, k < 32 → m k < 8) (hH : H < 8) (e4 : F4 = d) (e6 : ∀ r, r < 3 → a6 r = act r) (hh : ∀ (q : Int32 → Prop) (r : Nat), r < 3 → q (sf_b (H.testBit r)) → wpX_holds q (F1, F2, F3, F4, F5, F6, F7, F8, a1, a2, a3, a4, a5, a6, a7, a8, a9, a10, a11, a12, a13, a14, a15, a16, a17, a18, a19, a20, a21, a22, a23) (nI r)) (hp : p < 8) (hpH : p &&& H = p) (hT : T ≤ 400) (hS : sf_St m sc b a11) (hrep : ∀ s, s < sc → sf_rep a13 a14 T (sf_cl (sf_us (m (b s)) p)) (a12 s)) (hs : s < sc)
    (HP : post (sf_V H d act (m (b s)))) : wpX_verdict post (F1, F2, F3, F4, F5, F6, F7, F8, a1, a2, a3, a4, a5, a6, a7, a8, a9, a10, a11, a12, a13, a14, a15, a16, a17, a18, a19, a20, a21, a22, a23) (nI s) := by
  have hsc : sc ≤ 32 := hS.2.1
  unfold wpX_verdict
  dsimp only
  rw [nI_clamp (show s < 2 ^ 31 by omega)]
  refine ⟨pk_in s 32 (by omega), sf_follow hm hH hh hp hpH hT hS hrep hs ?_⟩
  refine sf_ixc (sf_fn_le _ _) (fun e => ?_) (fun e e2 => ?_)
  · have q : sf_V H d act (m (b s)) = d := if_pos e
    rw [q] at HP
    rw [e4]
    exact HP
  · have q : sf_V H d act (m (b s)) = act (sf_fn H (m (b s))) := if_neg (by omega)
    rw [q] at HP
    rw [e2, nI_clamp (by omega), e6 _ e]
    exact ⟨pk_in (sf_fn H (m (b s))) 13 (by omega), HP⟩
theorem sf_matched {post : Int32 → St2 → Prop} {m : Nat → Nat} {H : Nat} {d : Int32} {act : Nat → Int32} {u : St2} {k : Nat} (hm : ∀ k, k < 32 → m k < 8) (hH : H < 8) (hR : sf_Rd m H d act u) (hk : k < 32)
    (HP : ∀ u', sf_Cm m H d act u' → post (sf_ix (-2) (sf_fn H (m k))) u') : wpX_matched post u (nI k) := by
  obtain ⟨F1, F2, F3, F4, F5, F6, F7, F8, a1, a2, a3, a4, a5, a6, a7, a8, a9, a10, a11, a12, a13, a14, a15, a16, a17, a18, a19, a20, a21, a22, a23⟩ := u
  unfold wpX_matched
  refine sf_isN hk (br_f (by decide) (hR _ (fun u' hC => ?_)))
  obtain ⟨F1_2, F2_2, F3_2, F4_2, F5_2, F6_2, F7_2, F8_2, a1_2, a2_2, a3_2, a4_2, a5_2, a6_2, a7_2, a8_2, a9_2, a10_2, a11_2, a12_2, a13_2, a14_2, a15_2, a16_2, a17_2, a18_2, a19_2, a20_2, a21_2, a22_2, a23_2⟩ := u'
  have hP := HP _ hC
  obtain ⟨c1, c2, c3, c4, c5, c6, sc, b, p, T, c7, c8, c9, c10, c11, c12, c13⟩ := hC
  have hsc : sc ≤ 32 := c11.2.1
  refine sf_so hk c11 c12 (fun s h1 h2 h3 => ?_)
  rw [nI_clamp (show s < 2 ^ 31 by omega)]
  refine ⟨pk_in s 32 (by omega), sf_follow hm hH c6 c8 c9 c10 c11 c13 h1 ?_⟩
  have e : m (b s) = m k := (c11.2.2.2.2.2.1 s h1 k h2 h3).symm
  rw [e]
  refine sf_ixc (sf_fn_le _ _) (fun e => ?_) (fun e e2 => ?_)
  · rw [e] at hP
    exact hP
  · have q : sf_ix (-2) (sf_fn H (m k)) = nI (sf_fn H (m k)) := if_neg (by omega)
    rw [q] at hP
    rw [e2]
    exact hP
theorem sf_decide {post : Int32 → St2 → Prop} {m : Nat → Nat} {H : Nat} {d : Int32} {act : Nat → Int32} {u : St2} {k : Nat} (hm : ∀ k, k < 32 → m k < 8) (hH : H < 8) (hR : sf_Rd m H d act u) (hk : k < 32)
    (HP : ∀ u', sf_Cm m H d act u' → post (sf_V H d act (m k)) u') : wpX_decide post u (nI k) := by
  obtain ⟨F1, F2, F3, F4, F5, F6, F7, F8, a1, a2, a3, a4, a5, a6, a7, a8, a9, a10, a11, a12, a13, a14, a15, a16, a17, a18, a19, a20, a21, a22, a23⟩ := u
  unfold wpX_decide
  refine sf_isN hk (br_f (by decide) (hR _ (fun u' hC => ?_)))
  obtain ⟨F1_2, F2_2, F3_2, F4_2, F5_2, F6_2, F7_2, F8_2, a1_2, a2_2, a3_2, a4_2, a5_2, a6_2, a7_2, a8_2, a9_2, a10_2, a11_2, a12_2, a13_2, a14_2, a15_2, a16_2, a17_2, a18_2, a19_2, a20_2, a21_2, a22_2, a23_2⟩ := u'
  have hP := HP _ hC
  obtain ⟨c1, c2, c3, c4, c5, c6, sc, b, p, T, c7, c8, c9, c10, c11, c12, c13⟩ := hC
  refine sf_so hk c11 c12 (fun s h1 h2 h3 => ?_)
  refine sf_verd hm hH c3 c4 c6 c8 c9 c10 c11 c13 h1 ?_
  have e : m (b s) = m k := (c11.2.2.2.2.2.1 s h1 k h2 h3).symm
  rw [e]
  exact hP
theorem sf_mt17 {post : Int32 → St2 → Prop} {F1 F2 F4 F5 F6 F7 F8 : Int32} {a1 a2 a3 a4 a5 a6 a7 a8 a9 a10 a11 a12 a13 a14 a15 a16 a17 a18 a19 a20 a21 a22 a23 : Nat → Int32} {m : Nat → Nat} {H n k r : Nat} (hm : ∀ k, k < 32 → m k < 8) (hk : k < 32) (hr : r < 3) (e10 : ∀ k, k < 32 → a10 k = nI (m k)) (hh : ∀ (q : Int32 → Prop) (r : Nat), r < 3 → q (sf_b (H.testBit r)) → wpX_holds q (F1, F2, nI 3, F4, F5, F6, F7, F8, a1, a2, a3, a4, a5, a6, a7, a8, a9, a10, a11, a12, a13, a14, a15, a16, a17, a18, a19, a20, a21, a22, a23) (nI r))
    (W : wX_matching_17 post (nI k) F1 F2 (nI 3) F4 F5 F6 F7 F8 a1 a2 a3 a4 a5 a6 a7 a8 a9 a10 a11 a12 a13 a14 a15 a16 a17 a18 a19 a20 a21 a22 a23 n (nI (sf_many H (m k) (r + 1))) (nI (r + 1))) :
    wX_matching_17 post (nI k) F1 F2 (nI 3) F4 F5 F6 F7 F8 a1 a2 a3 a4 a5 a6 a7 a8 a9 a10 a11 a12 a13 a14 a15 a16 a17 a18 a19 a20 a21 a22 a23 (n + 1) (nI (sf_many H (m k) r)) (nI r) := by
  have q : sf_many H (m k) (r + 1) = sf_many H (m k) r + (if (m k).testBit r && H.testBit r then 1 else 0) := rfl
  refine pk_le 3 r (fun z => absurd z (by omega)) (fun _ => ?_)
  rw [nI_clamp (show k < 2 ^ 31 by omega), e10 k hk, sf_bit r hr _ (hm k hk)]
  refine ⟨pk_in k 32 hk, sf_b1 (fun e => hh _ r hr (sf_b0 (fun e2 => nm_r (nI_1 r) ?_) (fun e2 => nm_r (nI_1 _) (nm_r (nI_1 r) ?_)))) (fun e => nm_r (nI_1 r) ?_)⟩
  · rw [q, e, e2] at W
    exact W
  · rw [q, e, e2] at W
    exact W
  · rw [q, e] at W
    exact W
theorem sf_matching {post : Int32 → St2 → Prop} {m : Nat → Nat} {H : Nat} {d : Int32} {act : Nat → Int32} {u : St2} {k : Nat} (hm : ∀ k, k < 32 → m k < 8) (hR : sf_Rd m H d act u) (hk : k < 32)
    (HP : ∀ u', sf_Cm m H d act u' → post (nI (sf_many H (m k) 3)) u') : wpX_matching post u (nI k) := by
  obtain ⟨F1, F2, F3, F4, F5, F6, F7, F8, a1, a2, a3, a4, a5, a6, a7, a8, a9, a10, a11, a12, a13, a14, a15, a16, a17, a18, a19, a20, a21, a22, a23⟩ := u
  unfold wpX_matching
  refine sf_isN hk (br_f (by decide) (hR _ (fun u' hC => ?_)))
  obtain ⟨F1_2, F2_2, F3_2, F4_2, F5_2, F6_2, F7_2, F8_2, a1_2, a2_2, a3_2, a4_2, a5_2, a6_2, a7_2, a8_2, a9_2, a10_2, a11_2, a12_2, a13_2, a14_2, a15_2, a16_2, a17_2, a18_2, a19_2, a20_2, a21_2, a22_2, a23_2⟩ := u'
  have hP := HP _ hC
  obtain ⟨c1, c2, c3, c4, c5, c6, sc, b, p, T, c7, c8, c9, c10, c11, c12, c13⟩ := hC
  subst c2
  refine ⟨4, ?_⟩
  refine sf_mt17 (r := 0) hm hk (by decide) c5 c6 ?_
  refine sf_mt17 (r := 1) hm hk (by decide) c5 c6 ?_
  refine sf_mt17 (r := 2) hm hk (by decide) c5 c6 ?_
  exact pk_le 3 3 (fun _ => hP) (fun z => absurd z (by omega))
/-- how many numbers below n have the verdict 1 -/
def sf_cnt (V : Nat → Int32) : Nat → Nat
  | 0 => 0
  | n + 1 => sf_cnt V n + (if V n = 1 then 1 else 0)
theorem sf_cntL (V : Nat → Int32) (n : Nat) : sf_cnt V n ≤ n := by
  induction n with
  | zero => exact Nat.le_refl _
  | succ n ih =>
    show sf_cnt V n + (if V n = 1 then 1 else 0) ≤ n + 1
    split <;> omega
theorem sf_cntS {V : Nat → Int32} {a : Nat} : ∀ n, (∀ k, a ≤ k → k < a + n → V k = V a) → sf_cnt V (a + n) = sf_cnt V a + (if V a = 1 then n else 0) := by
  intro n
  induction n with
  | zero => intro _; split <;> rfl
  | succ n ih =>
    intro h
    have i1 := ih (fun k h1 h2 => h k h1 (by omega))
    show sf_cnt V (a + n) + (if V (a + n) = 1 then 1 else 0) = _
    rw [i1, h (a + n) (by omega) (by omega)]
    split <;> omega
theorem sf_107 {post : Int32 → St2 → Prop} {J : Int32 → Int32 → Prop} {F1 F2 F3 F4 F5 F6 F7 F8 : Int32} {a1 a2 a3 a4 a5 a6 a7 a8 a9 a10 a11 a12 a13 a14 a15 a16 a17 a18 a19 a20 a21 a22 a23 : Nat → Int32} {x2 x3 : Int32} {m : Nat → Nat} {H : Nat} {d : Int32} {act : Nat → Int32} {sc p T s : Nat} {b : Nat → Nat} (hm : ∀ k, k < 32 → m k < 8) (hH : H < 8) (e4 : F4 = d) (e6 : ∀ r, r < 3 → a6 r = act r) (hh : ∀ (q : Int32 → Prop) (r : Nat), r < 3 → q (sf_b (H.testBit r)) → wpX_holds q (F1, F2, F3, F4, F5, F6, F7, F8, a1, a2, a3, a4, a5, a6, a7, a8, a9, a10, a11, a12, a13, a14, a15, a16, a17, a18, a19, a20, a21, a22, a23) (nI r)) (hp : p < 8) (hpH : p &&& H = p) (hT : T ≤ 400) (hS : sf_St m sc b a11) (hrep : ∀ s, s < sc → sf_rep a13 a14 T (sf_cl (sf_us (m (b s)) p)) (a12 s)) (hs : s < sc)
    {q f t : Nat} (hq : q ≤ 32) (hf : f ≤ 32) (ht : t ≤ 32) (H1 : t < f → J (nI q) (nI (s + 1))) (H2 : f ≤ t → sf_V H d act (m (b s)) = 1 → J (nI (q + (t - f + 1))) (nI (s + 1))) (H3 : f ≤ t → ¬ sf_V H d act (m (b s)) = 1 → J (nI q) (nI (s + 1))) :
    wX_countWith_107 post J 1 x2 x3 (nI q) (nI s) (nI f) (nI t) F1 F2 F3 F4 F5 F6 F7 F8 a1 a2 a3 a4 a5 a6 a7 a8 a9 a10 a11 a12 a13 a14 a15 a16 a17 a18 a19 a20 a21 a22 a23 := by
  unfold wX_countWith_107
  refine pk_lt t f (fun z => nm_r (nI_1 s) (H1 z)) (fun z => ?_)
  refine sf_verd hm hH e4 e6 hh hp hpH hT hS hrep hs ?_
  refine br_c (fun e => nm_r ?_ (nm_r (nI_1 s) (H2 z e))) (fun e => nm_r (nI_1 s) (H3 z e))
  rw [pk_sub z, nI_1 (t - f), nI_add]
theorem sf_count {post : Int32 → St2 → Prop} {m : Nat → Nat} {H : Nat} {d : Int32} {act : Nat → Int32} {u : St2} (hm : ∀ k, k < 32 → m k < 8) (hH : H < 8) (hR : sf_Rd m H d act u)
    (HP : ∀ u', sf_Cm m H d act u' → post (nI (sf_cnt (fun k => sf_V H d act (m k)) 8)) u') : wpX_countWith post u 1 0 7 := by
  obtain ⟨F1, F2, F3, F4, F5, F6, F7, F8, a1, a2, a3, a4, a5, a6, a7, a8, a9, a10, a11, a12, a13, a14, a15, a16, a17, a18, a19, a20, a21, a22, a23⟩ := u
  unfold wpX_countWith
  refine sf_isN (k := 0) (by decide) (br_f (by decide) (sf_isN (k := 7) (by decide) (br_f (by decide) (br_t (by decide) (sf_isA (k := 1) (by decide) (br_f (by decide) (hR _ (fun u' hC => ?_))))))))
  obtain ⟨F1_2, F2_2, F3_2, F4_2, F5_2, F6_2, F7_2, F8_2, a1_2, a2_2, a3_2, a4_2, a5_2, a6_2, a7_2, a8_2, a9_2, a10_2, a11_2, a12_2, a13_2, a14_2, a15_2, a16_2, a17_2, a18_2, a19_2, a20_2, a21_2, a22_2, a23_2⟩ := u'
  have hP := HP _ hC
  obtain ⟨c1, c2, c3, c4, c5, c6, sc, b, p, T, c7, c8, c9, c10, c11, c12, c13⟩ := hC
  have c11' := c11
  obtain ⟨s1, s2, s3, s4, s5, s6, s7⟩ := c11'
  subst c7
  refine Exists.elim (pk_loop (σ := Unit) (fun n s _ => wX_countWith_44 post 1 0 7 F1_2 F2_2 F3_2 F4_2 F5_2 (nI sc) F7_2 F8_2 a1_2 a2_2 a3_2 a4_2 a5_2 a6_2 a7_2 a8_2 a9_2 a10_2 a11_2 a12_2 a13_2 a14_2 a15_2 a16_2 a17_2 a18_2 a19_2 a20_2 a21_2 a22_2 a23_2 n (nI (sf_cnt (fun k => sf_V H d act (m k)) (min (b s) 8))) (nI s)) (fun _ _ => True) sc 0 () (by omega) trivial ?_ ?_) (fun n hn => ?_)
  rotate_left 2
  · have hn' : wX_countWith_44 post 1 0 7 F1_2 F2_2 F3_2 F4_2 F5_2 (nI sc) F7_2 F8_2 a1_2 a2_2 a3_2 a4_2 a5_2 a6_2 a7_2 a8_2 a9_2 a10_2 a11_2 a12_2 a13_2 a14_2 a15_2 a16_2 a17_2 a18_2 a19_2 a20_2 a21_2 a22_2 a23_2 n (nI (sf_cnt (fun k => sf_V H d act (m k)) (min (b 0) 8))) (nI 0) := hn
    rw [s3] at hn'
    exact ⟨n, hn'⟩
  · intro n _ _
    refine pk_le sc sc (fun _ => ?_) (fun z => absurd z (by omega))
    rw [s4]
    exact hP
  · intro n s _ hs _ hw
    have hb := sf_bs32 c11 hs
    have hb1 : b (s + 1) ≤ 32 := by
      by_cases e : s + 1 = sc
      · rw [e, s4]
        omega
      · exact Nat.le_of_lt (sf_bs32 c11 (by omega))
    have hlt := s5 s hs
    have hc : sf_cnt (fun k => sf_V H d act (m k)) (min (b s) 8) ≤ 32 := by
      have := sf_cntL (fun k => sf_V H d act (m k)) (min (b s) 8)
      omega
    have w : wX_countWith_44 post 1 0 7 F1_2 F2_2 F3_2 F4_2 F5_2 (nI sc) F7_2 F8_2 a1_2 a2_2 a3_2 a4_2 a5_2 a6_2 a7_2 a8_2 a9_2 a10_2 a11_2 a12_2 a13_2 a14_2 a15_2 a16_2 a17_2 a18_2 a19_2 a20_2 a21_2 a22_2 a23_2 n (nI (sf_cnt (fun k => sf_V H d act (m k)) (min (b (s + 1)) 8))) (nI (s + 1)) := hw () trivial
    have step : ∀ (f t : Nat), f = b s → t = min (b (s + 1) - 1) 7 → wX_countWith_107 post (wX_countWith_44 post 1 0 7 F1_2 F2_2 F3_2 F4_2 F5_2 (nI sc) F7_2 F8_2 a1_2 a2_2 a3_2 a4_2 a5_2 a6_2 a7_2 a8_2 a9_2 a10_2 a11_2 a12_2 a13_2 a14_2 a15_2 a16_2 a17_2 a18_2 a19_2 a20_2 a21_2 a22_2 a23_2 n) 1 0 7 (nI (sf_cnt (fun k => sf_V H d act (m k)) (min (b s) 8))) (nI s) (nI f) (nI t) F1_2 F2_2 F3_2 F4_2 F5_2 (nI sc) F7_2 F8_2 a1_2 a2_2 a3_2 a4_2 a5_2 a6_2 a7_2 a8_2 a9_2 a10_2 a11_2 a12_2 a13_2 a14_2 a15_2 a16_2 a17_2 a18_2 a19_2 a20_2 a21_2 a22_2 a23_2 := by
      intro f t hf ht
      subst hf
      have key : b s ≤ t → sf_cnt (fun k => sf_V H d act (m k)) (t + 1) = sf_cnt (fun k => sf_V H d act (m k)) (b s) + (if sf_V H d act (m (b s)) = 1 then t + 1 - b s else 0) := by
        intro hbt
        have k := sf_cntS (V := fun k => sf_V H d act (m k)) (a := b s) (t + 1 - b s) (fun k h1 h2 => by
          show sf_V H d act (m k) = sf_V H d act (m (b s))
          rw [s6 s hs k h1 (by omega)])
        rw [show b s + (t + 1 - b s) = t + 1 by omega] at k
        exact k
      refine sf_107 hm hH c3 c4 c6 c8 c9 c10 c11 c13 hs hc (by omega) (by omega) (fun z => ?_) (fun z e => ?_) (fun z e => ?_)
      · rw [show min (b (s + 1)) 8 = min (b s) 8 by omega] at w
        exact w
      · have k := key z
        rw [if_pos e] at k
        rw [show min (b (s + 1)) 8 = t + 1 by omega, k, show b s = min (b s) 8 by omega] at w
        rw [show t - b s + 1 = t + 1 - min (b s) 8 by omega]
        exact w
      · have k := key z
        rw [if_neg e] at k
        rw [show min (b (s + 1)) 8 = t + 1 by omega, k, show b s = min (b s) 8 by omega] at w
        exact w
    have s75 : ∀ f, f = b s → wX_countWith_75 post (wX_countWith_44 post 1 0 7 F1_2 F2_2 F3_2 F4_2 F5_2 (nI sc) F7_2 F8_2 a1_2 a2_2 a3_2 a4_2 a5_2 a6_2 a7_2 a8_2 a9_2 a10_2 a11_2 a12_2 a13_2 a14_2 a15_2 a16_2 a17_2 a18_2 a19_2 a20_2 a21_2 a22_2 a23_2 n) 1 0 7 (nI (sf_cnt (fun k => sf_V H d act (m k)) (min (b s) 8))) (nI s) (nI f) F1_2 F2_2 F3_2 F4_2 F5_2 (nI sc) F7_2 F8_2 a1_2 a2_2 a3_2 a4_2 a5_2 a6_2 a7_2 a8_2 a9_2 a10_2 a11_2 a12_2 a13_2 a14_2 a15_2 a16_2 a17_2 a18_2 a19_2 a20_2 a21_2 a22_2 a23_2 := by
      intro f hf
      unfold wX_countWith_75
      rw [nI_1 s, nI_clamp (show s + 1 < 2 ^ 31 by omega), s7 (s + 1) (by omega)]
      have e1 : nI (b (s + 1)) - 1 = nI (b (s + 1) - 1) := by
        obtain ⟨q, hq⟩ : ∃ q, b (s + 1) = q + 1 := ⟨b (s + 1) - 1, by omega⟩
        rw [hq, nI_pred]
        rfl
      rw [e1]
      refine ⟨pk_in (s + 1) 33 (by omega), pk_le 7 (b (s + 1) - 1) (fun z => step f 7 hf (by omega)) (fun z => ⟨pk_in (s + 1) 33 (by omega), step f _ hf (by omega)⟩)⟩
    refine pk_le sc s (fun z => absurd z (by omega)) (fun _ => ?_)
    rw [nI_clamp (show s < 2 ^ 31 by omega), s7 s (by omega)]
    exact ⟨pk_in s 33 (by omega), pk_le (b s) 0 (fun z => s75 0 (by omega)) (fun z => ⟨pk_in s 33 (by omega), s75 _ rfl⟩)⟩
theorem sf_next {post : Int32 → St2 → Prop} {m : Nat → Nat} {H : Nat} {d : Int32} {act : Nat → Int32} {u : St2} (hm : ∀ k, k < 32 → m k < 8) (hH : H < 8) (hR : sf_Rd m H d act u)
    (HP : ∀ u' x, sf_Cm m H d act u' → (((∀ k, k < 32 → ¬ sf_V H d act (m k) = 1) ∧ x = -3) ∨ ∃ q, q < 32 ∧ x = nI q ∧ sf_V H d act (m q) = 1 ∧ ∀ k, k < q → ¬ sf_V H d act (m k) = 1) → post x u') : wpX_nextWith post u 1 0 := by
  obtain ⟨F1, F2, F3, F4, F5, F6, F7, F8, a1, a2, a3, a4, a5, a6, a7, a8, a9, a10, a11, a12, a13, a14, a15, a16, a17, a18, a19, a20, a21, a22, a23⟩ := u
  unfold wpX_nextWith
  refine sf_isA (k := 1) (by decide) (br_f (by decide) (sf_isN (k := 0) (by decide) (br_f (by decide) (hR _ (fun u' hC => ?_)))))
  obtain ⟨F1_2, F2_2, F3_2, F4_2, F5_2, F6_2, F7_2, F8_2, a1_2, a2_2, a3_2, a4_2, a5_2, a6_2, a7_2, a8_2, a9_2, a10_2, a11_2, a12_2, a13_2, a14_2, a15_2, a16_2, a17_2, a18_2, a19_2, a20_2, a21_2, a22_2, a23_2⟩ := u'
  have hP := fun x => HP _ x hC
  obtain ⟨c1, c2, c3, c4, c5, c6, sc, b, p, T, c7, c8, c9, c10, c11, c12, c13⟩ := hC
  have c11' := c11
  obtain ⟨s1, s2, s3, s4, s5, s6, s7⟩ := c11'
  subst c7
  refine sf_so (k := 0) (by decide) c11 c12 (fun s0 h1 h2 h3 => ?_)
  refine pk_loop (σ := Unit) (fun n s _ => wX_nextWith_32 post 1 0 F1_2 F2_2 F3_2 F4_2 F5_2 (nI sc) F7_2 F8_2 a1_2 a2_2 a3_2 a4_2 a5_2 a6_2 a7_2 a8_2 a9_2 a10_2 a11_2 a12_2 a13_2 a14_2 a15_2 a16_2 a17_2 a18_2 a19_2 a20_2 a21_2 a22_2 a23_2 n (nI s)) (fun s _ => ∀ k, k < b s → ¬ sf_V H d act (m k) = 1) sc s0 () (by omega) (fun k hk => absurd hk (by omega)) ?_ ?_
  · intro n _ hI
    refine pk_le sc sc (fun _ => hP _ (Or.inl ⟨fun k hk => hI k (by rw [s4]; exact hk), rfl⟩)) (fun z => absurd z (by omega))
  · intro n s _ hs hI hw
    have hb := sf_bs32 c11 hs
    refine pk_le sc s (fun z => absurd z (by omega)) (fun _ => ?_)
    refine sf_verd hm hH c3 c4 c6 c8 c9 c10 c11 c13 hs ?_
    rw [nI_clamp (show s < 2 ^ 31 by omega), s7 s (by omega)]
    refine br_c (fun e => ⟨pk_in s 33 (by omega), pk_le (b s) 0 (fun z => hP _ (Or.inr ⟨b s, hb, ?_, e, hI⟩)) (fun z => ⟨pk_in s 33 (by omega), hP _ (Or.inr ⟨b s, hb, rfl, e, hI⟩)⟩)⟩) (fun e => nm_r (nI_1 s) (hw () (fun k hk => ?_)))
    · rw [show b s = 0 by omega]
      rfl
    · by_cases g : k < b s
      · exact hI k g
      · rw [s6 s hs k (by omega) hk]
        exact e
end
section
/-! the law's own small methods, and the calls that build the list -/
theorem sf_an7 (x : Int32) : x &&& 7 = nI (x &&& 7).toNatClampNeg ∧ (x &&& 7).toNatClampNeg < 8 := by
  obtain ⟨j, hj, e⟩ := pk_andE x (m := 7) 3 (by decide)
  have hj' : j < 8 := hj
  rw [e, nI_clamp (by omega)]
  exact ⟨rfl, hj'⟩
theorem sf_an3 (x : Int32) : x &&& 3 = nI (x &&& 3).toNatClampNeg ∧ (x &&& 3).toNatClampNeg < 4 := by
  obtain ⟨j, hj, e⟩ := pk_andE x (m := 3) 2 (by decide)
  have hj' : j < 4 := hj
  rw [e, nI_clamp (by omega)]
  exact ⟨rfl, hj'⟩
def sf_l (x0 : Int32) (i : Nat) : Nat := ((x0 >>> ((8 * nI i) &&& 31)) &&& 7).toNatClampNeg
def sf_g (x0 : Int32) (i : Nat) : Nat := ((x0 >>> (((8 * nI i) + 3) &&& 31)) &&& 3).toNatClampNeg
def sf_h (x0 : Int32) (i : Nat) : Nat := sf_l x0 i + sf_g x0 i
def sf_t (x1 : Int32) (i : Nat) : Nat := ((x1 >>> ((6 * nI i) &&& 31)) &&& 7).toNatClampNeg
def sf_c (x1 : Int32) (i : Nat) : Nat := sf_t x1 i % 7
def sf_v (x1 : Int32) (i : Nat) : Nat := ((x1 >>> (((6 * nI i) + 3) &&& 31)) &&& 7).toNatClampNeg
def sf_ac (x0 : Int32) (i : Nat) : Int32 := (x0 >>> (((8 * nI i) + 5) &&& 31)) &&& 3
def sf_z (x2 : Int32) : Nat := (x2 &&& 7).toNatClampNeg
theorem sf_lE (x0 : Int32) (i : Nat) : (x0 >>> ((8 * nI i) &&& 31)) &&& 7 = nI (sf_l x0 i) := (sf_an7 _).1
theorem sf_lL (x0 : Int32) (i : Nat) : sf_l x0 i < 8 := (sf_an7 _).2
theorem sf_gE (x0 : Int32) (i : Nat) : (x0 >>> (((8 * nI i) + 3) &&& 31)) &&& 3 = nI (sf_g x0 i) := (sf_an3 _).1
theorem sf_gL (x0 : Int32) (i : Nat) : sf_g x0 i < 4 := (sf_an3 _).2
theorem sf_hL (x0 : Int32) (i : Nat) : sf_h x0 i < 11 := by
  have := sf_lL x0 i
  have := sf_gL x0 i
  unfold sf_h
  omega
theorem sf_tE (x1 : Int32) (i : Nat) : (x1 >>> ((6 * nI i) &&& 31)) &&& 7 = nI (sf_t x1 i) := (sf_an7 _).1
theorem sf_tL (x1 : Int32) (i : Nat) : sf_t x1 i < 8 := (sf_an7 _).2
theorem sf_cL (x1 : Int32) (i : Nat) : sf_c x1 i < 7 := Nat.mod_lt _ (by decide)
theorem sf_cE (x1 : Int32) (i : Nat) : ((x1 >>> ((6 * nI i) &&& 31)) &&& 7) - ((x1 >>> ((6 * nI i) &&& 31)) &&& 7) / 7 * 7 = nI (sf_c x1 i) := by
  rw [sf_tE]
  have := sf_tL x1 i
  exact pk_rem (d := 7) (by omega) (by decide) (by decide)
theorem sf_vE (x1 : Int32) (i : Nat) : (x1 >>> (((6 * nI i) + 3) &&& 31)) &&& 7 = nI (sf_v x1 i) := (sf_an7 _).1
theorem sf_vL (x1 : Int32) (i : Nat) : sf_v x1 i < 8 := (sf_an7 _).2
theorem sf_zE (x2 : Int32) : x2 &&& 7 = nI (sf_z x2) := (sf_an7 _).1
theorem sf_zL (x2 : Int32) : sf_z x2 < 8 := (sf_an7 _).2
theorem sf_acE (x0 : Int32) (i : Nat) : ∃ j, j < 4 ∧ sf_ac x0 i = nI j := ⟨_, (sf_an3 _).2, (sf_an3 _).1⟩
theorem sf_low {post : Int32 → Prop} {x0 : Int32} {i : Nat} (H : post (nI (sf_l x0 i))) : wpL_low post () x0 (nI i) := by
  unfold wpL_low
  rw [sf_lE]
  exact H
theorem sf_high {post : Int32 → Prop} {x0 : Int32} {i : Nat} (H : post (nI (sf_h x0 i))) : wpL_high post () x0 (nI i) := by
  unfold wpL_high
  exact sf_low (nm_r (by rw [sf_gE, nI_add]; rfl) H)
theorem sf_match {post : Int32 → Prop} {x0 x1 x2 : Int32} {i k : Nat} (hk : k < 32) (H : post (sf_b (sf_in (sf_l x0) (sf_h x0) k i && sf_cmp (sf_c x1 i) (sf_z x2) (sf_v x1 i)))) : wpL_match post () x0 x1 (nI i) (nI k) x2 := by
  have hl := sf_lL x0 i
  have hh := sf_hL x0 i
  have hc := sf_cL x1 i
  have hv := sf_vL x1 i
  have hz := sf_zL x2
  unfold wpL_match
  refine sf_low ?_
  refine pk_lt k (sf_l x0 i) (fun z => sf_pf H ?_) (fun z => ?_)
  · unfold sf_in
    rw [decide_eq_false (by omega)]
    rfl
  refine sf_high ?_
  refine pk_le k (sf_h x0 i) (fun y => ?_) (fun y => sf_pf H ?_)
  rotate_left 1
  · unfold sf_in
    rw [decide_eq_false (show ¬ k ≤ sf_h x0 i by omega), Bool.and_false]
    rfl
  have e : sf_in (sf_l x0) (sf_h x0) k i = true := by
    unfold sf_in
    rw [decide_eq_true z, decide_eq_true y]
    rfl
  rw [e, Bool.true_and] at H
  refine ⟨by decide, nm_r (sf_cE x1 i) (nm_r (sf_vE x1 i) (nm_r (sf_zE x2) ?_))⟩
  have T : ∀ {b : Bool}, sf_cmp (sf_c x1 i) (sf_z x2) (sf_v x1 i) = b → post (sf_b b) := fun e => e ▸ H
  refine pk_eq (sf_c x1 i) 1 (fun e1 => ?_) (fun e1 => ?_)
  · have q : sf_cmp (sf_c x1 i) (sf_z x2) (sf_v x1 i) = decide (sf_z x2 = sf_v x1 i) := if_pos e1
    exact pk_eq (sf_z x2) (sf_v x1 i) (fun g => T (b := true) (by rw [q, decide_eq_true g])) (fun g => T (b := false) (by rw [q, decide_eq_false g]))
  refine pk_eq (sf_c x1 i) 2 (fun e2 => ?_) (fun e2 => ?_)
  · have q : sf_cmp (sf_c x1 i) (sf_z x2) (sf_v x1 i) = decide (sf_z x2 ≠ sf_v x1 i) := (if_neg e1).trans (if_pos e2)
    exact pk_eq (sf_z x2) (sf_v x1 i) (fun g => T (b := false) (by rw [q, decide_eq_false (fun n => n g)])) (fun g => T (b := true) (by rw [q, decide_eq_true g]))
  refine pk_eq (sf_c x1 i) 3 (fun e3 => ?_) (fun e3 => ?_)
  · have q : sf_cmp (sf_c x1 i) (sf_z x2) (sf_v x1 i) = decide (sf_z x2 < sf_v x1 i) := (if_neg e1).trans ((if_neg e2).trans (if_pos e3))
    exact pk_le (sf_v x1 i) (sf_z x2) (fun g => T (b := false) (by rw [q, decide_eq_false (by omega)])) (fun g => T (b := true) (by rw [q, decide_eq_true g]))
  refine pk_eq (sf_c x1 i) 4 (fun e4 => ?_) (fun e4 => ?_)
  · have q : sf_cmp (sf_c x1 i) (sf_z x2) (sf_v x1 i) = decide (sf_z x2 ≤ sf_v x1 i) := (if_neg e1).trans ((if_neg e2).trans ((if_neg e3).trans (if_pos e4)))
    exact pk_lt (sf_v x1 i) (sf_z x2) (fun g => T (b := false) (by rw [q, decide_eq_false (by omega)])) (fun g => T (b := true) (by rw [q, decide_eq_true g]))
  refine pk_eq (sf_c x1 i) 5 (fun e5 => ?_) (fun e5 => ?_)
  · have q : sf_cmp (sf_c x1 i) (sf_z x2) (sf_v x1 i) = decide (sf_v x1 i < sf_z x2) := (if_neg e1).trans ((if_neg e2).trans ((if_neg e3).trans ((if_neg e4).trans (if_pos e5))))
    exact pk_le (sf_z x2) (sf_v x1 i) (fun g => T (b := false) (by rw [q, decide_eq_false (by omega)])) (fun g => T (b := true) (by rw [q, decide_eq_true g]))
  refine pk_eq (sf_c x1 i) 0 (fun e0 => ?_) (fun e0 => ?_)
  · exact T (b := true) ((if_neg e1).trans ((if_neg e2).trans ((if_neg e3).trans ((if_neg e4).trans ((if_neg e5).trans (if_pos e0))))))
  · have q : sf_cmp (sf_c x1 i) (sf_z x2) (sf_v x1 i) = decide (sf_v x1 i ≤ sf_z x2) := (if_neg e1).trans ((if_neg e2).trans ((if_neg e3).trans ((if_neg e4).trans ((if_neg e5).trans (if_neg e0)))))
    exact pk_lt (sf_z x2) (sf_v x1 i) (fun g => T (b := false) (by rw [q, decide_eq_false (by omega)])) (fun g => T (b := true) (by rw [q, decide_eq_true g]))
theorem sf_range {post : Int32 → St2 → Prop} {F1 F2 F3 F4 F5 F6 F7 F8 : Int32} {a1 a2 a3 a4 a5 a6 a7 a8 a9 a10 a11 a12 a13 a14 a15 a16 a17 a18 a19 a20 a21 a22 a23 : Nat → Int32} {l h : Nat} (hh : h < 32) (hl : l ≤ h) (H : post 0 (nI l, nI h, F3, F4, F5, F6, F7, F8, a1, a2, a3, a4, a5, a6, a7, a8, a9, a10, a11, a12, a13, a14, a15, a16, a17, a18, a19, a20, a21, a22, a23)) : wpX_range post (F1, F2, F3, F4, F5, F6, F7, F8, a1, a2, a3, a4, a5, a6, a7, a8, a9, a10, a11, a12, a13, a14, a15, a16, a17, a18, a19, a20, a21, a22, a23) (nI l) (nI h) := by
  unfold wpX_range
  exact sf_isN (by omega) (br_f (by decide) (sf_isN hh (br_f (by decide) (pk_le l h (fun _ => H) (fun z => absurd z (by omega))))))
theorem sf_k7 : ∀ c, c < 7 → ¬ nI (8 + c) < 0 ∧ ¬ (15 : Int32) < nI (8 + c) ∧ ¬ nI (8 + c) &&& 7 = 7 := by decide +kernel
theorem sf_cond {post : Int32 → St2 → Prop} {F1 F2 F3 F4 F5 F6 F7 F8 : Int32} {a1 a2 a3 a4 a5 a6 a7 a8 a9 a10 a11 a12 a13 a14 a15 a16 a17 a18 a19 a20 a21 a22 a23 : Nat → Int32} {c : Nat} {y : Int32} (hc : c < 7) (H : post 0 (F1, F2, F3, F4, F5, F6, F7, F8, a1, a2, a3, a4, a5, a6, a7, a8, a9, a10, a11, a12, a13, a14, a15, a16, a17, a18, a19, a20, upd a21 0 (nI (8 + c)), upd a22 0 7, upd a23 0 y)) : wpX_condition post (F1, F2, F3, F4, F5, F6, F7, F8, a1, a2, a3, a4, a5, a6, a7, a8, a9, a10, a11, a12, a13, a14, a15, a16, a17, a18, a19, a20, a21, a22, a23) 0 (nI (8 + c)) 7 y := by
  obtain ⟨k1, k2, k3⟩ := sf_k7 c hc
  unfold wpX_condition
  refine br_t rfl ?_
  unfold wX_condition_11
  exact br_f k1 (br_f k2 (br_f k3 ⟨pk_in 0 2 (by decide), nm_e ⟨pk_in 0 2 (by decide), nm_e ⟨pk_in 0 2 (by decide), nm_e H⟩⟩⟩))
theorem sf_89 {post : Int32 → St2 → Prop} {F1 F2 F3 F4 F5 F6 F7 F8 : Int32} {a1 a2 a3 a4 a5 a6 a7 a8 a9 a10 a11 a12 a13 a14 a15 a16 a17 a18 a19 a20 a21 a22 a23 : Nat → Int32} {i k n : Nat} (hi : i < 3) (hk : k < 2)
    (W : wX_put_89 post (nI i) F1 F2 F3 F4 F5 F6 F7 F8 n (nI (k + 1)) a1 a2 (upd a3 (2 * i + k) (a21 k)) (upd a4 (2 * i + k) (a22 k)) (upd a5 (2 * i + k) (a23 k)) a6 a7 a8 a9 a10 a11 a12 a13 a14 a15 a16 a17 a18 a19 a20 a21 a22 a23) :
    wX_put_89 post (nI i) F1 F2 F3 F4 F5 F6 F7 F8 (n + 1) (nI k) a1 a2 a3 a4 a5 a6 a7 a8 a9 a10 a11 a12 a13 a14 a15 a16 a17 a18 a19 a20 a21 a22 a23 := by
  refine pk_le 2 k (fun z => absurd z (by omega)) (fun _ => ?_)
  rw [sf_2r, nI_add (2 * i) k, nI_clamp (show k < 2 ^ 31 by omega), nI_clamp (show 2 * i + k < 2 ^ 31 by omega)]
  exact ⟨pk_in k 2 hk, pk_in (2 * i + k) 26 (by omega), nm_e ⟨pk_in k 2 hk, pk_in (2 * i + k) 26 (by omega), nm_e ⟨pk_in k 2 hk, pk_in (2 * i + k) 26 (by omega), nm_e (nm_r (nI_1 k) W)⟩⟩⟩
theorem sf_put {post : Int32 → St2 → Prop} {F1 F2 F4 F5 F6 F7 F8 : Int32} {a1 a2 a3 a4 a5 a6 a7 a8 a9 a10 a11 a12 a13 a14 a15 a16 a17 a18 a19 a20 a21 a22 a23 : Nat → Int32} {i : Nat} {y : Int32} (hi : i < 3) (hy : ∃ j, j < 4 ∧ y = nI j)
    (H : post (nI (i + 1)) (F1, F2, nI (i + 1), F4, F5, F6, F7, 0, upd a1 i F1, upd a2 i F2, upd (upd a3 (2 * i + 0) (a21 0)) (2 * i + 1) (a21 1), upd (upd a4 (2 * i + 0) (a22 0)) (2 * i + 1) (a22 1), upd (upd a5 (2 * i + 0) (a23 0)) (2 * i + 1) (a23 1), upd a6 i y, a7, a8, a9, a10, a11, a12, a13, a14, a15, a16, a17, a18, a19, a20, a21, a22, a23)) :
    wpX_put post (F1, F2, nI i, F4, F5, F6, F7, F8, a1, a2, a3, a4, a5, a6, a7, a8, a9, a10, a11, a12, a13, a14, a15, a16, a17, a18, a19, a20, a21, a22, a23) (nI i) y := by
  obtain ⟨j, hj, rfl⟩ := hy
  have hn : (nI i).toNatClampNeg = i := nI_clamp (by omega)
  unfold wpX_put
  refine pk_lt i 0 (fun z => absurd z (by omega)) (fun _ => pk_le i i (fun _ => sf_isA hj (br_f (by decide) (pk_eq i 12 (fun z => absurd z (by omega)) (fun _ => ⟨1, ?_⟩)))) (fun z => absurd z (by omega)))
  refine pk_le i i (fun _ => ?_) (fun z => absurd z (by omega))
  rw [hn]
  refine ⟨pk_in i 13 (by omega), nm_e ⟨pk_in i 13 (by omega), nm_e ⟨pk_in i 13 (by omega), nm_e ⟨3, ?_⟩⟩⟩⟩
  refine sf_89 (k := 0) hi (by decide) ?_
  refine sf_89 (k := 1) hi (by decide) ?_
  exact pk_le 2 2 (fun _ => nm_r (nI_1 i) H) (fun z => absurd z (by omega))
/-- the list while it is built: i rules stand -/
def sf_K (l h c v : Nat → Nat) (act : Nat → Int32) (x d : Int32) (i : Nat) (u : St2) : Prop := match u with
  | (F1, F2, F3, F4, F5, F6, F7, F8, a1, a2, a3, a4, a5, a6, a7, a8, a9, a10, a11, a12, a13, a14, a15, a16, a17, a18, a19, a20, a21, a22, a23) => F3 = nI i ∧ F4 = d ∧ F8 = 0 ∧ a20 1 = x ∧ a21 1 = 0 ∧ a23 1 = 0 ∧ sf_R l h c v act i a1 a2 a3 a4 a5 a6
theorem sf_Rs {l h c v : Nat → Nat} {act : Nat → Int32} {i : Nat} {a1 a2 a3 a4 a5 a6 b3 b4 b5 : Nat → Int32} (hR : sf_R l h c v act i a1 a2 a3 a4 a5 a6) (e3 : b3 0 = nI (8 + c i)) (e3' : b3 1 = 0) (e4 : b4 0 = 7) (e5 : b5 0 = nI (v i)) (e5' : b5 1 = 0) :
    sf_R l h c v act (i + 1) (upd a1 i (nI (l i))) (upd a2 i (nI (h i))) (upd (upd a3 (2 * i + 0) (b3 0)) (2 * i + 1) (b3 1)) (upd (upd a4 (2 * i + 0) (b4 0)) (2 * i + 1) (b4 1)) (upd (upd a5 (2 * i + 0) (b5 0)) (2 * i + 1) (b5 1)) (upd a6 i (act i)) := by
  intro r hr
  by_cases e : r = i
  · subst e
    rw [pk_us, pk_us, pk_us, pk_un (show 2 * r ≠ 2 * r + 1 by omega), pk_un (show 2 * r ≠ 2 * r + 1 by omega), pk_un (show 2 * r ≠ 2 * r + 1 by omega), pk_us, pk_us]
    rw [show 2 * r + 0 = 2 * r from rfl, pk_us, pk_us, pk_us]
    exact ⟨rfl, rfl, e3, e3', e4, e5, e5', rfl⟩
  · rw [pk_un e, pk_un e, pk_un e, pk_un (show 2 * r ≠ 2 * i + 1 by omega), pk_un (show 2 * r ≠ 2 * i + 1 by omega), pk_un (show 2 * r ≠ 2 * i + 1 by omega), pk_un (show 2 * r + 1 ≠ 2 * i + 1 by omega), pk_un (show 2 * r + 1 ≠ 2 * i + 1 by omega), pk_un (show 2 * r ≠ 2 * i + 0 by omega), pk_un (show 2 * r ≠ 2 * i + 0 by omega), pk_un (show 2 * r ≠ 2 * i + 0 by omega), pk_un (show 2 * r + 1 ≠ 2 * i + 0 by omega), pk_un (show 2 * r + 1 ≠ 2 * i + 0 by omega)]
    exact hR r (by omega)
theorem sf_33 {post : Int32 → St0 → Prop} {mc ms kc ks n i : Nat} {x0 x1 x2 x5 : Int32} {F1 F2 F3 F4 F5 F6 F7 F8 : Int32} {a1 a2 a3 a4 a5 a6 a7 a8 a9 a10 a11 a12 a13 a14 a15 a16 a17 a18 a19 a20 a21 a22 a23 : Nat → Int32} (hi : i < 3) (hK : sf_K (sf_l x0) (sf_h x0) (sf_c x1) (sf_v x1) (sf_ac x0) x2 x5 i (F1, F2, F3, F4, F5, F6, F7, F8, a1, a2, a3, a4, a5, a6, a7, a8, a9, a10, a11, a12, a13, a14, a15, a16, a17, a18, a19, a20, a21, a22, a23))
    (W : ∀ (F1_2 F2_2 F3_2 F4_2 F5_2 F6_2 F7_2 F8_2 : Int32) (a1_2 a2_2 a3_2 a4_2 a5_2 a6_2 a7_2 a8_2 a9_2 a10_2 a11_2 a12_2 a13_2 a14_2 a15_2 a16_2 a17_2 a18_2 a19_2 a20_2 a21_2 a22_2 a23_2 : Nat → Int32), sf_K (sf_l x0) (sf_h x0) (sf_c x1) (sf_v x1) (sf_ac x0) x2 x5 (i + 1) (F1_2, F2_2, F3_2, F4_2, F5_2, F6_2, F7_2, F8_2, a1_2, a2_2, a3_2, a4_2, a5_2, a6_2, a7_2, a8_2, a9_2, a10_2, a11_2, a12_2, a13_2, a14_2, a15_2, a16_2, a17_2, a18_2, a19_2, a20_2, a21_2, a22_2, a23_2) → wL_lawOf_33 post mc ms x0 x1 x2 x5 kc ks n (nI (i + 1)) F1_2 F2_2 F3_2 F4_2 F5_2 F6_2 F7_2 F8_2 a1_2 a2_2 a3_2 a4_2 a5_2 a6_2 a7_2 a8_2 a9_2 a10_2 a11_2 a12_2 a13_2 a14_2 a15_2 a16_2 a17_2 a18_2 a19_2 a20_2 a21_2 a22_2 a23_2) :
    wL_lawOf_33 post mc ms x0 x1 x2 x5 kc ks (n + 1) (nI i) F1 F2 F3 F4 F5 F6 F7 F8 a1 a2 a3 a4 a5 a6 a7 a8 a9 a10 a11 a12 a13 a14 a15 a16 a17 a18 a19 a20 a21 a22 a23 := by
  obtain ⟨k1, k2, k3, k4, k5, k6, k7⟩ := hK
  subst k1
  have hh := sf_hL x0 i
  refine pk_le 3 i (fun z => absurd z (by omega)) (fun _ => ?_)
  refine sf_low (sf_high (sf_range (by omega) (Nat.le_add_right _ _) ?_))
  refine br_t rfl ⟨by decide, nm_r (sf_cE x1 i) ?_⟩
  rw [show (8 : Int32) + nI (sf_c x1 i) = nI (8 + sf_c x1 i) from nI_add 8 _, sf_vE]
  refine sf_cond (sf_cL x1 i) ?_
  refine br_t rfl ?_
  refine sf_put hi (sf_acE x0 i) ?_
  refine br_t (nI_1 i).symm (nm_r (nI_1 i) ?_)
  refine W _ _ _ F4 F5 F6 F7 _ _ _ _ _ _ _ a7 a8 a9 a10 a11 a12 a13 a14 a15 a16 a17 a18 a19 a20 _ _ _ ?_
  refine ⟨rfl, k2, rfl, k4, ?_, ?_, sf_Rs k7 pk_us ?_ pk_us pk_us ?_⟩
  · rw [pk_un (by decide), k5]
  · rw [pk_un (by decide), k6]
  · rw [pk_un (by decide), k5]
  · rw [pk_un (by decide), k6]
end
section
/-! the law's loops over a compiled list -/
/-- the first number below k with the verdict 1 -/
def sf_N (V : Nat → Int32) (k : Nat) (x : Int32) : Prop :=
  (x = -3 ∧ ∀ j, j < k → ¬ V j = 1) ∨ (∃ q, q < k ∧ x = nI q ∧ V q = 1 ∧ ∀ j, j < q → ¬ V j = 1)
theorem sf_N0 (V : Nat → Int32) : sf_N V 0 (-3) := Or.inl ⟨rfl, fun j hj => absurd hj (by omega)⟩
theorem sf_275 {post : Int32 → St0 → Prop} {mc ms kc ks k : Nat} {J : Int32 → Int32 → Int32 → Int32 → Int32 → Int32 → Int32 → Int32 → Int32 → Int32 → Int32 → (Nat → Int32) → (Nat → Int32) → (Nat → Int32) → (Nat → Int32) → (Nat → Int32) → (Nat → Int32) → (Nat → Int32) → (Nat → Int32) → (Nat → Int32) → (Nat → Int32) → (Nat → Int32) → (Nat → Int32) → (Nat → Int32) → (Nat → Int32) → (Nat → Int32) → (Nat → Int32) → (Nat → Int32) → (Nat → Int32) → (Nat → Int32) → (Nat → Int32) → (Nat → Int32) → (Nat → Int32) → (Nat → Int32) → Prop}
    {x0 x1 x2 x5 x6 x7 : Int32} {F1 F2 F3 F4 F5 F6 F7 F8 : Int32} {a1 a2 a3 a4 a5 a6 a7 a8 a9 a10 a11 a12 a13 a14 a15 a16 a17 a18 a19 a20 a21 a22 a23 : Nat → Int32} {V : Nat → Int32} (hk : k < 32) (hN : sf_N V k x7) (W : ∀ y, sf_N V (k + 1) y → J x6 y (nI (k + 1)) F1 F2 F3 F4 F5 F6 F7 F8 a1 a2 a3 a4 a5 a6 a7 a8 a9 a10 a11 a12 a13 a14 a15 a16 a17 a18 a19 a20 a21 a22 a23) :
    wL_lawOf_275 post mc ms J x0 x1 x2 x5 x6 x7 (nI k) (V k) kc ks F1 F2 F3 F4 F5 F6 F7 F8 a1 a2 a3 a4 a5 a6 a7 a8 a9 a10 a11 a12 a13 a14 a15 a16 a17 a18 a19 a20 a21 a22 a23 := by
  unfold wL_lawOf_275
  refine br_c (fun e => ?_) (fun e => nm_r (nI_1 k) (W x7 ?_))
  · rcases hN with ⟨rfl, h⟩ | ⟨q, hq, rfl, h1, h2⟩
    · refine br_f (by decide) (nm_r (nI_1 k) (W _ (Or.inr ⟨k, by omega, rfl, e, h⟩)))
    · refine pk_le 0 q (fun _ => nm_r (nI_1 k) (W _ (Or.inr ⟨q, by omega, rfl, h1, h2⟩))) (fun z => absurd z (by omega))
  · rcases hN with ⟨rfl, h⟩ | ⟨q, hq, rfl, h1, h2⟩
    · refine Or.inl ⟨rfl, fun j hj => ?_⟩
      by_cases ej : j = k
      · rw [ej]
        exact e
      · exact h j (by omega)
    · exact Or.inr ⟨q, by omega, rfl, h1, h2⟩
theorem sf_226 {post : Int32 → St0 → Prop} {mc ms kc ks k : Nat} {J : Int32 → Int32 → Int32 → Int32 → Int32 → Int32 → Int32 → Int32 → Int32 → Int32 → Int32 → (Nat → Int32) → (Nat → Int32) → (Nat → Int32) → (Nat → Int32) → (Nat → Int32) → (Nat → Int32) → (Nat → Int32) → (Nat → Int32) → (Nat → Int32) → (Nat → Int32) → (Nat → Int32) → (Nat → Int32) → (Nat → Int32) → (Nat → Int32) → (Nat → Int32) → (Nat → Int32) → (Nat → Int32) → (Nat → Int32) → (Nat → Int32) → (Nat → Int32) → (Nat → Int32) → (Nat → Int32) → (Nat → Int32) → Prop}
    {x0 x1 x2 x5 x7 : Int32} {F1 F2 F3 F4 F5 F6 F7 F8 : Int32} {a1 a2 a3 a4 a5 a6 a7 a8 a9 a10 a11 a12 a13 a14 a15 a16 a17 a18 a19 a20 a21 a22 a23 : Nat → Int32} {m : Nat → Nat} {H : Nat} {d : Int32} {act : Nat → Int32} (hm : ∀ k, k < 32 → m k < 8) (hH : H < 8) (hR : sf_Rd m H d act (F1, F2, F3, F4, F5, F6, F7, F8, a1, a2, a3, a4, a5, a6, a7, a8, a9, a10, a11, a12, a13, a14, a15, a16, a17, a18, a19, a20, a21, a22, a23)) (hk : k < 32) (hN : sf_N (fun k => sf_V H d act (m k)) k x7)
    (W : ∀ (y : Int32) (F1_2 F2_2 F3_2 F4_2 F5_2 F6_2 F7_2 F8_2 : Int32) (a1_2 a2_2 a3_2 a4_2 a5_2 a6_2 a7_2 a8_2 a9_2 a10_2 a11_2 a12_2 a13_2 a14_2 a15_2 a16_2 a17_2 a18_2 a19_2 a20_2 a21_2 a22_2 a23_2 : Nat → Int32), sf_Rd m H d act (F1_2, F2_2, F3_2, F4_2, F5_2, F6_2, F7_2, F8_2, a1_2, a2_2, a3_2, a4_2, a5_2, a6_2, a7_2, a8_2, a9_2, a10_2, a11_2, a12_2, a13_2, a14_2, a15_2, a16_2, a17_2, a18_2, a19_2, a20_2, a21_2, a22_2, a23_2) → sf_N (fun k => sf_V H d act (m k)) (k + 1) y → J (nI (sf_cnt (fun k => sf_V H d act (m k)) (k + 1))) y (nI (k + 1)) F1_2 F2_2 F3_2 F4_2 F5_2 F6_2 F7_2 F8_2 a1_2 a2_2 a3_2 a4_2 a5_2 a6_2 a7_2 a8_2 a9_2 a10_2 a11_2 a12_2 a13_2 a14_2 a15_2 a16_2 a17_2 a18_2 a19_2 a20_2 a21_2 a22_2 a23_2) :
    wL_lawOf_226 post mc ms J x0 x1 x2 x5 (nI (sf_cnt (fun k => sf_V H d act (m k)) k)) x7 (nI k) (sf_ix (-2) (sf_fn H (m k))) (nI (sf_many H (m k) 3)) (sf_V H d act (m k)) kc ks F1 F2 F3 F4 F5 F6 F7 F8 a1 a2 a3 a4 a5 a6 a7 a8 a9 a10 a11 a12 a13 a14 a15 a16 a17 a18 a19 a20 a21 a22 a23 := by
  unfold wL_lawOf_226
  refine sf_matched hm hH hR hk (fun u1 C1 => ?_)
  obtain ⟨F1_2, F2_2, F3_2, F4_2, F5_2, F6_2, F7_2, F8_2, a1_2, a2_2, a3_2, a4_2, a5_2, a6_2, a7_2, a8_2, a9_2, a10_2, a11_2, a12_2, a13_2, a14_2, a15_2, a16_2, a17_2, a18_2, a19_2, a20_2, a21_2, a22_2, a23_2⟩ := u1
  refine br_t rfl (sf_matching hm (sf_CR C1) hk (fun u2 C2 => ?_))
  obtain ⟨F1_3, F2_3, F3_3, F4_3, F5_3, F6_3, F7_3, F8_3, a1_3, a2_3, a3_3, a4_3, a5_3, a6_3, a7_3, a8_3, a9_3, a10_3, a11_3, a12_3, a13_3, a14_3, a15_3, a16_3, a17_3, a18_3, a19_3, a20_3, a21_3, a22_3, a23_3⟩ := u2
  refine br_t rfl (sf_decide hm hH (sf_CR C2) hk (fun u3 C3 => ?_))
  obtain ⟨F1_4, F2_4, F3_4, F4_4, F5_4, F6_4, F7_4, F8_4, a1_4, a2_4, a3_4, a4_4, a5_4, a6_4, a7_4, a8_4, a9_4, a10_4, a11_4, a12_4, a13_4, a14_4, a15_4, a16_4, a17_4, a18_4, a19_4, a20_4, a21_4, a22_4, a23_4⟩ := u3
  have q : sf_cnt (fun k => sf_V H d act (m k)) (k + 1) = sf_cnt (fun k => sf_V H d act (m k)) k + (if sf_V H d act (m k) = 1 then 1 else 0) := rfl
  refine br_t rfl (br_c (fun e => nm_r (nI_1 _) ?_) (fun e => ?_))
  · rw [if_pos e] at q
    rw [q] at W
    exact sf_275 (V := fun k => sf_V H d act (m k)) hk hN (fun y hy => W y F1_4 F2_4 F3_4 F4_4 F5_4 F6_4 F7_4 F8_4 a1_4 a2_4 a3_4 a4_4 a5_4 a6_4 a7_4 a8_4 a9_4 a10_4 a11_4 a12_4 a13_4 a14_4 a15_4 a16_4 a17_4 a18_4 a19_4 a20_4 a21_4 a22_4 a23_4 (sf_CR C3) hy)
  · rw [if_neg e] at q
    rw [q] at W
    exact sf_275 (V := fun k => sf_V H d act (m k)) hk hN (fun y hy => W y F1_4 F2_4 F3_4 F4_4 F5_4 F6_4 F7_4 F8_4 a1_4 a2_4 a3_4 a4_4 a5_4 a6_4 a7_4 a8_4 a9_4 a10_4 a11_4 a12_4 a13_4 a14_4 a15_4 a16_4 a17_4 a18_4 a19_4 a20_4 a21_4 a22_4 a23_4 (sf_CR C3) hy)
theorem sf_174 {post : Int32 → St0 → Prop} {mc ms kc ks k n i f q : Nat} {J : Int32 → Int32 → Int32 → Int32 → Int32 → Int32 → Int32 → Int32 → Int32 → Int32 → Int32 → (Nat → Int32) → (Nat → Int32) → (Nat → Int32) → (Nat → Int32) → (Nat → Int32) → (Nat → Int32) → (Nat → Int32) → (Nat → Int32) → (Nat → Int32) → (Nat → Int32) → (Nat → Int32) → (Nat → Int32) → (Nat → Int32) → (Nat → Int32) → (Nat → Int32) → (Nat → Int32) → (Nat → Int32) → (Nat → Int32) → (Nat → Int32) → (Nat → Int32) → (Nat → Int32) → (Nat → Int32) → (Nat → Int32) → Prop}
    {x0 x1 x2 x5 x6 x7 x' : Int32} {F1 F2 F3 F4 F5 F6 F7 F8 : Int32} {a1 a2 a3 a4 a5 a6 a7 a8 a9 a10 a11 a12 a13 a14 a15 a16 a17 a18 a19 a20 a21 a22 a23 : Nat → Int32} {M : Nat → Bool} (hM : ∀ i, i < 3 → M i = (sf_in (sf_l x0) (sf_h x0) k i && sf_cmp (sf_c x1 i) (sf_z x2) (sf_v x1 i))) (hk : k < 32) (hi : i < 3) (hx' : nI i + (-1) = x')
    (W : wL_lawOf_174 post mc ms J x0 x1 x2 x5 x6 x7 (nI k) kc ks F1 F2 F3 F4 F5 F6 F7 F8 a1 a2 a3 a4 a5 a6 a7 a8 a9 a10 a11 a12 a13 a14 a15 a16 a17 a18 a19 a20 a21 a22 a23 n (sf_ix (-2) (if M i = true then i else f)) (nI (if M i = true then q + 1 else q)) x') :
    wL_lawOf_174 post mc ms J x0 x1 x2 x5 x6 x7 (nI k) kc ks F1 F2 F3 F4 F5 F6 F7 F8 a1 a2 a3 a4 a5 a6 a7 a8 a9 a10 a11 a12 a13 a14 a15 a16 a17 a18 a19 a20 a21 a22 a23 (n + 1) (sf_ix (-2) f) (nI q) (nI i) := by
  refine pk_lt i 0 (fun z => absurd z (by omega)) (fun _ => ?_)
  refine sf_match hk ?_
  rw [← hM i hi]
  refine sf_b0 (fun e => nm_r hx' ?_) (fun e => nm_r (nI_1 q) (nm_r hx' ?_))
  · rw [e, if_neg (by decide), if_neg (by decide)] at W
    exact W
  · rw [if_pos e, if_pos e, show sf_ix (-2) i = nI i from if_neg (by omega)] at W
    exact W
theorem sf_fnM {H m : Nat} {M : Nat → Bool} (hM : ∀ i, i < 3 → M i = (m.testBit i && H.testBit i)) : (if M 0 = true then 0 else if M 1 = true then 1 else if M 2 = true then 2 else 3) = sf_fn H m := by
  unfold sf_fn
  rw [Nat.testBit_and, Nat.testBit_and, Nat.testBit_and, ← hM 0 (by decide), ← hM 1 (by decide), ← hM 2 (by decide)]
theorem sf_manyM {H m : Nat} {M : Nat → Bool} (hM : ∀ i, i < 3 → M i = (m.testBit i && H.testBit i)) : (if M 0 = true then (if M 1 = true then (if M 2 = true then 0 + 1 else 0) + 1 else (if M 2 = true then 0 + 1 else 0)) + 1 else (if M 1 = true then (if M 2 = true then 0 + 1 else 0) + 1 else (if M 2 = true then 0 + 1 else 0))) = sf_many H m 3 := by
  show _ = 0 + (if (m.testBit 0 && H.testBit 0) = true then 1 else 0) + (if (m.testBit 1 && H.testBit 1) = true then 1 else 0) + (if (m.testBit 2 && H.testBit 2) = true then 1 else 0)
  rw [← hM 0 (by decide), ← hM 1 (by decide), ← hM 2 (by decide)]
  cases M 0 <;> cases M 1 <;> cases M 2 <;> rfl
theorem sf_157 {post : Int32 → St0 → Prop} (hpost : post 1 ()) {mc ms kc ks : Nat} {x0 x1 x2 x5 : Int32} {m : Nat → Nat} {H : Nat} (em : ∀ k, m k = sf_bs (sf_in (sf_l x0) (sf_h x0) k) 3) (eH : H = sf_bs (fun r => sf_cmp (sf_c x1 r) (sf_z x2) (sf_v x1 r)) 3) :
    ∀ (n k : Nat) (x7 : Int32) (F1 F2 F3 F4 F5 F6 F7 F8 : Int32) (a1 a2 a3 a4 a5 a6 a7 a8 a9 a10 a11 a12 a13 a14 a15 a16 a17 a18 a19 a20 a21 a22 a23 : Nat → Int32), k ≤ 8 → 8 - k < n → sf_Rd m H x5 (sf_ac x0) (F1, F2, F3, F4, F5, F6, F7, F8, a1, a2, a3, a4, a5, a6, a7, a8, a9, a10, a11, a12, a13, a14, a15, a16, a17, a18, a19, a20, a21, a22, a23) → sf_N (fun k => sf_V H x5 (sf_ac x0) (m k)) k x7 → wL_lawOf_157 post mc ms x0 x1 x2 x5 kc ks n (nI (sf_cnt (fun k => sf_V H x5 (sf_ac x0) (m k)) k)) x7 (nI k) F1 F2 F3 F4 F5 F6 F7 F8 a1 a2 a3 a4 a5 a6 a7 a8 a9 a10 a11 a12 a13 a14 a15 a16 a17 a18 a19 a20 a21 a22 a23 := by
  have hm : ∀ k, k < 32 → m k < 8 := fun k _ => by rw [em k]; exact sf_bs8 _
  have hH : H < 8 := by rw [eH]; exact sf_bs8 _
  intro n
  induction n with
  | zero => intro k x7 F1 F2 F3 F4 F5 F6 F7 F8 a1 a2 a3 a4 a5 a6 a7 a8 a9 a10 a11 a12 a13 a14 a15 a16 a17 a18 a19 a20 a21 a22 a23 _ h; omega
  | succ n ih =>
    intro k x7 F1 F2 F3 F4 F5 F6 F7 F8 a1 a2 a3 a4 a5 a6 a7 a8 a9 a10 a11 a12 a13 a14 a15 a16 a17 a18 a19 a20 a21 a22 a23 hk hn hR hN
    by_cases e8 : k = 8
    · subst e8
      refine pk_le 8 8 (fun _ => ?_) (fun z => absurd z (by omega))
      refine sf_count hm hH hR (fun u1 C1 => ?_)
      obtain ⟨F1_2, F2_2, F3_2, F4_2, F5_2, F6_2, F7_2, F8_2, a1_2, a2_2, a3_2, a4_2, a5_2, a6_2, a7_2, a8_2, a9_2, a10_2, a11_2, a12_2, a13_2, a14_2, a15_2, a16_2, a17_2, a18_2, a19_2, a20_2, a21_2, a22_2, a23_2⟩ := u1
      refine br_t rfl (sf_next hm hH (sf_CR C1) (fun u2 x C2 hx => ?_))
      obtain ⟨F1_3, F2_3, F3_3, F4_3, F5_3, F6_3, F7_3, F8_3, a1_3, a2_3, a3_3, a4_3, a5_3, a6_3, a7_3, a8_3, a9_3, a10_3, a11_3, a12_3, a13_3, a14_3, a15_3, a16_3, a17_3, a18_3, a19_3, a20_3, a21_3, a22_3, a23_3⟩ := u2
      rcases hN with ⟨rfl, h⟩ | ⟨q, hq, rfl, h1, h2⟩
      · refine br_t (by decide) ?_
        rcases hx with ⟨g1, rfl⟩ | ⟨p, g0, rfl, g1, g2⟩
        · exact br_t (by decide) hpost
        · have hp : 8 ≤ p := by
            by_cases hp : p < 8
            · exact absurd g1 (h p hp)
            · omega
          exact pk_lt p 0 (fun z => absurd z (by omega)) (fun _ => pk_le p 7 (fun z => absurd z (by omega)) (fun _ => hpost))
      · refine pk_lt q 0 (fun z => absurd z (by omega)) (fun _ => ?_)
        rcases hx with ⟨g1, rfl⟩ | ⟨p, g0, rfl, g1, g2⟩
        · exact absurd h1 (g1 q (by omega))
        · have hp : p = q := by
            rcases Nat.lt_trichotomy p q with z | z | z
            · exact absurd g1 (h2 p z)
            · exact z
            · exact absurd h1 (g2 q z)
          rw [hp]
          exact br_t rfl hpost
    · refine pk_le 8 k (fun z => absurd z (by omega)) (fun _ => ⟨4, ?_⟩)
      obtain ⟨M, hM0⟩ : ∃ M : Nat → Bool, ∀ i, M i = ((m k).testBit i && H.testBit i) := ⟨fun i => (m k).testBit i && H.testBit i, fun _ => rfl⟩
      have hM : ∀ i, i < 3 → M i = (sf_in (sf_l x0) (sf_h x0) k i && sf_cmp (sf_c x1 i) (sf_z x2) (sf_v x1 i)) := by
        intro i hi
        rw [hM0 i, em k, eH, sf_bs_bit _ hi, sf_bs_bit _ hi]
      have hf := sf_fnM (H := H) (m := m k) (M := M) (fun i _ => hM0 i)
      have hq := sf_manyM (H := H) (m := m k) (M := M) (fun i _ => hM0 i)
      have fin : wL_lawOf_226 post mc ms (wL_lawOf_157 post mc ms x0 x1 x2 x5 kc ks n) x0 x1 x2 x5 (nI (sf_cnt (fun k => sf_V H x5 (sf_ac x0) (m k)) k)) x7 (nI k) (sf_ix (-2) (sf_fn H (m k))) (nI (sf_many H (m k) 3)) (sf_V H x5 (sf_ac x0) (m k)) kc ks F1 F2 F3 F4 F5 F6 F7 F8 a1 a2 a3 a4 a5 a6 a7 a8 a9 a10 a11 a12 a13 a14 a15 a16 a17 a18 a19 a20 a21 a22 a23 :=
        sf_226 hm hH hR (by omega) hN (fun y F1_2 F2_2 F3_2 F4_2 F5_2 F6_2 F7_2 F8_2 a1_2 a2_2 a3_2 a4_2 a5_2 a6_2 a7_2 a8_2 a9_2 a10_2 a11_2 a12_2 a13_2 a14_2 a15_2 a16_2 a17_2 a18_2 a19_2 a20_2 a21_2 a22_2 a23_2 hR2 hN2 => ih (k + 1) y F1_2 F2_2 F3_2 F4_2 F5_2 F6_2 F7_2 F8_2 a1_2 a2_2 a3_2 a4_2 a5_2 a6_2 a7_2 a8_2 a9_2 a10_2 a11_2 a12_2 a13_2 a14_2 a15_2 a16_2 a17_2 a18_2 a19_2 a20_2 a21_2 a22_2 a23_2 (by omega) (by omega) hR2 hN2)
      refine sf_174 (M := M) (i := 2) (f := 3) (q := 0) hM (by omega) (by decide) (pk_m1 1) ?_
      refine sf_174 (M := M) (i := 1) hM (by omega) (by decide) (pk_m1 0) ?_
      refine sf_174 (M := M) (i := 0) hM (by omega) (by decide) rfl ?_
      rw [hf, hq]
      refine br_t (by decide) ?_
      have hle := sf_fn_le H (m k)
      by_cases e3 : sf_fn H (m k) = 3
      · rw [show sf_V H x5 (sf_ac x0) (m k) = x5 from if_pos e3, e3] at fin
        rw [e3]
        exact br_f (by decide) fin
      · rw [show sf_V H x5 (sf_ac x0) (m k) = sf_ac x0 (sf_fn H (m k)) from if_neg e3, show sf_ix (-2) (sf_fn H (m k)) = nI (sf_fn H (m k)) from if_neg e3] at fin
        rw [show sf_ix (-2) (sf_fn H (m k)) = nI (sf_fn H (m k)) from if_neg e3]
        exact br_t (nI_pos' (by omega)) fin
theorem sf_KR {l h c v : Nat → Nat} {act : Nat → Int32} {x d : Int32} {u : St2} (hl : ∀ r, r < 3 → l r < 32) (hh : ∀ r, r < 3 → h r < 32) (hc : ∀ r, r < 3 → c r < 7) (hv : ∀ r, r < 3 → v r < 8) (hK : sf_K l h c v act x d 3 u) : sf_Rd (fun k => sf_bs (sf_in l h k) 3) (sf_bs (fun r => sf_cmp (c r) (sf_z x) (v r)) 3) d act u := by
  obtain ⟨F1, F2, F3, F4, F5, F6, F7, F8, a1, a2, a3, a4, a5, a6, a7, a8, a9, a10, a11, a12, a13, a14, a15, a16, a17, a18, a19, a20, a21, a22, a23⟩ := u
  obtain ⟨k1, k2, k3, k4, k5, k6, k7⟩ := hK
  subst k1
  subst k2
  subst k3
  subst k4
  intro q hq
  exact sf_comp hl hh hc hv (sf_zL _) (sf_zE _) k7 hq
theorem sf_lawOf {post : Int32 → St0 → Prop} (hpost : post 1 ()) (x0 x1 x2 x3 : Int32) : wpL_lawOf post 764 12208 () x0 x1 x2 x3 := by
  unfold wpL_lawOf
  refine ⟨by decide, by decide, 23, 1414, by decide, by decide, ?_⟩
  unfold wpX_init
  refine ⟨by decide, by decide, by decide, by decide, by decide, by decide, by decide, by decide, by decide, by decide, by decide, by decide, by decide, by decide, by decide, by decide, by decide, by decide, by decide, by decide, by decide, by decide, by decide, by decide, by decide, by decide, by decide, by decide, by decide, by decide, by decide, by decide, by decide, by decide, by decide, by decide, by decide, by decide, by decide, by decide, by decide, by decide, by decide, by decide, by decide, by decide, ?_⟩
  refine nm_e ?_
  obtain ⟨jd, hjd⟩ : ∃ j, j = (x3 &&& 3).toNatClampNeg := ⟨_, rfl⟩
  have ed : x3 &&& 3 = nI jd := by rw [hjd]; exact (sf_an3 x3).1
  have hd : jd < 4 := by rw [hjd]; exact (sf_an3 x3).2
  rw [ed]
  unfold wpX_fallback
  refine sf_isA hd (br_f (by decide) ?_)
  unfold wpX_argument
  refine br_f (by decide) (br_t rfl ⟨pk_in 1 2 (by decide), nm_e ⟨4, ?_⟩⟩)
  refine sf_33 (i := 0) (by decide) ⟨rfl, rfl, rfl, rfl, rfl, rfl, fun r hr => absurd hr (by omega)⟩ (fun F1 F2 F3 F4 F5 F6 F7 F8 a1 a2 a3 a4 a5 a6 a7 a8 a9 a10 a11 a12 a13 a14 a15 a16 a17 a18 a19 a20 a21 a22 a23 K1 => ?_)
  refine sf_33 (i := 1) (by decide) K1 (fun F1_2 F2_2 F3_2 F4_2 F5_2 F6_2 F7_2 F8_2 a1_2 a2_2 a3_2 a4_2 a5_2 a6_2 a7_2 a8_2 a9_2 a10_2 a11_2 a12_2 a13_2 a14_2 a15_2 a16_2 a17_2 a18_2 a19_2 a20_2 a21_2 a22_2 a23_2 K2 => ?_)
  refine sf_33 (i := 2) (by decide) K2 (fun F1_3 F2_3 F3_3 F4_3 F5_3 F6_3 F7_3 F8_3 a1_3 a2_3 a3_3 a4_3 a5_3 a6_3 a7_3 a8_3 a9_3 a10_3 a11_3 a12_3 a13_3 a14_3 a15_3 a16_3 a17_3 a18_3 a19_3 a20_3 a21_3 a22_3 a23_3 K3 => ?_)
  refine pk_le 3 3 (fun _ => ⟨9, ?_⟩) (fun z => absurd z (by omega))
  have R := sf_KR (fun r _ => Nat.lt_of_lt_of_le (sf_lL x0 r) (by decide)) (fun r _ => Nat.lt_of_lt_of_le (sf_hL x0 r) (by decide)) (fun r _ => sf_cL x1 r) (fun r _ => sf_vL x1 r) K3
  exact sf_157 hpost (m := fun k => sf_bs (sf_in (sf_l x0) (sf_h x0) k) 3) (H := sf_bs (fun r => sf_cmp (sf_c x1 r) (sf_z x2) (sf_v x1 r)) 3) (fun k => rfl) rfl 9 0 (-3) F1_3 F2_3 F3_3 F4_3 F5_3 F6_3 F7_3 F8_3 a1_3 a2_3 a3_3 a4_3 a5_3 a6_3 a7_3 a8_3 a9_3 a10_3 a11_3 a12_3 a13_3 a14_3 a15_3 a16_3 a17_3 a18_3 a19_3 a20_3 a21_3 a22_3 a23_3 (by decide) (by decide) R (sf_N0 _)
theorem sf_cell {post : Int32 → Prop} {L : Nat} {xs : Nat → Int32} {i : Nat} (hL : L ≤ 4) (hi : i < 4) (h : ∀ x, post x) : wpL_cellAt post L xs () (nI i) :=
  pk_le L i (fun _ => h _) (fun z => ⟨pk_in i L z, h _⟩)
theorem i_vc (xs : Nat → Int32) (L : Nat) (hL : L ≤ 4) : wpL_law (fun r => r = 1) L xs :=
  sf_cell (i := 0) hL (by decide) (fun x0 => sf_cell (i := 1) hL (by decide) (fun x1 => sf_cell (i := 2) hL (by decide) (fun x2 => sf_cell (i := 3) hL (by decide) (fun x3 => ⟨764, 12208, by decide, by decide, sf_lawOf (post := fun r _ => r = 1) rfl x0 x1 x2 x3⟩))))
end
