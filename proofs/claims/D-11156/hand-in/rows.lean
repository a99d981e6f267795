section
/-- a set of at most one key: 20 stands for none -/
def rt_w (k : Nat) : Int32 := if k < 20 then (1 : Int32) <<< (nI k &&& 31) else 0
/-- a reference: 20 stands for none -/
def rt_f (k : Nat) : Int32 := if k < 20 then nI k else -1
/-- how many keys -/
def rt_c (k : Nat) : Nat := if k < 20 then 1 else 0
theorem rt_bit : ∀ k, k < 21 → ∀ i, i < 20 → ((rt_w k >>> (nI i &&& 31)) &&& 1) = (if i = k then 1 else 0) := by decide +kernel
theorem rt_b1 {k i : Nat} (hk : k < 21) (hi : i < 20) (h : i = k) : ((rt_w k >>> (nI i &&& 31)) &&& 1) = 1 := by
  rw [rt_bit k hk i hi, if_pos h]
theorem rt_b0 {k i : Nat} (hk : k < 21) (hi : i < 20) (h : i ≠ k) : ((rt_w k >>> (nI i &&& 31)) &&& 1) = 0 := by
  rw [rt_bit k hk i hi, if_neg h]
theorem rt_b1n {k i : Nat} (hk : k < 21) (hi : i < 20) (h : i ≠ k) : ¬ ((rt_w k >>> (nI i &&& 31)) &&& 1) = 1 := by
  rw [rt_b0 hk hi h]
  decide
theorem rt_b0n {k i : Nat} (hk : k < 21) (hi : i < 20) (h : i = k) : ¬ ((rt_w k >>> (nI i &&& 31)) &&& 1) = 0 := by
  rw [rt_b1 hk hi h]
  decide
theorem rt_wp {k : Nat} (h : k < 20) : (1 : Int32) <<< (nI k &&& 31) = rt_w k := (if_pos h).symm
theorem rt_fp {k : Nat} (h : k < 20) : rt_f k = nI k := if_pos h
theorem rt_wne : ∀ k, k < 20 → ¬ rt_w k = 0 := by decide +kernel
theorem rt_wdec : ∀ k, k < 20 → rt_w k &&& (rt_w k - 1) = 0 := by decide +kernel
theorem rt_wclr : ∀ k, k < 20 → rt_w k &&& (rt_w k ^^^ (-1)) = 0 := by decide +kernel
theorem rt_wcl0 : ∀ k, k < 21 → (0 : Int32) &&& (rt_w k ^^^ (-1)) = 0 := by decide +kernel
theorem rt_wall : ∀ k, k < 21 → rt_w k &&& ((0 : Int32) ^^^ (-1)) = rt_w k := by decide +kernel
theorem rt_0or : ∀ k, k < 21 → (0 : Int32) ||| rt_w k = rt_w k := by decide +kernel
theorem rt_or0 : ∀ k, k < 21 → rt_w k ||| (0 : Int32) = rt_w k := by decide +kernel
theorem rt_fne : ∀ x, x < 21 → ∀ y, y < 21 → x ≠ y → ¬ rt_f x = rt_f y := by decide +kernel
theorem rt_fge : ∀ x, x < 20 → ¬ rt_f x < 0 := by decide +kernel
theorem rt_at {f : Nat → Int32} {z : Int32} (k : Nat) (hk : k < 2 ^ 31) (hz : z = nI k) : f z.toNatClampNeg = f k := by
  rw [hz, nI_clamp hk]
theorem rt_up {f : Nat → Int32} {z v w : Int32} (k : Nat) (hk : k < 2 ^ 31) (hz : z = nI k) (hv : v = w) : upd f z.toNatClampNeg v = upd f k w := by
  rw [hz, nI_clamp hk, hv]
theorem rt_ix (c i : Nat) : 20 * nI c + nI i = nI (20 * c + i) := by
  rw [show (20 : Int32) = nI 20 from rfl, pk_mul, nI_add]
theorem rt_iz {z : Int32} (c i : Nat) (hz : z = nI c) : 20 * z + nI i = nI (20 * c + i) := by
  rw [hz, rt_ix]
theorem rt_skip (W : Nat → Nat → Prop) (hs : ∀ n c, c < 5 → W n (c + 1) → W (n + 1) c) (h : ∀ n, W (n + 1 + 1) 5) : ∃ n, W n 0 :=
  ⟨0 + 1 + 1 + 5, hs _ 0 (by omega) (hs _ 1 (by omega) (hs _ 2 (by omega) (hs _ 3 (by omega) (hs _ 4 (by omega) (h 0)))))⟩
/-- what the arrays hold -/
def rt_t (p q j : Nat) : Int32 := if j = 0 then rt_w p else if j = 2 then rt_w q else 0
def rt_r (b x j : Nat) : Int32 := if j = 100 + b then rt_f x else -1
def rt_h (b x j : Nat) : Int32 := if j = 100 + x then rt_w b else 0
/-- the picture: the only rule is rho at column 5, linked to table 0; table 0 holds key p, table 2 key q, table 1 none; the reference of row b of table 2 at column 5 is x; all else is as made (20: none) -/
def rt_K (ρ : Int32) (p q x b : Nat) (a1 a2 a3 a4 a5 a6 : Nat → Int32) : Prop :=
  (∀ j, j < 6 → a1 j = 0) ∧ (∀ j, j < 5 → a2 j = -1) ∧ a2 5 = ρ ∧ (∀ j, j < 3 → a3 j = rt_t p q j) ∧ (∀ j, j < 120 → a4 j = rt_r b x j) ∧ (∀ j, j < 60 → a5 j = 0) ∧ (∀ j, j < 120 → a6 j = rt_h b x j)
/-- what keep(4) keeps -/
def rt_P (p q x b : Nat) (a7 : Nat → Int32) : Prop :=
  (∀ j, j < 3 → a7 (732 + j) = rt_t p q j) ∧ (∀ j, j < 120 → a7 (735 + j) = rt_r b x j) ∧ (∀ j, j < 60 → a7 (855 + j) = 0)
theorem rt_rn {b x j : Nat} (h : j ≠ 100 + b) : rt_r b x j = -1 := if_neg h
theorem rt_rb {b x : Nat} : rt_r b x (100 + b) = rt_f x := if_pos rfl
theorem rt_hw (b x i : Nat) : rt_h b x (100 + i) = rt_w (if i = x then b else 20) := by
  unfold rt_h
  by_cases e : i = x
  · rw [if_pos e, if_pos (by omega)]
  · rw [if_neg e, if_neg (by omega)]
    rfl
section
variable {ρ : Int32} {p q x b : Nat} {a1 a2 a3 a4 a5 a6 : Nat → Int32}
theorem rt_Kt0 (k : rt_K ρ p q x b a1 a2 a3 a4 a5 a6) (p' : Nat) : rt_K ρ p' q x b a1 a2 (upd a3 0 (rt_w p')) a4 a5 a6 := by
  refine ⟨k.1, k.2.1, k.2.2.1, fun j hj => ?_, k.2.2.2.2⟩
  by_cases e : j = 0
  · rw [e, pk_us]
    rfl
  · rw [pk_un e, k.2.2.2.1 j hj]
    unfold rt_t
    rw [if_neg e, if_neg e]
theorem rt_Kt2 (k : rt_K ρ p q x b a1 a2 a3 a4 a5 a6) (q' : Nat) : rt_K ρ p q' x b a1 a2 (upd a3 2 (rt_w q')) a4 a5 a6 := by
  refine ⟨k.1, k.2.1, k.2.2.1, fun j hj => ?_, k.2.2.2.2⟩
  by_cases e : j = 2
  · rw [e, pk_us]
    rfl
  · rw [pk_un e, k.2.2.2.1 j hj]
    unfold rt_t
    rw [if_neg e, if_neg e]
theorem rt_Kv (k : rt_K ρ p q x b a1 a2 a3 a4 a5 a6) (m : Nat) : rt_K ρ p q x b a1 a2 a3 a4 (upd a5 m 0) a6 := by
  refine ⟨k.1, k.2.1, k.2.2.1, k.2.2.2.1, k.2.2.2.2.1, fun j hj => ?_, k.2.2.2.2.2.2⟩
  by_cases e : j = m
  · rw [e, pk_us]
  · rw [pk_un e]
    exact k.2.2.2.2.2.1 j hj
theorem rt_Kx (k : rt_K ρ p q x b a1 a2 a3 a4 a5 a6) {y : Nat} {a4' a6' : Nat → Int32} (h4 : ∀ j, j < 120 → a4' j = rt_r b y j) (h6 : ∀ j, j < 120 → a6' j = rt_h b y j) : rt_K ρ p q y b a1 a2 a3 a4' a5 a6' :=
  ⟨k.1, k.2.1, k.2.2.1, k.2.2.2.1, h4, k.2.2.2.2.2.1, h6⟩
theorem rt_K30 (k : rt_K ρ p q x b a1 a2 a3 a4 a5 a6) : a3 0 = rt_w p := k.2.2.2.1 0 (by omega)
theorem rt_K31 (k : rt_K ρ p q x b a1 a2 a3 a4 a5 a6) : a3 1 = 0 := k.2.2.2.1 1 (by omega)
theorem rt_K32 (k : rt_K ρ p q x b a1 a2 a3 a4 a5 a6) : a3 2 = rt_w q := k.2.2.2.1 2 (by omega)
theorem rt_K4 (k : rt_K ρ p q x b a1 a2 a3 a4 a5 a6) (hb : b < 20) : a4 (100 + b) = rt_f x := by
  rw [k.2.2.2.2.1 _ (by omega), rt_rb]
theorem rt_K4n (k : rt_K ρ p q x b a1 a2 a3 a4 a5 a6) {j : Nat} (hj : j < 120) (h : j ≠ 100 + b) : a4 j = -1 := by
  rw [k.2.2.2.2.1 _ hj, rt_rn h]
theorem rt_K6 (k : rt_K ρ p q x b a1 a2 a3 a4 a5 a6) {i : Nat} (hi : i < 20) : a6 (100 + i) = rt_w (if i = x then b else 20) := by
  rw [k.2.2.2.2.2.2 _ (by omega), rt_hw]
end
end
section
/-! the small methods -/
theorem rt_isT {post : Int32 → Prop} {z : Int32} (t : Nat) (H : post 1) (ht : t < 3 := by omega) (e : z = nI t := by rfl) : wpX_isTable post () z := by
  subst e
  exact pk_lt t 0 (fun h => absurd h (by omega)) (fun _ => pk_le 3 t (fun h => absurd h (by omega)) (fun _ => H))
theorem rt_isC {post : Int32 → Prop} (H : post 1) : wpX_isColumn post () 1 := br_f (by decide) (br_t rfl H)
theorem rt_isK {post : Int32 → Prop} {k : Nat} (hk : k < 20) (H : post 1) : wpX_isKey post () (nI k) :=
  pk_lt k 0 (fun h => absurd h (by omega)) (fun _ => pk_le 20 k (fun h => absurd h (by omega)) (fun _ => H))
theorem rt_ones {post : Int32 → Prop} {z : Int32} (k : Nat) (hk : k < 21) (e : z = rt_w k) (H : post (nI (rt_c k))) : wpX_ones post () z := by
  subst e
  by_cases h : k < 20
  · have hc : rt_c k = 1 := if_pos h
    rw [hc] at H
    exact ⟨0 + 1 + 1, br_f (by decide) (br_f (rt_wne k h) (nm_r (rt_wdec k h) (nm_e (nm_e (br_f (by decide) (br_t rfl H))))))⟩
  · have hc : rt_c k = 0 := if_neg h
    have hw : rt_w k = 0 := if_neg h
    rw [hc] at H
    exact ⟨0 + 1, br_f (by decide) (br_t hw H)⟩
section
variable {o mk : Int32} {a1 a2 a3 a4 a5 a6 a7 a8 : Nat → Int32}
theorem rt_has1 {post : Int32 → Prop} {z : Int32} (t : Nat) {k : Nat} (hk : k < 20) (e : a3 t = rt_w k) (H : post 1) (ht : t < 3 := by omega) (ez : z = nI t := by rfl) : wpX_hasRow post (o, mk, a1, a2, a3, a4, a5, a6, a7, a8) z (nI k) := by
  subst ez
  unfold wpX_hasRow
  exact rt_isK hk (br_f (by decide) ⟨vp_in_nI ht (by omega), br_t (by rw [nI_clamp (by omega), e]; exact rt_b1 (by omega) hk rfl) H⟩)
theorem rt_has0 {post : Int32 → Prop} {z : Int32} (t : Nat) {k l : Nat} (hk : k < 20) (hl : l < 21) (hn : k ≠ l) (e : a3 t = rt_w l) (H : post 0) (ht : t < 3 := by omega) (ez : z = nI t := by rfl) : wpX_hasRow post (o, mk, a1, a2, a3, a4, a5, a6, a7, a8) z (nI k) := by
  subst ez
  unfold wpX_hasRow
  exact rt_isK hk (br_f (by decide) ⟨vp_in_nI ht (by omega), br_f (by rw [nI_clamp (by omega), e]; exact rt_b1n hl hk hn) H⟩)
theorem rt_insert {post : Int32 → St2 → Prop} {z : Int32} (t : Nat) {k : Nat} (hk : k < 20) (e : a3 t = rt_w 20) (H : post 1 (o, mk, a1, a2, upd a3 t (rt_w k), a4, a5, a6, a7, a8)) (ht : t < 3 := by omega) (ez : z = nI t := by rfl) : wpX_insert post (o, mk, a1, a2, a3, a4, a5, a6, a7, a8) z (nI k) := by
  subst ez
  unfold wpX_insert
  refine rt_isT t (br_f (by decide) (rt_isK hk (br_f (by decide) (rt_has0 t hk (by omega) (by omega) e (br_t rfl ⟨vp_in_nI ht (by omega), rt_ones 20 (by omega) (by rw [nI_clamp (by omega), e]) (br_t (by decide) ⟨vp_in_nI ht (by omega), vp_in_nI ht (by omega), nm_r ?_ H⟩)⟩)))))
  refine rt_up t (by omega) rfl ?_
  rw [nI_clamp (by omega), e, rt_wp hk]
  exact rt_0or k (by omega)
theorem rt_rows {post : Int32 → Prop} {z : Int32} (t : Nat) {k : Nat} (hk : k < 21) (e : a3 t = rt_w k) (H : post (nI (rt_c k))) (ht : t < 3 := by omega) (ez : z = nI t := by rfl) : wpX_rows post (o, mk, a1, a2, a3, a4, a5, a6, a7, a8) z := by
  subst ez
  unfold wpX_rows
  exact rt_isT t (br_f (by decide) ⟨vp_in_nI ht (by omega), rt_ones k hk (by rw [nI_clamp (by omega), e]) H⟩)
/-! setRef -/
theorem rt_setN {post : Int32 → St2 → Prop} {c k v : Int32} (m : Nat) (hm : m < 120) (hx : 20 * c + k = nI m) (h : a4 m = v) (H : post 0 (o, mk, a1, a2, a3, a4, a5, a6, a7, a8)) : wpX_setRef post (o, mk, a1, a2, a3, a4, a5, a6, a7, a8) c k v := by
  unfold wpX_setRef
  exact nm_r hx ⟨vp_in_nI hm (by omega), nm_r (rt_at m (by omega) rfl) (br_t h H)⟩
theorem rt_set50 {post : Int32 → St2 → Prop} {b y : Nat} (hb : b < 20) (hy : y < 21) (h6 : ∀ j, j < 120 → a6 j = 0)
    (H : ∀ a6', (∀ j, j < 120 → a6' j = rt_h b y j) → post 1 (o, mk, a1, a2, a3, upd a4 (100 + b) (rt_f y), a5, a6', a7, a8)) :
    wX_setRef_50 post 5 (nI b) (rt_f y) (nI (100 + b)) o mk a1 a2 a3 a4 a5 a6 a7 a8 := by
  unfold wX_setRef_50
  by_cases h : y < 20
  · have ei : 20 * 5 + rt_f y = nI (100 + y) := by rw [rt_fp h]; exact rt_ix 5 y
    refine br_f (rt_fge y h) ⟨pk_in (100 + y) 120 (by omega) ei, pk_in (100 + y) 120 (by omega) ei, nm_r (rt_up (w := rt_w b) (100 + y) (by omega) ei ?_) ⟨vp_in_nI (by omega) (by omega), nm_r (rt_up (100 + b) (by omega) rfl rfl) (H _ ?_)⟩⟩
    · rw [rt_at (f := a6) (100 + y) (by omega) ei, h6 _ (by omega), rt_wp hb]
      exact rt_0or b (by omega)
    · intro j hj
      unfold rt_h
      by_cases e : j = 100 + y
      · rw [e, pk_us, if_pos rfl]
      · rw [pk_un e, if_neg e, h6 j hj]
  · have ey : y = 20 := by omega
    subst ey
    refine br_t (by decide) ⟨vp_in_nI (by omega) (by omega), nm_r (rt_up (100 + b) (by omega) rfl rfl) (H _ ?_)⟩
    intro j hj
    unfold rt_h
    rw [if_neg (by omega), h6 j hj]
end
section
variable {o mk ρ : Int32} {p q x b : Nat} {a1 a2 a3 a4 a5 a6 a7 a8 : Nat → Int32}
/-- the one reference of the picture is set -/
theorem rt_set {post : Int32 → St2 → Prop} (k : rt_K ρ p q x b a1 a2 a3 a4 a5 a6) (hb : b < 20) (hx : x < 21) {y : Nat} (hy : y < 21) {c v : Int32} (hc : c = 5) (hv : v = rt_f y)
    (H : ∀ r a4' a6', rt_K ρ p q y b a1 a2 a3 a4' a5 a6' → post r (o, mk, a1, a2, a3, a4', a5, a6', a7, a8)) :
    wpX_setRef post (o, mk, a1, a2, a3, a4, a5, a6, a7, a8) c (nI b) v := by
  subst hc
  subst hv
  have h4 := rt_K4 k hb
  by_cases e : x = y
  · subst e
    exact rt_setN (100 + b) (by omega) (rt_ix 5 b) h4 (H _ _ _ k)
  · have hu : ∀ j, j < 120 → upd a4 (100 + b) (rt_f y) j = rt_r b y j := by
      intro j hj
      by_cases e : j = 100 + b
      · rw [e, pk_us, rt_rb]
      · rw [pk_un e, rt_rn e, rt_K4n k hj e]
    have Q : ∀ a6', (∀ j, j < 120 → a6' j = rt_h b y j) → post 1 (o, mk, a1, a2, a3, upd a4 (100 + b) (rt_f y), a5, a6', a7, a8) := fun a6' h6 => H _ _ _ (rt_Kx k hu h6)
    unfold wpX_setRef
    refine nm_r (rt_ix 5 b) ⟨vp_in_nI (by omega) (by omega), nm_r (e' := rt_f x) ((rt_at (100 + b) (by omega) rfl).trans h4) (br_f (rt_fne x hx y hy e) ?_)⟩
    by_cases h : x < 20
    · have ei : 20 * 5 + rt_f x = nI (100 + x) := by rw [rt_fp h]; exact rt_ix 5 x
      refine br_f (rt_fge x h) ⟨pk_in (100 + x) 120 (by omega) ei, pk_in (100 + x) 120 (by omega) ei, nm_r (rt_up (w := 0) (100 + x) (by omega) ei ?_) (rt_set50 hb hy ?_ Q)⟩
      · rw [rt_at (f := a6) (100 + x) (by omega) ei, rt_K6 k h, if_pos rfl, rt_wp hb]
        exact rt_wclr b hb
      · intro j hj
        by_cases e : j = 100 + x
        · rw [e, pk_us]
        · rw [pk_un e, k.2.2.2.2.2.2 j hj]
          exact if_neg e
    · have ex : x = 20 := by omega
      subst ex
      refine br_t (by decide) (rt_set50 hb hy (fun j hj => ?_) Q)
      rw [k.2.2.2.2.2.2 j hj]
      exact if_neg (by omega)
end
end
section
/-! making, linking, keeping, restoring -/
theorem rt_fill {f s : Nat → Int32} {i : Nat} {v : Int32} (h : ∀ j, j < i → s j = f j) (hv : v = f i) : ∀ j, j < i + 1 → upd s i v j = f j := by
  intro j hj
  by_cases e : j = i
  · rw [e, pk_us, hv]
  · rw [pk_un e]
    exact h j (by omega)
theorem rt_fillo {f s : Nat → Int32} {d i : Nat} {v : Int32} (h : ∀ j, j < i → s (d + j) = f j) (hv : v = f i) : ∀ j, j < i + 1 → upd s (d + i) v (d + j) = f j := by
  intro j hj
  by_cases e : j = i
  · rw [e, pk_us, hv]
  · rw [pk_un (by omega)]
    exact h j (by omega)
theorem rt_init {post : St2 → Prop} {mc ms : Nat} (h1 : 8 ≤ mc) (h2 : 1233 ≤ ms)
    (H : ∀ a2 a4 : Nat → Int32, (∀ j, j < 6 → a2 j = -1) → (∀ j, j < 120 → a4 j = -1) → post (0, 0, fun _ => 0, a2, fun _ => 0, a4, fun _ => 0, fun _ => 0, fun _ => 0, fun _ => 0)) :
    wpX_init post mc ms (0, 0) := by
  unfold wpX_init
  refine ⟨by omega, by omega, by omega, by omega, by omega, by omega, by omega, by omega, by omega, by omega, by omega, by omega, by omega, by omega, by omega, by omega, ?_⟩
  refine pk_loop (fun n i s => wX_init_69 post mc ms 8 1233 0 0 n (nI i) (fun _ => 0) s (fun _ => 0) (fun _ => 0) (fun _ => 0) (fun _ => 0) (fun _ => 0) (fun _ => 0)) (fun i s => ∀ j, j < i → s j = -1) 6 0 (fun _ => 0) (by omega) (fun j hj => absurd hj (by omega)) ?_ ?_
  · intro n s h
    refine pk_le 6 6 (fun _ => ?_) (fun z => absurd z (by omega))
    refine pk_loop (fun n i t => wX_init_90 post mc ms 8 1233 0 0 n (nI i) (fun _ => 0) s (fun _ => 0) t (fun _ => 0) (fun _ => 0) (fun _ => 0) (fun _ => 0)) (fun i s => ∀ j, j < i → s j = -1) 120 0 (fun _ => 0) (by omega) (fun j hj => absurd hj (by omega)) ?_ ?_
    · intro n t g
      exact pk_le 120 120 (fun _ => H s t h g) (fun z => absurd z (by omega))
    · intro n i t hi g hw
      exact pk_le 120 i (fun z => absurd z (by omega)) (fun _ => ⟨pk_in i 120 hi, nm_r (rt_up i (by omega) rfl rfl) (nm_r (nI_1 i) (hw _ (rt_fill (f := fun _ => -1) g rfl)))⟩)
  · intro n i s hi h hw
    exact pk_le 6 i (fun z => absurd z (by omega)) (fun _ => ⟨pk_in i 6 hi, nm_r (rt_up i (by omega) rfl rfl) (nm_r (nI_1 i) (hw _ (rt_fill (f := fun _ => -1) h rfl)))⟩)
section
variable {o mk : Int32} {a1 a2 a3 a4 a5 a6 a7 a8 : Nat → Int32}
theorem rt_rne : ∀ r, r < 4 → ¬ nI r = -1 ∧ ¬ nI r < -1 ∧ nI r ≤ 3 ∧ ¬ nI r < 0 := by decide +kernel
theorem rt_link {post : Int32 → St2 → Prop} {r : Nat} (hr : r < 4) (h6 : ∀ i, i < 20 → a6 (100 + i) = 0)
    (H : ∀ v, post v (0, mk, upd a1 5 0, upd a2 5 (nI r), a3, a4, a5, a6, a7, a8)) :
    wpX_link post (0, mk, a1, a2, a3, a4, a5, a6, a7, a8) 2 1 0 (nI r) := by
  obtain ⟨r1, r2, r3, _⟩ := rt_rne r hr
  unfold wpX_link
  refine rt_isT 2 (br_f (by decide) (br_f r1 (rt_isT 0 (br_f (by decide) ?_))))
  unfold wX_link_22
  refine rt_isC (br_f (by decide) (br_f r2 (br_t r3 (br_t rfl (nm_r (e' := 5) (by decide) ?_)))))
  refine pk_loop (σ := Unit) (fun n i _ => wX_link_67 post 0 (nI r) 5 0 mk a1 a2 a3 a4 a5 a6 a7 a8 n (nI i)) (fun _ _ => True) 20 0 () (by omega) trivial ?_ ?_
  · intro n _ _
    exact pk_le 20 20 (fun _ => ⟨pk_in 5 6 (by omega), nm_e ⟨pk_in 5 6 (by omega), nm_r (rt_up 5 (by omega) rfl rfl) (br_f r1 ⟨pk_in 5 6 (by omega), nm_r (rt_up 5 (by omega) rfl rfl) (H _)⟩)⟩⟩) (fun z => absurd z (by omega))
  · intro n i _ hi _ hw
    exact pk_le 20 i (fun z => absurd z (by omega)) (fun _ => ⟨pk_in (100 + i) 120 (by omega) (rt_ix 5 i), br_t ((rt_at (100 + i) (by omega) (rt_ix 5 i)).trans (h6 i hi)) (nm_r (nI_1 i) (hw () trivial))⟩)
theorem rt_e0 (i : Nat) : nI 732 + nI i = nI (732 + i) := nI_add 732 i
theorem rt_e3 (i : Nat) : nI 732 + 3 + nI i = nI (735 + i) := by
  rw [show nI 732 + 3 = nI 735 from by decide, nI_add]
theorem rt_e5 (i : Nat) : nI 732 + 123 + nI i = nI (855 + i) := by
  rw [show nI 732 + 123 = nI 855 from by decide, nI_add]
theorem rt_keep {post : St2 → Prop}
    (H : ∀ a7' : Nat → Int32, (∀ j, j < 3 → a7' (732 + j) = a3 j) → (∀ j, j < 120 → a7' (735 + j) = a4 j) → (∀ j, j < 60 → a7' (855 + j) = a5 j) → post (o, mk, a1, a2, a3, a4, a5, a6, a7', a8)) :
    wpX_keep post (o, mk, a1, a2, a3, a4, a5, a6, a7, a8) 4 := by
  unfold wpX_keep
  refine nm_r (e' := nI 732) (by decide) ?_
  refine pk_loop (fun n i s => wX_keep_8 post (nI 732) o mk n (nI i) a1 a2 a3 a4 a5 a6 s a8) (fun i s => ∀ j, j < i → s (732 + j) = a3 j) 3 0 a7 (by omega) (fun j hj => absurd hj (by omega)) ?_ ?_
  · intro n s h
    refine pk_le 3 3 (fun _ => ?_) (fun z => absurd z (by omega))
    refine pk_loop (fun n i s => wX_keep_35 post (nI 732) o mk n (nI i) a1 a2 a3 a4 a5 a6 s a8) (fun i s => (∀ j, j < 3 → s (732 + j) = a3 j) ∧ (∀ j, j < i → s (735 + j) = a4 j)) 120 0 s (by omega) ⟨h, fun j hj => absurd hj (by omega)⟩ ?_ ?_
    · intro n s h
      refine pk_le 120 120 (fun _ => ?_) (fun z => absurd z (by omega))
      refine pk_loop (fun n i s => wX_keep_65 post (nI 732) o mk n (nI i) a1 a2 a3 a4 a5 a6 s a8) (fun i s => (∀ j, j < 3 → s (732 + j) = a3 j) ∧ (∀ j, j < 120 → s (735 + j) = a4 j) ∧ (∀ j, j < i → s (855 + j) = a5 j)) 60 0 s (by omega) ⟨h.1, h.2, fun j hj => absurd hj (by omega)⟩ ?_ ?_
      · intro n s h
        exact pk_le 60 60 (fun _ => H s h.1 h.2.1 h.2.2) (fun z => absurd z (by omega))
      · intro n i s hi h hw
        refine pk_le 60 i (fun z => absurd z (by omega)) (fun _ => ⟨pk_in i 60 hi, pk_in (855 + i) 915 (by omega) (rt_e5 i), nm_r (rt_up (w := a5 i) (855 + i) (by omega) (rt_e5 i) (rt_at i (by omega) rfl)) (nm_r (nI_1 i) (hw _ ⟨fun j hj => ?_, fun j hj => ?_, rt_fillo h.2.2 rfl⟩))⟩)
        · rw [pk_un (by omega)]
          exact h.1 j hj
        · rw [pk_un (by omega)]
          exact h.2.1 j hj
    · intro n i s hi h hw
      refine pk_le 120 i (fun z => absurd z (by omega)) (fun _ => ⟨pk_in i 120 hi, pk_in (735 + i) 915 (by omega) (rt_e3 i), nm_r (rt_up (w := a4 i) (735 + i) (by omega) (rt_e3 i) (rt_at i (by omega) rfl)) (nm_r (nI_1 i) (hw _ ⟨fun j hj => ?_, rt_fillo h.2 rfl⟩))⟩)
      rw [pk_un (by omega)]
      exact h.1 j hj
  · intro n i s hi h hw
    exact pk_le 3 i (fun z => absurd z (by omega)) (fun _ => ⟨pk_in i 3 hi, pk_in (732 + i) 915 (by omega) (rt_e0 i), nm_r (rt_up (w := a3 i) (732 + i) (by omega) (rt_e0 i) (rt_at i (by omega) rfl)) (nm_r (nI_1 i) (hw _ (rt_fillo h rfl)))⟩)
theorem rt_restore {post : St2 → Prop} (h4 : ∀ j, j < 120 → a7 (735 + j) = a4 j)
    (H : ∀ a3' a5' : Nat → Int32, (∀ j, j < 3 → a3' j = a7 (732 + j)) → (∀ j, j < 60 → a5' j = a7 (855 + j)) → post (o, mk, a1, a2, a3', a4, a5', a6, a7, a8)) :
    wpX_restore post (o, mk, a1, a2, a3, a4, a5, a6, a7, a8) 4 := by
  unfold wpX_restore
  refine nm_r (e' := nI 732) (by decide) ?_
  refine pk_loop (fun n i s => wX_restore_8 post (nI 732) o mk n (nI i) a1 a2 s a4 a5 a6 a7 a8) (fun i s => ∀ j, j < i → s j = a7 (732 + j)) 3 0 a3 (by omega) (fun j hj => absurd hj (by omega)) ?_ ?_
  · intro n s h
    refine pk_le 3 3 (fun _ => ?_) (fun z => absurd z (by omega))
    refine pk_loop (σ := Unit) (fun n i _ => wX_restore_35 post (nI 732) n (nI i) o mk a1 a2 s a4 a5 a6 a7 a8) (fun _ _ => True) 120 0 () (by omega) trivial ?_ ?_
    · intro n _ _
      refine pk_le 120 120 (fun _ => ?_) (fun z => absurd z (by omega))
      refine pk_loop (fun n i t => wX_restore_72 post (nI 732) o mk n (nI i) a1 a2 s a4 t a6 a7 a8) (fun i t => ∀ j, j < i → t j = a7 (855 + j)) 60 0 a5 (by omega) (fun j hj => absurd hj (by omega)) ?_ ?_
      · intro n t g
        exact pk_le 60 60 (fun _ => H s t h g) (fun z => absurd z (by omega))
      · intro n i t hi g hw
        exact pk_le 60 i (fun z => absurd z (by omega)) (fun _ => ⟨pk_in (855 + i) 915 (by omega) (rt_e5 i), pk_in i 60 hi, nm_r (rt_up (w := a7 (855 + i)) i (by omega) rfl (rt_at (855 + i) (by omega) (rt_e5 i))) (nm_r (nI_1 i) (hw _ (rt_fill (f := fun j => a7 (855 + j)) g rfl)))⟩)
    · intro n i _ hi _ hw
      refine pk_le 120 i (fun z => absurd z (by omega)) (fun _ => ⟨by decide, by decide, pk_in (735 + i) 915 (by omega) (rt_e3 i), rt_setN i hi ?_ ?_ (nm_r (nI_1 i) (hw () trivial))⟩)
      · have e1 : nI i / 20 = nI (i / 20) := pk_div (d := 20) (by omega) (by omega) (by omega)
        have e2 : nI i - nI i / 20 * 20 = nI (i % 20) := pk_rem (d := 20) (by omega) (by omega) (by omega)
        rw [e2, e1, rt_ix]
        exact congrArg nI (by omega)
      · exact ((rt_at (735 + i) (by omega) (rt_e3 i)).trans (h4 i hi)).symm
  · intro n i s hi h hw
    exact pk_le 3 i (fun z => absurd z (by omega)) (fun _ => ⟨pk_in (732 + i) 915 (by omega) (rt_e0 i), pk_in i 3 hi, nm_r (rt_up (w := a7 (732 + i)) i (by omega) rfl (rt_at (732 + i) (by omega) (rt_e0 i))) (nm_r (nI_1 i) (hw _ (rt_fill (f := fun j => a7 (732 + j)) h rfl)))⟩)
end
end
section
/-! references to nothing; settling -/
theorem rt_nlm : ∀ a, a < 20 → ¬ nI a < -1 := by decide +kernel
def rt_d (p x i : Nat) : Nat := if x < i ∧ x ≠ p then 1 else 0
theorem rt_d0 (p x : Nat) : 0 = rt_d p x 0 := (if_neg (fun h => absurd h.1 (by omega))).symm
theorem rt_d1 {p x i : Nat} (h : i = p) : rt_d p x (i + 1) = rt_d p x i := by
  unfold rt_d
  by_cases e : x < i ∧ x ≠ p
  · rw [if_pos e, if_pos (by omega)]
  · rw [if_neg e, if_neg (by omega)]
theorem rt_d2 {p x i b : Nat} (hb : b < 20) (h : i ≠ p) : rt_d p x (i + 1) = rt_d p x i + rt_c (if i = x then b else 20) := by
  by_cases e : i = x
  · rw [if_pos e]
    unfold rt_d rt_c
    rw [if_pos hb, if_pos (by omega), if_neg (by omega)]
  · rw [if_neg e]
    unfold rt_d rt_c
    rw [if_neg (show ¬ 20 < 20 by omega)]
    by_cases e2 : x < i ∧ x ≠ p
    · rw [if_pos e2, if_pos (by omega)]
    · rw [if_neg e2, if_neg (by omega)]
theorem rt_dz {p x : Nat} (h : x = p ∨ x = 20) : rt_d p x 20 = 0 := if_neg (by omega)
theorem rt_dn {p x : Nat} (h : x ≠ p) (hx : x < 20) : rt_d p x 20 = 1 := if_pos ⟨hx, h⟩
section
variable {o mk ρ : Int32} {r p q x b : Nat} {a1 a2 a3 a4 a5 a6 a7 a8 : Nat → Int32}
theorem rt_dangIn {post : Int32 → Prop} (k : rt_K ρ p q x b a1 a2 a3 a4 a5 a6) (hb : b < 20) (hp : p < 21) (H : post (nI (rt_d p x 20))) :
    wpX_danglingIn post (o, mk, a1, a2, a3, a4, a5, a6, a7, a8) 5 := by
  unfold wpX_danglingIn
  have e1 : a1 (5 : Int32).toNatClampNeg = 0 := k.1 5 (by omega)
  have e3 : a3 (a1 (5 : Int32).toNatClampNeg).toNatClampNeg = rt_w p := (rt_at 0 (by omega) e1).trans (rt_K30 k)
  refine pk_loop (fun n i s => wX_danglingIn_4 post 5 o mk a1 a2 a3 a4 a5 a6 a7 a8 n (nI s) (nI i)) (fun i s => s = rt_d p x i) 20 0 0 (by omega) (rt_d0 p x) ?_ ?_
  · intro n s h
    subst h
    exact pk_le 20 20 (fun _ => H) (fun z => absurd z (by omega))
  · intro n i s hi h hw
    refine pk_le 20 i (fun z => absurd z (by omega)) (fun _ => ⟨pk_in 5 6 (by omega), pk_in 0 3 (by omega) e1, ?_⟩)
    by_cases e : i = p
    · exact br_f (by rw [e3]; exact rt_b0n hp hi e) (nm_r (nI_1 i) (hw s (h.trans (rt_d1 e).symm)))
    · refine br_t (by rw [e3]; exact rt_b0 hp hi e) ⟨pk_in (100 + i) 120 (by omega) (rt_ix 5 i), rt_ones (if i = x then b else 20) ?_ ?_ (nm_r (nI_add s _) (nm_r (nI_1 i) (hw _ ?_)))⟩
      · split
        · omega
        · omega
      · exact (rt_at (100 + i) (by omega) (rt_ix 5 i)).trans (rt_K6 k hi)
      · rw [h, rt_d2 hb e]
theorem rt_sound {post : Int32 → Prop} (k : rt_K (nI r) p q x b a1 a2 a3 a4 a5 a6) (hr : r < 4) (hb : b < 20) (hp : p < 21) (H : post (if rt_d p x 20 = 0 then 1 else 0)) :
    wpX_isSound post (o, mk, a1, a2, a3, a4, a5, a6, a7, a8) 1 := by
  obtain ⟨r1, r2, r3, r4⟩ := rt_rne r hr
  unfold wpX_isSound
  refine rt_skip (fun n c => wX_isSound_2 post 1 o mk a1 a2 a3 a4 a5 a6 a7 a8 n (nI c)) ?_ ?_
  · intro n c hc h
    refine pk_le 6 c (fun z => absurd z (by omega)) (fun _ => ⟨pk_in c 6 (by omega), br_t ?_ (br_t rfl (nm_r (nI_1 c) h))⟩)
    rw [rt_at (f := a2) c (by omega) rfl, k.2.1 c hc]
    decide
  · intro n
    have G : wX_isSound_31 post (wX_isSound_2 post 1 o mk a1 a2 a3 a4 a5 a6 a7 a8 (n + 1)) 1 (nI 5) o mk a1 a2 a3 a4 a5 a6 a7 a8 := by
      refine br_f (by decide) (rt_dangIn k hb hp ?_)
      have h1 : rt_d p x 20 < 2 := by
        unfold rt_d
        split
        · omega
        · omega
      refine pk_le (rt_d p x 20) 0 (fun z => nm_r (nI_1 5) (pk_le 6 6 (fun _ => ?_) (fun z => absurd z (by omega)))) (fun z => ?_)
      · rw [if_pos (by omega)] at H
        exact H
      · rw [if_neg (by omega)] at H
        exact H
    refine pk_le 6 5 (fun z => absurd z (by omega)) (fun _ => ⟨pk_in 5 6 (by omega), br_f ?_ ⟨pk_in 5 6 (by omega), br_c (fun _ => br_f (by decide) G) (fun _ => G)⟩⟩)
    rw [rt_at (f := a2) 5 (by omega) rfl, k.2.2.1]
    exact r4
theorem rt_settle1 {post : Int32 → St2 → Prop} {v : Int32} (k : rt_K (nI r) p q x b a1 a2 a3 a4 a5 a6) (hr : r < 4) (hb : b < 20) (hp : p < 21) (hd : x = p ∨ x = 20)
    (H : post v (0, mk, a1, a2, a3, a4, a5, a6, a7, a8)) : wpX_settle post (0, mk, a1, a2, a3, a4, a5, a6, a7, a8) v := by
  unfold wpX_settle
  refine br_t rfl ?_
  unfold wX_settle_13
  refine rt_sound k hr hb hp ?_
  rw [if_pos (rt_dz hd)]
  exact br_f (by decide) H
theorem rt_settle0 {post : Int32 → St2 → Prop} {v : Int32} (k : rt_K (nI r) p q x b a1 a2 a3 a4 a5 a6) (hr : r < 4) (hb : b < 20) (hp : p < 21) (hd : x ≠ p) (hx : x < 20) {p' q' : Nat} (P : rt_P p' q' x b a7)
    (H : ∀ a3' a5', rt_K (nI r) p' q' x b a1 a2 a3' a4 a5' a6 → post (-9) (0, mk, a1, a2, a3', a4, a5', a6, a7, a8)) : wpX_settle post (0, mk, a1, a2, a3, a4, a5, a6, a7, a8) v := by
  unfold wpX_settle
  refine br_t rfl ?_
  unfold wX_settle_13
  refine rt_sound k hr hb hp ?_
  rw [if_neg (by rw [rt_dn hd hx]; decide)]
  refine br_t rfl (rt_restore (fun j hj => ?_) (fun a3' a5' h3 h5 => H a3' a5' ⟨k.1, k.2.1, k.2.2.1, fun j hj => ?_, k.2.2.2.2.1, fun j hj => ?_, k.2.2.2.2.2.2⟩))
  · rw [P.2.1 j hj, k.2.2.2.2.1 j hj]
  · rw [h3 j hj, P.1 j hj]
  · rw [h5 j hj, P.2.2 j hj]
theorem rt_keepK {post : St2 → Prop} (k : rt_K ρ p q x b a1 a2 a3 a4 a5 a6) (H : ∀ a7' : Nat → Int32, rt_P p q x b a7' → post (o, mk, a1, a2, a3, a4, a5, a6, a7', a8)) :
    wpX_keep post (o, mk, a1, a2, a3, a4, a5, a6, a7, a8) 4 := by
  refine rt_keep (fun a7' h3 h4 h5 => H a7' ⟨fun j hj => ?_, fun j hj => ?_, fun j hj => ?_⟩)
  · rw [h3 j hj, k.2.2.2.1 j hj]
  · rw [h4 j hj, k.2.2.2.2.1 j hj]
  · rw [h5 j hj, k.2.2.2.2.2.1 j hj]
theorem rt_refer {post : Int32 → St2 → Prop} {a : Nat} (k : rt_K (nI r) a b 20 b a1 a2 a3 a4 a5 a6) (hr : r < 4) (ha : a < 20) (hb : b < 20)
    (H : ∀ a4' a6' a7', rt_K (nI r) a b a b a1 a2 a3 a4' a5 a6' → post (-1) (0, mk, a1, a2, a3, a4', a5, a6', a7', a8)) :
    wpX_refer post (0, mk, a1, a2, a3, a4, a5, a6, a7, a8) 2 (nI b) 1 (nI a) := by
  unfold wpX_refer
  refine rt_isT 2 (br_f (by decide) (rt_has1 2 hb (rt_K32 k) (br_f (by decide) (rt_isC (br_f (by decide) (br_f (rt_nlm a ha) (br_t (nI_lt (b := 20) ha (by decide)) ?_)))))))
  refine rt_keepK k (fun a7' P => nm_r (e' := 5) (by decide) ⟨pk_in (100 + b) 120 (by omega) (rt_ix 5 b), nm_r (e' := -1) ?_ ?_⟩)
  · exact (rt_at (100 + b) (by omega) (rt_ix 5 b)).trans (rt_K4 k hb)
  · exact rt_set k hb (by omega) (y := a) (by omega) rfl (rt_fp ha).symm (fun v a4' a6' k' => rt_settle1 k' hr hb (by omega) (Or.inl rfl) (H a4' a6' a7' k'))
end
end
section
/-! holders, spreading, turning, dropping, moving -/
section
variable {o mk ρ : Int32} {r p q x b a : Nat} {a1 a2 a3 a4 a5 a6 a7 a8 : Nat → Int32}
theorem rt_holders {post : Int32 → Prop} (k : rt_K ρ p q a b a1 a2 a3 a4 a5 a6) (ha : a < 20) (hb : b < 20) {c z : Int32} (hc : c = 5) (hz : z = rt_w a) (H : post (rt_w b)) :
    wpX_holdersOf post (o, mk, a1, a2, a3, a4, a5, a6, a7, a8) c z := by
  subst hc
  subst hz
  unfold wpX_holdersOf
  refine pk_loop (fun n i v => wX_holdersOf_5 post 5 (rt_w a) o mk a1 a2 a3 a4 a5 a6 a7 a8 n v (nI i)) (fun i v => v = rt_w (if a < i then b else 20)) 20 0 0 (by omega) rfl ?_ ?_
  · intro n v h
    rw [if_pos ha] at h
    subst h
    exact pk_le 20 20 (fun _ => H) (fun z => absurd z (by omega))
  · intro n i v hi h hw
    refine pk_le 20 i (fun z => absurd z (by omega)) (fun _ => ?_)
    by_cases e : i = a
    · refine br_t (rt_b1 (by omega) hi e) ⟨pk_in (100 + i) 120 (by omega) (rt_ix 5 i), nm_r (e' := rt_w b) ?_ (nm_r (nI_1 i) (hw _ ?_))⟩
      · have e6 : a6 (20 * 5 + nI i).toNatClampNeg = rt_w (if i = a then b else 20) := (rt_at (100 + i) (by omega) (rt_ix 5 i)).trans (rt_K6 k hi)
        rw [e6, if_pos e, h, if_neg (by omega)]
        exact rt_0or b (by omega)
      · rw [if_pos (by omega)]
    · refine br_f (rt_b1n (by omega) hi e) (nm_r (e' := v) ?_ (nm_r (nI_1 i) (hw _ ?_)))
      · rw [h]
        refine rt_or0 _ ?_
        split
        · omega
        · omega
      · rw [h]
        by_cases e2 : a < i
        · rw [if_pos e2, if_pos (by omega)]
        · rw [if_neg e2, if_neg (by omega)]
/-- what goes -/
def rt_G (a g : Nat) (a8 : Nat → Int32) : Prop := ∀ j, j < 3 → a8 j = rt_t a g j
theorem rt_G2 {g g' : Nat} (h : rt_G a g a8) : rt_G a g' (upd a8 2 (rt_w g')) := by
  intro j hj
  by_cases e : j = 2
  · rw [e, pk_us]
    rfl
  · rw [pk_un e, h j hj]
    unfold rt_t
    rw [if_neg e, if_neg e]
theorem rt_sp146 {post : Int32 → St2 → Prop} (k : rt_K (nI r) p q a b a1 a2 a3 a4 a5 a6) (hr : r < 4) (ha : a < 20) (hb : b < 20) {g : Nat} (h8 : rt_G a g a8) (hg : r = 0 → g = 20)
    (H : post (if r = 0 then 0 else 1) (o, mk, a1, a2, a3, a4, a5, a6, a7, a8)) : ∃ n, wX_spread_146 post o mk a1 a2 a3 a4 a5 a6 a7 a8 n 0 := by
  refine rt_skip (fun n c => wX_spread_146 post o mk a1 a2 a3 a4 a5 a6 a7 a8 n (nI c)) ?_ ?_
  · intro n c hc h
    refine pk_le 6 c (fun z => absurd z (by omega)) (fun _ => ⟨pk_in c 6 (by omega), br_f ?_ (nm_r (nI_1 c) h)⟩)
    rw [rt_at (f := a2) c (by omega) rfl, k.2.1 c hc]
    decide
  · intro n
    have e2 : a2 (nI 5).toNatClampNeg = nI r := (rt_at 5 (by omega) rfl).trans k.2.2.1
    have e1 : a1 (nI 5).toNatClampNeg = 0 := (rt_at 5 (by omega) rfl).trans (k.1 5 (by omega))
    refine pk_le 6 5 (fun z => absurd z (by omega)) (fun _ => ⟨pk_in 5 6 (by omega), pk_eq r 0 (fun hz => ?_) (fun hz => ?_) e2⟩)
    · rw [if_pos hz] at H
      refine ⟨pk_in 5 6 (by omega), pk_in 0 3 (by omega) e1, rt_holders k ha hb rfl ?_ ⟨by decide, pk_in 2 3 (by omega) (by decide), nm_r (e' := rt_w b) ?_ (br_f (rt_wne b hb) H)⟩⟩
      · exact (rt_at 0 (by omega) e1).trans (h8 0 (by omega))
      · rw [rt_at (f := a8) 2 (by omega) (by decide), h8 2 (by omega), hg hz]
        exact rt_wall b (by omega)
    · rw [if_neg hz] at H
      exact nm_r (nI_1 5) (pk_le 6 6 (fun _ => H) (fun z => absurd z (by omega)))
theorem rt_sp52n {post : Int32 → St2 → Prop} {J : Int32 → Int32 → (Nat → Int32) → (Nat → Int32) → (Nat → Int32) → (Nat → Int32) → (Nat → Int32) → (Nat → Int32) → (Nat → Int32) → (Nat → Int32) → Prop} {x4 : Int32}
    (k : rt_K (nI r) p q a b a1 a2 a3 a4 a5 a6) (hr : r < 4) (h1 : r ≠ 1) (H : J 0 (x4 + 1) a1 a2 a3 a4 a5 a6 a7 a8) : ∃ n, wX_spread_52 post J x4 o mk n 0 0 a1 a2 a3 a4 a5 a6 a7 a8 := by
  refine rt_skip (fun n c => wX_spread_52 post J x4 o mk n 0 (nI c) a1 a2 a3 a4 a5 a6 a7 a8) ?_ ?_
  · intro n c hc h
    refine pk_le 6 c (fun z => absurd z (by omega)) (fun _ => ⟨pk_in c 6 (by omega), br_f ?_ (nm_r (nI_1 c) h)⟩)
    rw [rt_at (f := a2) c (by omega) rfl, k.2.1 c hc]
    decide
  · intro n
    have e2 : a2 (nI 5).toNatClampNeg = nI r := (rt_at 5 (by omega) rfl).trans k.2.2.1
    exact pk_le 6 5 (fun z => absurd z (by omega)) (fun _ => ⟨pk_in 5 6 (by omega), pk_eq r 1 (fun hz => absurd hz h1) (fun hz => nm_r (nI_1 5) (pk_le 6 6 (fun _ => nm_e H) (fun z => absurd z (by omega)))) e2⟩)
theorem rt_sp52y {post : Int32 → St2 → Prop} {J : Int32 → Int32 → (Nat → Int32) → (Nat → Int32) → (Nat → Int32) → (Nat → Int32) → (Nat → Int32) → (Nat → Int32) → (Nat → Int32) → (Nat → Int32) → Prop} {x4 : Int32}
    (k : rt_K (nI 1) p q a b a1 a2 a3 a4 a5 a6) (ha : a < 20) (hb : b < 20) {g : Nat} (hg : g = 20 ∨ g = b) (h8 : rt_G a g a8)
    (H : ∀ a8', rt_G a b a8' → J (if g = 20 then 1 else 0) (x4 + 1) a1 a2 a3 a4 a5 a6 a7 a8') : ∃ n, wX_spread_52 post J x4 o mk n 0 0 a1 a2 a3 a4 a5 a6 a7 a8 := by
  refine rt_skip (fun n c => wX_spread_52 post J x4 o mk n 0 (nI c) a1 a2 a3 a4 a5 a6 a7 a8) ?_ ?_
  · intro n c hc h
    refine pk_le 6 c (fun z => absurd z (by omega)) (fun _ => ⟨pk_in c 6 (by omega), br_f ?_ (nm_r (nI_1 c) h)⟩)
    rw [rt_at (f := a2) c (by omega) rfl, k.2.1 c hc]
    decide
  · intro n
    have e2 : a2 (nI 5).toNatClampNeg = nI 1 := (rt_at 5 (by omega) rfl).trans k.2.2.1
    have e1 : a1 (nI 5).toNatClampNeg = 0 := (rt_at 5 (by omega) rfl).trans (k.1 5 (by omega))
    have e8 : a8 (nI 5 / 2).toNatClampNeg = rt_w g := (rt_at 2 (by omega) (by decide)).trans (h8 2 (by omega))
    refine pk_le 6 5 (fun z => absurd z (by omega)) (fun _ => ⟨pk_in 5 6 (by omega), br_t e2 ⟨pk_in 5 6 (by omega), pk_in 0 3 (by omega) e1, rt_holders k ha hb rfl ?_ ⟨by decide, pk_in 2 3 (by omega) (by decide), ?_⟩⟩⟩)
    · exact (rt_at 0 (by omega) e1).trans (h8 0 (by omega))
    · rcases hg with hg | hg
      · rw [if_pos hg] at H
        refine nm_r (e' := rt_w b) ?_ ⟨by decide, pk_in 2 3 (by omega) (by decide), pk_in 2 3 (by omega) (by decide), nm_r (rt_up (w := rt_w b) 2 (by omega) (by decide) ?_) (br_t rfl (br_f (rt_wne b hb) (nm_r (nI_1 5) (pk_le 6 6 (fun _ => nm_e (H _ (rt_G2 h8))) (fun z => absurd z (by omega))))))⟩
        · rw [e8, hg]
          exact rt_wall b (by omega)
        · rw [e8, hg]
          exact rt_0or b (by omega)
      · rw [if_neg (by omega)] at H
        refine nm_r (e' := 0) ?_ ⟨by decide, pk_in 2 3 (by omega) (by decide), pk_in 2 3 (by omega) (by decide), nm_r (rt_up (w := rt_w b) 2 (by omega) (by decide) ?_) (br_t rfl (br_t rfl (nm_r (nI_1 5) (pk_le 6 6 (fun _ => nm_e (H _ (rt_G2 h8))) (fun z => absurd z (by omega))))))⟩
        · rw [e8, hg]
          exact rt_wclr b hb
        · rw [e8, hg]
          exact rt_or0 b (by omega)
theorem rt_spread {post : Int32 → St2 → Prop} (k : rt_K (nI r) p q a b a1 a2 a3 a4 a5 a6) (hr : r < 4) (ha : a < 20) (hb : b < 20)
    (H : ∀ a8', rt_G a (if r = 1 then b else 20) a8' → post (if r = 0 then 0 else 1) (o, mk, a1, a2, a3, a4, a5, a6, a7, a8')) :
    wpX_spread post (o, mk, a1, a2, a3, a4, a5, a6, a7, a8) 0 (nI a) := by
  unfold wpX_spread
  refine pk_loop (fun n i s => wX_spread_2 post 0 (nI a) o mk n (nI i) a1 a2 a3 a4 a5 a6 a7 s) (fun i s => ∀ j, j < i → s j = rt_t a 20 j) 3 0 a8 (by omega) (fun j hj => absurd hj (by omega)) ?_ ?_
  · intro n s h
    refine pk_le 3 3 (fun _ => ?_) (fun z => absurd z (by omega))
    by_cases h1 : r = 1
    · subst h1
      refine ⟨0 + 1 + 1 + 1, br_f (by decide) (br_f (by decide) (rt_sp52y k ha hb (Or.inl rfl) h (fun s1 g1 => ?_)))⟩
      refine br_f (by decide) (br_f (by decide) (rt_sp52y k ha hb (Or.inr rfl) g1 (fun s2 g2 => ?_)))
      rw [if_neg (by omega)]
      exact br_f (by decide) (br_t rfl (rt_sp146 k hr ha hb g2 (fun z => absurd z (by omega)) (H s2 g2)))
    · rw [if_neg h1] at H
      exact ⟨0 + 1 + 1, br_f (by decide) (br_f (by decide) (rt_sp52n k hr h1 (br_f (by decide) (br_t rfl (rt_sp146 k hr ha hb h (fun _ => rfl) (H s h))))))⟩
  · intro n i s hi h hw
    refine pk_le 3 i (fun z => absurd z (by omega)) (fun _ => pk_eq i 0 (fun e => ⟨pk_in i 3 hi, nm_r (rt_up i (by omega) rfl (rt_wp ha)) (nm_r (nI_1 i) (hw _ (rt_fill h ?_)))⟩) (fun e => ⟨pk_in i 3 hi, nm_r (rt_up i (by omega) rfl rfl) (nm_r (nI_1 i) (hw _ (rt_fill h ?_)))⟩))
    · rw [e]
      rfl
    · unfold rt_t
      rw [if_neg e]
      split
      · rfl
      · rfl
theorem rt_clear {post : Int32 → St2 → Prop} (k : rt_K ρ p q a b a1 a2 a3 a4 a5 a6) (ha : a < 20) (hb : b < 20) {c z1 z2 : Int32} (hc : c = 5) (h1 : z1 = rt_w a) (h2 : z2 = 0)
    (H : ∀ v a4' a6', rt_K ρ p q 20 b a1 a2 a3 a4' a5 a6' → post v (o, mk, a1, a2, a3, a4', a5, a6', a7, a8)) :
    wpX_clearRefs post (o, mk, a1, a2, a3, a4, a5, a6, a7, a8) c z1 z2 := by
  subst hc
  subst h2
  unfold wpX_clearRefs
  refine rt_holders k ha hb rfl h1 (nm_r (rt_wall b (by omega)) ?_)
  refine pk_loop (fun n i s => wX_clearRefs_15 post 5 (rt_w b) n (nI i) o mk a1 a2 a3 s.1 a5 s.2 a7 a8) (fun i s => rt_K ρ p q (if b < i then 20 else a) b a1 a2 a3 s.1 a5 s.2) 20 0 (a4, a6) (by omega) ?_ ?_ ?_
  · rw [if_neg (by omega)]
    exact k
  · intro n s h
    rw [if_pos hb] at h
    exact pk_le 20 20 (fun _ => rt_ones b (by omega) rfl (H _ _ _ h)) (fun z => absurd z (by omega))
  · intro n i s hi h hw
    refine pk_le 20 i (fun z => absurd z (by omega)) (fun _ => ?_)
    by_cases e : i = b
    · subst e
      rw [if_neg (by omega)] at h
      refine br_t (rt_b1 (by omega) hi rfl) (rt_set h hi (by omega) (y := 20) (by omega) rfl rfl (fun v a4' a6' k' => nm_r (nI_1 i) (hw (a4', a6') ?_)))
      rw [if_pos (by omega)]
      exact k'
    · refine br_f (rt_b1n (by omega) hi e) (nm_r (nI_1 i) (hw s ?_))
      by_cases e2 : b < i
      · rw [if_pos e2] at h
        rw [if_pos (by omega)]
        exact h
      · rw [if_neg e2] at h
        rw [if_neg (by omega)]
        exact h
theorem rt_turn {post : Int32 → St2 → Prop} (k : rt_K ρ p q a b a1 a2 a3 a4 a5 a6) (ha : a < 20) (hb : b < 20) {y : Nat} (hy : y < 21) {c v : Int32} (hc : c = 5) (hv : v = rt_f y)
    (H : ∀ a4' a6', rt_K ρ p q y b a1 a2 a3 a4' a5 a6' → post 1 (o, mk, a1, a2, a3, a4', a5, a6', a7, a8)) :
    wpX_turnRefs post (o, mk, a1, a2, a3, a4, a5, a6, a7, a8) c (nI a) v := by
  subst hc
  subst hv
  unfold wpX_turnRefs
  refine ⟨pk_in (100 + a) 120 (by omega) (rt_ix 5 a), nm_r (e' := rt_w b) ?_ ?_⟩
  · have e6 : a6 (20 * 5 + nI a).toNatClampNeg = rt_w (if a = a then b else 20) := (rt_at (100 + a) (by omega) (rt_ix 5 a)).trans (rt_K6 k ha)
    rw [e6, if_pos rfl]
  refine pk_loop (fun n i s => wX_turnRefs_16 post 5 (rt_f y) (rt_w b) n (nI i) o mk a1 a2 a3 s.1 a5 s.2 a7 a8) (fun i s => rt_K ρ p q (if b < i then y else a) b a1 a2 a3 s.1 a5 s.2) 20 0 (a4, a6) (by omega) ?_ ?_ ?_
  · rw [if_neg (by omega)]
    exact k
  · intro n s h
    rw [if_pos hb] at h
    have hc : rt_c b = 1 := if_pos hb
    exact pk_le 20 20 (fun _ => rt_ones b (by omega) rfl (by rw [hc]; exact H _ _ h)) (fun z => absurd z (by omega))
  · intro n i s hi h hw
    refine pk_le 20 i (fun z => absurd z (by omega)) (fun _ => ?_)
    by_cases e : i = b
    · subst e
      rw [if_neg (by omega)] at h
      refine br_t (rt_b1 (by omega) hi rfl) (rt_set h hi (by omega) hy rfl rfl (fun v a4' a6' k' => nm_r (nI_1 i) (hw (a4', a6') ?_)))
      rw [if_pos (by omega)]
      exact k'
    · refine br_f (rt_b1n (by omega) hi e) (nm_r (nI_1 i) (hw s ?_))
      by_cases e2 : b < i
      · rw [if_pos e2] at h
        rw [if_pos (by omega)]
        exact h
      · rw [if_neg e2] at h
        rw [if_neg (by omega)]
        exact h
end
end
section
/-! dropping, moving, removing -/
section
variable {o mk ρ : Int32} {r p q x b a : Nat} {a1 a2 a3 a4 a5 a6 a7 a8 : Nat → Int32}
theorem rt_drop0 {post : St2 → Prop} (k : rt_K ρ a q x b a1 a2 a3 a4 a5 a6) (ha : a < 20) {z0 z1 : Int32} (e0 : z0 = nI 0) (e1 : z1 = nI a)
    (H : ∀ a3' a5', rt_K ρ 20 q x b a1 a2 a3' a4 a5' a6 → post (o, mk, a1, a2, a3', a4, a5', a6, a7, a8)) :
    wpX_dropRow post (o, mk, a1, a2, a3, a4, a5, a6, a7, a8) z0 z1 := by
  subst e0
  subst e1
  unfold wpX_dropRow
  refine rt_setN (20 * 0 + a) (by omega) (rt_iz 0 a (by decide)) (rt_K4n k (by omega) (by omega)) ?_
  refine rt_setN (20 * 1 + a) (by omega) (rt_iz 1 a (by decide)) (rt_K4n k (by omega) (by omega)) ?_
  refine ⟨pk_in (20 * 0 + a) 60 (by omega) (rt_ix 0 a), nm_r (rt_up (20 * 0 + a) (by omega) (rt_ix 0 a) rfl) ⟨pk_in 0 3 (by omega), pk_in 0 3 (by omega), nm_r (rt_up (w := rt_w 20) 0 (by omega) rfl ?_) (H _ _ (rt_Kv (rt_Kt0 k 20) _))⟩⟩
  rw [rt_at (f := a3) 0 (by omega) rfl, rt_K30 k, rt_wp ha]
  exact rt_wclr a ha
theorem rt_drop2 {post : St2 → Prop} (k : rt_K ρ p b x b a1 a2 a3 a4 a5 a6) (hb : b < 20) (hx : x < 21) {z0 z1 : Int32} (e0 : z0 = nI 2) (e1 : z1 = nI b)
    (H : ∀ a3' a4' a5' a6', rt_K ρ p 20 20 b a1 a2 a3' a4' a5' a6' → post (o, mk, a1, a2, a3', a4', a5', a6', a7, a8)) :
    wpX_dropRow post (o, mk, a1, a2, a3, a4, a5, a6, a7, a8) z0 z1 := by
  subst e0
  subst e1
  unfold wpX_dropRow
  refine rt_setN (20 * 4 + b) (by omega) (rt_iz 4 b (by decide)) (rt_K4n k (by omega) (by omega)) ?_
  refine rt_set k hb hx (y := 20) (by omega) (by decide) rfl (fun v a4' a6' k' => ?_)
  refine ⟨pk_in (20 * 2 + b) 60 (by omega) (rt_ix 2 b), nm_r (rt_up (20 * 2 + b) (by omega) (rt_ix 2 b) rfl) ⟨pk_in 2 3 (by omega), pk_in 2 3 (by omega), nm_r (rt_up (w := rt_w 20) 2 (by omega) rfl ?_) (H _ _ _ _ (rt_Kv (rt_Kt2 k' 20) _))⟩⟩
  rw [rt_at (f := a3) 2 (by omega) rfl, rt_K32 k, rt_wp hb]
  exact rt_wclr b hb
theorem rt_move {post : St2 → Prop} {l : Nat} (k : rt_K ρ a q x b a1 a2 a3 a4 a5 a6) (ha : a < 20) (hl : l < 20)
    (H : ∀ a3' a5', rt_K ρ l q x b a1 a2 a3' a4 a5' a6 → post (o, mk, a1, a2, a3', a4, a5', a6, a7, a8)) :
    wpX_moveRow post (o, mk, a1, a2, a3, a4, a5, a6, a7, a8) 0 (nI a) (nI l) := by
  have i0 : ∀ i, 20 * (2 * 0) + nI i = nI (20 * 0 + i) := fun i => rt_iz 0 i (by decide)
  have i1 : ∀ i, 20 * (2 * 0 + 1) + nI i = nI (20 * 1 + i) := fun i => rt_iz 1 i (by decide)
  have i2 : ∀ i, 20 * 0 + nI i = nI (20 * 0 + i) := fun i => rt_iz 0 i rfl
  unfold wpX_moveRow
  refine ⟨pk_in (20 * 0 + a) 120 (by omega) (i0 a), nm_r (e' := -1) ?_ ⟨pk_in (20 * 1 + a) 120 (by omega) (i1 a), nm_r (e' := -1) ?_ ⟨pk_in (20 * 0 + a) 60 (by omega) (i2 a), nm_r (e' := 0) ?_ (rt_drop0 k ha rfl rfl (fun a3' a5' k' => ?_))⟩⟩⟩
  · exact (rt_at (20 * 0 + a) (by omega) (i0 a)).trans (rt_K4n k (by omega) (by omega))
  · exact (rt_at (20 * 1 + a) (by omega) (i1 a)).trans (rt_K4n k (by omega) (by omega))
  · exact (rt_at (20 * 0 + a) (by omega) (i2 a)).trans (k.2.2.2.2.2.1 _ (by omega))
  refine ⟨pk_in 0 3 (by omega), pk_in 0 3 (by omega), nm_r (rt_up (w := rt_w l) 0 (by omega) rfl ?_) ?_⟩
  · rw [rt_wp hl]
    exact (congrArg (· ||| rt_w l) ((rt_at 0 (by omega) rfl).trans (rt_K30 k'))).trans (rt_0or l (by omega))
  refine rt_setN (20 * 0 + l) (by omega) (i0 l) (rt_K4n k (by omega) (by omega)) ?_
  refine rt_setN (20 * 1 + l) (by omega) (i1 l) (rt_K4n k (by omega) (by omega)) ?_
  exact ⟨pk_in (20 * 0 + l) 60 (by omega) (i2 l), nm_r (rt_up (20 * 0 + l) (by omega) (i2 l) rfl) (H _ _ (rt_Kv (rt_Kt0 k' l) _))⟩
/-- the rows that go are dropped; then the links are settled -/
theorem rt_rem101 {post : Int32 → St2 → Prop} {g x0 : Nat} (k : rt_K ρ a b x0 b a1 a2 a3 a4 a5 a6) (ha : a < 20) (hb : b < 20) (hx : x0 < 21) (h8 : rt_G a g a8) (hg : g = b ∨ g = 20)
    (H : ∀ a3' a4' a5' a6', rt_K ρ 20 (if g < 20 then 20 else b) (if g < 20 then 20 else x0) b a1 a2 a3' a4' a5' a6' → wpX_settle post (o, mk, a1, a2, a3', a4', a5', a6', a7, a8) (nI (1 + rt_c g))) :
    ∃ n, wX_remove_101 post n 0 0 o mk a1 a2 a3 a4 a5 a6 a7 a8 := by
  have main := pk_loop (σ := Nat × (Nat → Int32) × (Nat → Int32) × (Nat → Int32) × (Nat → Int32)) (fun n i s => wX_remove_101 post n (nI s.1) (nI i) o mk a1 a2 s.2.1 s.2.2.1 s.2.2.2.1 s.2.2.2.2 a7 a8)
    (fun i s => s.1 = (if a < i then 1 else 0) + (if 40 + g < i then 1 else 0) ∧ rt_K ρ (if a < i then 20 else a) (if 40 + g < i then 20 else b) (if 40 + g < i then 20 else x0) b a1 a2 s.2.1 s.2.2.1 s.2.2.2.1 s.2.2.2.2) 60 0 (0, a3, a4, a5, a6) (by omega) ?_ ?_ ?_
  · exact main
  · refine ⟨?_, ?_⟩
    · rw [if_neg (by omega), if_neg (by omega)]
    · rw [if_neg (by omega), if_neg (by omega), if_neg (by omega)]
      exact k
  · intro n s h
    obtain ⟨c, b3, b4, b5, b6⟩ := s
    obtain ⟨h1, h2⟩ := h
    dsimp only at h1 h2
    refine pk_le 60 60 (fun _ => ?_) (fun z => absurd z (by omega))
    rw [if_pos (show a < 60 by omega)] at h1 h2
    have e1 : (if 40 + g < 60 then 1 else 0) = rt_c g := by
      unfold rt_c
      by_cases e : g < 20
      · rw [if_pos e, if_pos (by omega)]
      · rw [if_neg e, if_neg (by omega)]
    have e2 : ∀ y : Nat, (if 40 + g < 60 then 20 else y) = (if g < 20 then 20 else y) := by
      intro y
      by_cases e : g < 20
      · rw [if_pos e, if_pos (by omega)]
      · rw [if_neg e, if_neg (by omega)]
    rw [e1] at h1
    rw [e2, e2] at h2
    subst h1
    exact H _ _ _ _ h2
  · intro n i s hi h hw
    obtain ⟨c, b3, b4, b5, b6⟩ := s
    obtain ⟨h1, h2⟩ := h
    dsimp only at h1 h2
    have d1 : nI i / 20 = nI (i / 20) := pk_div (d := 20) (by omega) (by omega) (by omega)
    have d2 : nI i - nI i / 20 * 20 = nI (i % 20) := pk_rem (d := 20) (by omega) (by omega) (by omega)
    have d8 : a8 (nI i / 20).toNatClampNeg = rt_t a g (i / 20) := (rt_at (i / 20) (by omega) d1).trans (h8 _ (by omega))
    refine pk_le 60 i (fun z => absurd z (by omega)) (fun _ => ⟨by decide, pk_in (i / 20) 3 (by omega) d1, by decide, ?_⟩)
    by_cases c0 : i = a
    · have t0 : i / 20 = 0 := by omega
      have t1 : i % 20 = a := by omega
      rw [t0] at d1 d8
      rw [t1] at d2
      rw [if_neg (by omega), if_neg (by omega)] at h1
      rw [if_neg (by omega), if_neg (by omega), if_neg (by omega)] at h2
      refine br_t ?_ ⟨by decide, by decide, rt_drop0 h2 ha d1 d2 (fun a3' a5' k' => nm_r (nI_1 c) (nm_r (nI_1 i) (hw (c + 1, a3', b4, a5', b6) ⟨?_, ?_⟩)))⟩
      · rw [d8, d2]
        exact rt_b1 (k := a) (by omega) ha rfl
      · show c + 1 = _
        rw [if_pos (by omega), if_neg (by omega)]
        omega
      · rw [if_pos (by omega), if_neg (by omega), if_neg (by omega)]
        exact k'
    · by_cases c2 : i = 40 + g
      · have hgb : g = b := by omega
        subst hgb
        have t0 : i / 20 = 2 := by omega
        have t1 : i % 20 = g := by omega
        rw [t0] at d1 d8
        rw [t1] at d2
        rw [if_pos (by omega), if_neg (by omega)] at h1
        rw [if_pos (by omega), if_neg (by omega), if_neg (by omega)] at h2
        refine br_t ?_ ⟨by decide, by decide, rt_drop2 h2 hb hx d1 d2 (fun a3' a4' a5' a6' k' => nm_r (nI_1 c) (nm_r (nI_1 i) (hw (c + 1, a3', a4', a5', a6') ⟨?_, ?_⟩)))⟩
        · rw [d8, d2]
          exact rt_b1 (k := g) (by omega) hb rfl
        · show c + 1 = _
          rw [if_pos (by omega), if_pos (by omega)]
          omega
        · rw [if_pos (by omega), if_pos (by omega), if_pos (by omega)]
          exact k'
      · have u1 : ∀ u v : Nat, (if a < i + 1 then u else v) = (if a < i then u else v) := by
          intro u v
          by_cases e : a < i
          · rw [if_pos e, if_pos (by omega)]
          · rw [if_neg e, if_neg (by omega)]
        have u2 : ∀ u v : Nat, (if 40 + g < i + 1 then u else v) = (if 40 + g < i then u else v) := by
          intro u v
          by_cases e : 40 + g < i
          · rw [if_pos e, if_pos (by omega)]
          · rw [if_neg e, if_neg (by omega)]
        refine br_f ?_ (nm_r (nI_1 i) (hw (c, b3, b4, b5, b6) ⟨?_, ?_⟩))
        · rw [d8, d2]
          unfold rt_t
          by_cases t0 : i / 20 = 0
          · rw [if_pos t0]
            exact rt_b1n (by omega) (by omega) (by omega)
          · rw [if_neg t0]
            by_cases t2 : i / 20 = 2
            · rw [if_pos t2]
              exact rt_b1n (by omega) (by omega) (by omega)
            · rw [if_neg t2]
              exact rt_b1n (k := 20) (by omega) (by omega) (by omega)
        · show c = _
          rw [u1, u2]
          exact h1
        · rw [u1, u2, u2]
          exact h2
theorem rt_remove {post : Int32 → St2 → Prop} (k : rt_K (nI r) a b a b a1 a2 a3 a4 a5 a6) (hr : r < 4) (ha : a < 20) (hb : b < 20)
    (H0 : r = 0 → ∀ a8', post (-5) (0, mk, a1, a2, a3, a4, a5, a6, a7, a8'))
    (H1 : r = 1 → ∀ a3' a4' a5' a6' a7' a8', rt_K (nI r) 20 20 20 b a1 a2 a3' a4' a5' a6' → post 2 (0, mk, a1, a2, a3', a4', a5', a6', a7', a8'))
    (H2 : r = 2 → ∀ a3' a4' a5' a6' a7' a8', rt_K (nI r) 20 b 20 b a1 a2 a3' a4' a5' a6' → post 1 (0, mk, a1, a2, a3', a4', a5', a6', a7', a8'))
    (H3 : r = 3 → ∀ a3' a4' a5' a6' a7' a8', rt_K (nI r) a b a b a1 a2 a3' a4' a5' a6' → post (-9) (0, mk, a1, a2, a3', a4', a5', a6', a7', a8')) :
    wpX_remove post (0, mk, a1, a2, a3, a4, a5, a6, a7, a8) 0 (nI a) := by
  unfold wpX_remove
  refine rt_isT 0 (br_f (by decide) (rt_has1 0 ha (rt_K30 k) (br_f (by decide) (rt_spread k hr ha hb (fun a8' h8 => ?_)))))
  by_cases r0 : r = 0
  · rw [if_pos r0]
    exact br_t rfl (H0 r0 a8')
  rw [if_neg r0]
  refine br_f (by decide) (rt_keepK k (fun a7' P => ?_))
  refine rt_skip (fun n c => wX_remove_43 post n (nI c) 0 mk a1 a2 a3 a4 a5 a6 a7' a8') ?_ ?_
  · intro n c hc h
    refine pk_le 6 c (fun z => absurd z (by omega)) (fun _ => ⟨pk_in c 6 (by omega), br_f ?_ (nm_r (nI_1 c) h)⟩)
    rw [rt_at (f := a2) c (by omega) rfl, k.2.1 c hc]
    decide
  · intro n
    have e2 : a2 (nI 5).toNatClampNeg = nI r := (rt_at 5 (by omega) rfl).trans k.2.2.1
    have e1 : a1 (nI 5).toNatClampNeg = 0 := (rt_at 5 (by omega) rfl).trans (k.1 5 (by omega))
    refine pk_le 6 5 (fun z => absurd z (by omega)) (fun _ => ⟨pk_in 5 6 (by omega), pk_eq r 2 (fun hz => ?_) (fun hz => ?_) e2⟩)
    · rw [if_neg (by omega)] at h8
      refine ⟨pk_in 5 6 (by omega), pk_in 0 3 (by omega) e1, by decide, pk_in 2 3 (by omega) (by decide), rt_clear k ha hb rfl ?_ ?_ (fun v a4' a6' k' => nm_r (nI_1 5) (pk_le 6 6 (fun _ => ?_) (fun z => absurd z (by omega))))⟩
      · exact (rt_at 0 (by omega) e1).trans (h8 0 (by omega))
      · exact (rt_at 2 (by omega) (by decide)).trans (h8 2 (by omega))
      · exact rt_rem101 k' ha hb (by omega) h8 (Or.inr rfl) (fun b3 b4 b5 b6 kk => rt_settle1 kk hr hb (by omega) (Or.inr rfl) (H2 hz _ _ _ _ _ _ kk))
    · refine nm_r (nI_1 5) (pk_le 6 6 (fun _ => ?_) (fun z => absurd z (by omega)))
      by_cases r1 : r = 1
      · rw [if_pos r1] at h8
        refine rt_rem101 k ha hb (by omega) h8 (Or.inl rfl) (fun b3 b4 b5 b6 kk => ?_)
        rw [if_pos hb, if_pos hb] at kk
        have hc : rt_c b = 1 := if_pos hb
        rw [hc]
        exact rt_settle1 kk hr hb (by omega) (Or.inl rfl) (H1 r1 _ _ _ _ _ _ kk)
      · rw [if_neg r1] at h8
        exact rt_rem101 k ha hb (by omega) h8 (Or.inr rfl) (fun b3 b4 b5 b6 kk => rt_settle0 kk hr hb (by omega) (by show a ≠ 20; omega) ha P (fun a3' a5' kk => H3 (by omega) _ _ _ _ _ _ kk))
end
end
section
/-! rekeying; the questions at the end -/
section
variable {o mk ρ : Int32} {r p q x b a : Nat} {a1 a2 a3 a4 a5 a6 a7 a8 : Nat → Int32}
theorem rt_rek116 {post : Int32 → St2 → Prop} {l : Nat} (k : rt_K (nI r) l b a b a1 a2 a3 a4 a5 a6) (hr : r < 4) (r0 : r ≠ 0) (ha : a < 20) (hb : b < 20) (hl : l < 20) (hn : l ≠ a) (P : rt_P a b a b a7)
    (H1 : r = 1 → ∀ a3' a4' a5' a6', rt_K (nI r) l b l b a1 a2 a3' a4' a5' a6' → post 1 (0, mk, a1, a2, a3', a4', a5', a6', a7, a8))
    (H2 : r = 2 → ∀ a3' a4' a5' a6', rt_K (nI r) l b 20 b a1 a2 a3' a4' a5' a6' → post 1 (0, mk, a1, a2, a3', a4', a5', a6', a7, a8))
    (H3 : r = 3 → ∀ a3' a4' a5' a6', rt_K (nI r) a b a b a1 a2 a3' a4' a5' a6' → post (-9) (0, mk, a1, a2, a3', a4', a5', a6', a7, a8)) :
    ∃ n, wX_rekey_116 post 0 (nI a) (nI l) n 0 0 0 mk a1 a2 a3 a4 a5 a6 a7 a8 := by
  refine rt_skip (fun n c => wX_rekey_116 post 0 (nI a) (nI l) n 0 (nI c) 0 mk a1 a2 a3 a4 a5 a6 a7 a8) ?_ ?_
  · intro n c hc h
    refine pk_le 6 c (fun z => absurd z (by omega)) (fun _ => ⟨pk_in c 6 (by omega), br_t ?_ (nm_r (nI_1 c) h)⟩)
    rw [rt_at (f := a2) c (by omega) rfl, k.2.1 c hc]
    decide
  · intro n
    have e2 : a2 (nI 5).toNatClampNeg = nI r := (rt_at 5 (by omega) rfl).trans k.2.2.1
    have e1 : a1 (nI 5).toNatClampNeg = 0 := (rt_at 5 (by omega) rfl).trans (k.1 5 (by omega))
    refine pk_le 6 5 (fun z => absurd z (by omega)) (fun _ => ⟨pk_in 5 6 (by omega), pk_le r 0 (fun z => absurd z (by omega)) (fun _ => ⟨pk_in 5 6 (by omega), pk_le 3 r (fun h3 => ?_) (fun h3 => ⟨pk_in 5 6 (by omega), br_t e1 ⟨pk_in 5 6 (by omega), pk_eq r 1 (fun h1 => ?_) (fun h1 => ?_) e2⟩⟩) rfl e2⟩) e2⟩)
    · refine nm_r (nI_1 5) (pk_le 6 6 (fun _ => ?_) (fun z => absurd z (by omega)))
      exact rt_settle0 k hr hb (by omega) (fun e => hn e.symm) ha P (fun a3' a5' kk => H3 (by omega) _ _ _ _ kk)
    · unfold wX_rekey_177
      refine rt_turn k ha hb (y := l) (by omega) rfl (rt_fp hl).symm (fun a4' a6' k' => nm_r (e' := 1) (by decide) (nm_r (nI_1 5) (pk_le 6 6 (fun _ => ?_) (fun z => absurd z (by omega)))))
      exact rt_settle1 k' hr hb (by omega) (Or.inl rfl) (H1 h1 _ _ _ _ k')
    · unfold wX_rekey_177
      refine rt_turn k ha hb (y := 20) (by omega) rfl rfl (fun a4' a6' k' => nm_r (e' := 1) (by decide) (nm_r (nI_1 5) (pk_le 6 6 (fun _ => ?_) (fun z => absurd z (by omega)))))
      exact rt_settle1 k' hr hb (by omega) (Or.inr rfl) (H2 (by omega) _ _ _ _ k')
theorem rt_rekey {post : Int32 → St2 → Prop} {now : Int32} (k : rt_K (nI r) a b a b a1 a2 a3 a4 a5 a6) (hr : r < 4) (ha : a < 20) (hb : b < 20)
    (HB : (now < 0 ∨ 20 ≤ now) → post (-3) (0, mk, a1, a2, a3, a4, a5, a6, a7, a8))
    (HS : now = nI a → post (-4) (0, mk, a1, a2, a3, a4, a5, a6, a7, a8))
    (H0 : ∀ l, l < 20 → now = nI l → l ≠ a → r = 0 → post (-5) (0, mk, a1, a2, a3, a4, a5, a6, a7, a8))
    (H1 : ∀ l, l < 20 → now = nI l → l ≠ a → r = 1 → ∀ a3' a4' a5' a6' a7', rt_K (nI r) l b l b a1 a2 a3' a4' a5' a6' → post 1 (0, mk, a1, a2, a3', a4', a5', a6', a7', a8))
    (H2 : ∀ l, l < 20 → now = nI l → l ≠ a → r = 2 → ∀ a3' a4' a5' a6' a7', rt_K (nI r) l b 20 b a1 a2 a3' a4' a5' a6' → post 1 (0, mk, a1, a2, a3', a4', a5', a6', a7', a8))
    (H3 : ∀ l, l < 20 → now = nI l → l ≠ a → r = 3 → ∀ a3' a4' a5' a6' a7', rt_K (nI r) a b a b a1 a2 a3' a4' a5' a6' → post (-9) (0, mk, a1, a2, a3', a4', a5', a6', a7', a8)) :
    wpX_rekey post (0, mk, a1, a2, a3, a4, a5, a6, a7, a8) 0 (nI a) now := by
  unfold wpX_rekey
  refine rt_isT 0 (br_f (by decide) (rt_has1 0 ha (rt_K30 k) (br_f (by decide) ?_)))
  refine br_c (fun hneg => br_t rfl (HB (Or.inl hneg))) (fun hneg => br_c (fun hbig => br_t rfl (HB (Or.inr hbig))) (fun hbig => br_f (by decide) ?_))
  obtain ⟨l, hl, rfl⟩ : ∃ l : Nat, l < 20 ∧ now = nI l := by
    rcases pk_ix now (n := 20) (by omega) with h | h | h
    · exact absurd h hneg
    · exact absurd h hbig
    · exact h
  by_cases hn : l = a
  · subst hn
    exact rt_has1 0 hl (rt_K30 k) (br_f (by decide) (HS rfl))
  refine rt_has0 0 hl (by omega) hn (rt_K30 k) (br_t rfl ?_)
  refine rt_skip (fun n c => wX_rekey_46 post 0 (nI a) (nI l) 0 mk a1 a2 a3 a4 a5 a6 a7 a8 n (nI c)) ?_ ?_
  · intro n c hc h
    refine pk_le 6 c (fun z => absurd z (by omega)) (fun _ => ⟨pk_in c 6 (by omega), br_f ?_ (nm_r (nI_1 c) h)⟩)
    rw [rt_at (f := a2) c (by omega) rfl, k.2.1 c hc]
    decide
  · intro n
    have e2 : a2 (nI 5).toNatClampNeg = nI r := (rt_at 5 (by omega) rfl).trans k.2.2.1
    have e1 : a1 (nI 5).toNatClampNeg = 0 := (rt_at 5 (by omega) rfl).trans (k.1 5 (by omega))
    refine pk_le 6 5 (fun z => absurd z (by omega)) (fun _ => ⟨pk_in 5 6 (by omega), pk_eq r 0 (fun hz => ?_) (fun hz => ?_) e2⟩)
    · refine ⟨pk_in 5 6 (by omega), br_t e1 ⟨pk_in (100 + a) 120 (by omega) (rt_ix 5 a), br_f ?_ (H0 l hl rfl hn hz)⟩⟩
      have e6 : a6 (20 * nI 5 + nI a).toNatClampNeg = rt_w (if a = a then b else 20) := (rt_at (100 + a) (by omega) (rt_ix 5 a)).trans (rt_K6 k ha)
      rw [e6, if_pos rfl]
      exact rt_wne b hb
    · refine nm_r (nI_1 5) (pk_le 6 6 (fun _ => ?_) (fun z => absurd z (by omega)))
      refine rt_keepK k (fun a7' P => rt_move k ha hl (fun a3' a5' k' => ?_))
      exact rt_rek116 k' hr hz ha hb hl hn P (fun h _ _ _ _ kk => H1 l hl rfl hn h _ _ _ _ _ kk) (fun h _ _ _ _ kk => H2 l hl rfl hn h _ _ _ _ _ kk) (fun h _ _ _ _ kk => H3 l hl rfl hn h _ _ _ _ _ kk)
theorem rt_ref1 {post : Int32 → Prop} (k : rt_K ρ p b x b a1 a2 a3 a4 a5 a6) (hb : b < 20) (H : post (rt_f x)) : wpX_reference post (o, mk, a1, a2, a3, a4, a5, a6, a7, a8) 2 (nI b) 1 := by
  have i5 : 20 * (2 * 2 + 1) + nI b = nI (100 + b) := rt_iz 5 b (by decide)
  unfold wpX_reference
  refine rt_isT 2 (br_f (by decide) (rt_has1 2 hb (rt_K32 k) (br_f (by decide) (rt_isC (br_f (by decide) ⟨pk_in (100 + b) 120 (by omega) i5, ?_⟩)))))
  have e : a4 (20 * (2 * 2 + 1) + nI b).toNatClampNeg = rt_f x := (rt_at (100 + b) (by omega) i5).trans (rt_K4 k hb)
  rw [e]
  exact H
theorem rt_ref0 {post : Int32 → Prop} (k : rt_K ρ p 20 x b a1 a2 a3 a4 a5 a6) (hb : b < 20) (H : post (-3)) : wpX_reference post (o, mk, a1, a2, a3, a4, a5, a6, a7, a8) 2 (nI b) 1 := by
  unfold wpX_reference
  exact rt_isT 2 (br_f (by decide) (rt_has0 2 hb (by omega) (by omega) (rt_K32 k) (br_t rfl H)))
theorem rt_dangling {post : Int32 → Prop} (k : rt_K (nI r) p q x b a1 a2 a3 a4 a5 a6) (hr : r < 4) (hb : b < 20) (hp : p < 21) (hd : x = p ∨ x = 20) (H : post 0) :
    wpX_dangling post (o, mk, a1, a2, a3, a4, a5, a6, a7, a8) := by
  obtain ⟨r1, r2, r3, r4⟩ := rt_rne r hr
  unfold wpX_dangling
  refine rt_skip (fun n c => wX_dangling_4 post o mk a1 a2 a3 a4 a5 a6 a7 a8 n 0 (nI c)) ?_ ?_
  · intro n c hc h
    refine pk_le 6 c (fun z => absurd z (by omega)) (fun _ => ⟨pk_in c 6 (by omega), br_t ?_ (nm_r (e' := 0) (by decide) (nm_r (nI_1 c) h))⟩)
    rw [rt_at (f := a2) c (by omega) rfl, k.2.1 c hc]
    decide
  · intro n
    refine pk_le 6 5 (fun z => absurd z (by omega)) (fun _ => ⟨pk_in 5 6 (by omega), br_f ?_ (rt_dangIn k hb hp ?_)⟩)
    · rw [rt_at (f := a2) 5 (by omega) rfl, k.2.2.1]
      exact r4
    · rw [rt_dz hd]
      exact nm_r (e' := 0) (by decide) (nm_r (nI_1 5) (pk_le 6 6 (fun _ => H) (fun z => absurd z (by omega))))
theorem rt_refr1 {post : Int32 → Prop} (k : rt_K (nI r) a q a b a1 a2 a3 a4 a5 a6) (hr : r < 4) (ha : a < 20) (hb : b < 20) (H : post 1) : wpX_referrers post (o, mk, a1, a2, a3, a4, a5, a6, a7, a8) 0 (nI a) := by
  obtain ⟨r1, r2, r3, r4⟩ := rt_rne r hr
  unfold wpX_referrers
  refine rt_isT 0 (br_f (by decide) (rt_has1 0 ha (rt_K30 k) (br_f (by decide) ?_)))
  refine rt_skip (fun n c => wX_referrers_26 post 0 (nI a) o mk a1 a2 a3 a4 a5 a6 a7 a8 n 0 (nI c)) ?_ ?_
  · intro n c hc h
    refine pk_le 6 c (fun z => absurd z (by omega)) (fun _ => ⟨pk_in c 6 (by omega), br_t ?_ (nm_r (nI_1 c) h)⟩)
    rw [rt_at (f := a2) c (by omega) rfl, k.2.1 c hc]
    decide
  · intro n
    have e1 : a1 (nI 5).toNatClampNeg = 0 := (rt_at 5 (by omega) rfl).trans (k.1 5 (by omega))
    have hc : rt_c b = 1 := if_pos hb
    refine pk_le 6 5 (fun z => absurd z (by omega)) (fun _ => ⟨pk_in 5 6 (by omega), br_f ?_ ⟨pk_in 5 6 (by omega), br_t e1 ⟨pk_in (100 + a) 120 (by omega) (rt_ix 5 a), rt_ones b (by omega) ?_ ?_⟩⟩⟩)
    · rw [rt_at (f := a2) 5 (by omega) rfl, k.2.2.1]
      exact r4
    · have e6 : a6 (20 * nI 5 + nI a).toNatClampNeg = rt_w (if a = a then b else 20) := (rt_at (100 + a) (by omega) (rt_ix 5 a)).trans (rt_K6 k ha)
      rw [e6, if_pos rfl]
    · rw [hc]
      exact nm_r (e' := 1) (by decide) (nm_r (nI_1 5) (pk_le 6 6 (fun _ => H) (fun z => absurd z (by omega))))
theorem rt_refr0 {post : Int32 → Prop} (k : rt_K ρ p q x b a1 a2 a3 a4 a5 a6) (ha : a < 20) (hp : p < 21) (hn : a ≠ p) (H : post (-2)) : wpX_referrers post (o, mk, a1, a2, a3, a4, a5, a6, a7, a8) 0 (nI a) := by
  unfold wpX_referrers
  exact rt_isT 0 (br_f (by decide) (rt_has0 0 ha hp hn (rt_K30 k) (br_t rfl H)))
end
end
section
/-! the law's ends -/
section
variable {o mk ρ : Int32} {r p q x b a : Nat} {a1 a2 a3 a4 a5 a6 a7 a8 : Nat → Int32}
theorem rt_ngt {now : Int32} {l : Nat} (hl : l < 20) (e : now = nI l) : ¬ (now < 0 ∨ 20 ≤ now) := by
  subst e
  intro h
  rcases h with h | h
  · exact nI_pos (by omega) h
  · exact nI_ge (b := 20) hl (by decide) h
theorem rt_inj {l m : Nat} (hl : l < 20) (hm : m < 20) (e : nI l = nI m) : l = m := (nI_eq (by omega) (by omega)).mp e
theorem rt_rekB {post : Int32 → St2 → Prop} {now : Int32} (k : rt_K (nI r) a b a b a1 a2 a3 a4 a5 a6) (hr : r < 4) (ha : a < 20) (hb : b < 20) (hB : now < 0 ∨ 20 ≤ now)
    (H : post (-3) (0, mk, a1, a2, a3, a4, a5, a6, a7, a8)) : wpX_rekey post (0, mk, a1, a2, a3, a4, a5, a6, a7, a8) 0 (nI a) now :=
  rt_rekey k hr ha hb (fun _ => H) (fun e => absurd hB (rt_ngt ha e)) (fun l hl e => absurd hB (rt_ngt hl e)) (fun l hl e => absurd hB (rt_ngt hl e)) (fun l hl e => absurd hB (rt_ngt hl e)) (fun l hl e => absurd hB (rt_ngt hl e))
theorem rt_rekS {post : Int32 → St2 → Prop} (k : rt_K (nI r) a b a b a1 a2 a3 a4 a5 a6) (hr : r < 4) (ha : a < 20) (hb : b < 20)
    (H : post (-4) (0, mk, a1, a2, a3, a4, a5, a6, a7, a8)) : wpX_rekey post (0, mk, a1, a2, a3, a4, a5, a6, a7, a8) 0 (nI a) (nI a) :=
  rt_rekey k hr ha hb (fun hB => absurd hB (rt_ngt ha rfl)) (fun _ => H) (fun l hl e hn => absurd (rt_inj ha hl e).symm hn) (fun l hl e hn => absurd (rt_inj ha hl e).symm hn) (fun l hl e hn => absurd (rt_inj ha hl e).symm hn) (fun l hl e hn => absurd (rt_inj ha hl e).symm hn)
theorem rt_rekN {post : Int32 → St2 → Prop} {l : Nat} (k : rt_K (nI r) a b a b a1 a2 a3 a4 a5 a6) (hr : r < 4) (ha : a < 20) (hb : b < 20) (hl : l < 20) (hn : l ≠ a)
    (H0 : r = 0 → post (-5) (0, mk, a1, a2, a3, a4, a5, a6, a7, a8))
    (H1 : r = 1 → ∀ a3' a4' a5' a6' a7', rt_K (nI r) l b l b a1 a2 a3' a4' a5' a6' → post 1 (0, mk, a1, a2, a3', a4', a5', a6', a7', a8))
    (H2 : r = 2 → ∀ a3' a4' a5' a6' a7', rt_K (nI r) l b 20 b a1 a2 a3' a4' a5' a6' → post 1 (0, mk, a1, a2, a3', a4', a5', a6', a7', a8))
    (H3 : r = 3 → ∀ a3' a4' a5' a6' a7', rt_K (nI r) a b a b a1 a2 a3' a4' a5' a6' → post (-9) (0, mk, a1, a2, a3', a4', a5', a6', a7', a8)) :
    wpX_rekey post (0, mk, a1, a2, a3, a4, a5, a6, a7, a8) 0 (nI a) (nI l) := by
  refine rt_rekey k hr ha hb (fun hB => absurd hB (rt_ngt hl rfl)) (fun e => absurd (rt_inj hl ha e) hn) (fun m hm e hna h => H0 h) (fun m hm e hna h => ?_) (fun m hm e hna h => ?_) (fun m hm e hna h => H3 h)
  · have := rt_inj hl hm e
    subst this
    exact H1 h
  · have := rt_inj hl hm e
    subst this
    exact H2 h
theorem rt_finA {post : Int32 → St0 → Prop} {mc ms kc ks : Nat} (k : rt_K (nI r) a b a b a1 a2 a3 a4 a5 a6) (hr : r < 4) (ha : a < 20) (hb : b < 20) (H : post 1 ()) :
    wL_lawOf_298 post mc ms (nI a) (nI b) (nI a) kc ks o mk a1 a2 a3 a4 a5 a6 a7 a8 := by
  unfold wL_lawOf_298
  exact rt_ref1 k hb (br_t (rt_fp ha) (rt_dangling k hr hb (by omega) (Or.inl rfl) (br_t rfl (rt_refr1 k hr ha hb (br_t rfl (br_t rfl H))))))
theorem rt_finB {post : Int32 → St0 → Prop} {mc ms kc ks : Nat} {v : Int32} (k : rt_K (nI r) p b x b a1 a2 a3 a4 a5 a6) (hr : r < 4) (ha : a < 20) (hb : b < 20) (hp : p < 21) (hx : x < 21) (hd : x = p ∨ x = 20) (hn : a ≠ p) (hv : v = rt_f x) (H : post 1 ()) :
    wL_lawOf_298 post mc ms (nI a) (nI b) v kc ks o mk a1 a2 a3 a4 a5 a6 a7 a8 := by
  subst hv
  have hne : ¬ rt_f x = nI a := by
    rw [← rt_fp ha]
    exact rt_fne x hx a (by omega) (by omega)
  unfold wL_lawOf_298
  exact rt_ref1 k hb (br_t rfl (rt_dangling k hr hb hp hd (br_t rfl (rt_refr0 k ha hp hn (br_f hne (br_t rfl H))))))
theorem rt_m3 : ∀ a, a < 20 → ¬ (-3 : Int32) = nI a := by decide +kernel
theorem rt_finC {post : Int32 → St0 → Prop} {mc ms kc ks : Nat} (k : rt_K (nI r) 20 20 20 b a1 a2 a3 a4 a5 a6) (hr : r < 4) (ha : a < 20) (hb : b < 20) (H : post 1 ()) :
    wL_lawOf_298 post mc ms (nI a) (nI b) (-3) kc ks o mk a1 a2 a3 a4 a5 a6 a7 a8 := by
  unfold wL_lawOf_298
  exact rt_ref0 k hb (br_t rfl (rt_dangling k hr hb (by omega) (Or.inl rfl) (br_t rfl (rt_refr0 k ha (by omega) (by omega) (br_f (rt_m3 a ha) (br_t rfl H))))))
theorem rt_rows1 {post : Int32 → Prop} {z : Int32} (t : Nat) {l : Nat} (hl : l < 20) (e : a3 t = rt_w l) (H : post 1) (ht : t < 3 := by omega) (ez : z = nI t := by rfl) : wpX_rows post (o, mk, a1, a2, a3, a4, a5, a6, a7, a8) z := by
  have hc : rt_c l = 1 := if_pos hl
  refine rt_rows t (by omega) e ?_ ht ez
  rw [hc]
  exact H
/-- the half with rekey -/
theorem rt_lawK {post : Int32 → St0 → Prop} {mc ms kc ks : Nat} {now : Int32} (k : rt_K (nI r) a b a b a1 a2 a3 a4 a5 a6) (hr : r < 4) (ha : a < 20) (hb : b < 20) (H : post 1 ()) :
    ((now < 0 → wL_lawOf_106 post mc ms now (nI r) (nI a) (nI b) kc ks 0 mk a1 a2 a3 a4 a5 a6 a7 a8) ∧ (¬ now < 0 → ((19 < now → wL_lawOf_106 post mc ms now (nI r) (nI a) (nI b) kc ks 0 mk a1 a2 a3 a4 a5 a6 a7 a8) ∧ (¬ 19 < now → wL_lawOf_107 post mc ms now (nI r) (nI a) (nI b) 1 kc ks 0 mk a1 a2 a3 a4 a5 a6 a7 a8)))) := by
  have LB : (now < 0 ∨ 20 ≤ now) → wL_lawOf_106 post mc ms now (nI r) (nI a) (nI b) kc ks 0 mk a1 a2 a3 a4 a5 a6 a7 a8 := by
    intro hB
    refine br_t rfl (br_f (by decide) ?_)
    unfold wL_lawOf_175
    exact rt_rekB k hr ha hb hB (br_t rfl (rt_rows1 2 hb (rt_K32 k) ((br_t rfl (rt_finA k hr ha hb H)))))
  rcases pk_ix now (n := 20) (by omega) with h | h | ⟨l, hl, e⟩
  · exact br_t h (LB (Or.inl h))
  · exact br_c (fun _ => LB (Or.inr h)) (fun _ => br_t (Int32.lt_of_lt_of_le (by decide) h) (LB (Or.inr h)))
  subst e
  refine br_f (nI_pos (by omega)) (br_f (nI_nlt (a := 19) (by omega) (by omega)) (br_f (by decide) ?_))
  by_cases hn : l = a
  · subst hn
    refine br_t rfl (br_f (by decide) ?_)
    unfold wL_lawOf_175
    exact rt_rekS k hr ha hb (br_t rfl (rt_rows1 2 hb (rt_K32 k) ((br_t rfl (rt_finA k hr ha hb H)))))
  refine br_f (fun e => hn (rt_inj hl ha e)) ?_
  by_cases r0 : r = 0
  · subst r0
    refine br_t rfl (br_f (by decide) ?_)
    unfold wL_lawOf_175
    exact rt_rekN k hr ha hb hl hn (fun _ => br_t rfl (rt_rows1 2 hb (rt_K32 k) ((br_t rfl (rt_finA k hr ha hb H))))) (fun z => absurd z (by decide)) (fun z => absurd z (by decide)) (fun z => absurd z (by decide))
  by_cases r3 : r = 3
  · subst r3
    refine br_f (by decide) (br_t rfl (br_f (by decide) ?_))
    unfold wL_lawOf_175
    exact rt_rekN k hr ha hb hl hn (fun z => absurd z (by decide)) (fun z => absurd z (by decide)) (fun z => absurd z (by decide)) (fun _ b3 b4 b5 b6 b7 kk => br_t rfl (rt_rows1 2 hb (rt_K32 kk) ((br_t rfl (rt_finA kk hr ha hb H)))))
  by_cases r1 : r = 1
  · subst r1
    refine br_f (by decide) (br_f (by decide) (br_t (by decide) (br_t rfl ?_)))
    unfold wL_lawOf_175
    exact rt_rekN k hr ha hb hl hn (fun z => absurd z (by decide)) (fun _ b3 b4 b5 b6 b7 kk => br_t rfl (rt_rows1 2 hb (rt_K32 kk) ((br_t rfl (rt_finB kk hr ha hb (by omega) (by omega) (Or.inl rfl) (fun e => hn e.symm) (rt_fp hl).symm H))))) (fun z => absurd z (by decide)) (fun z => absurd z (by decide))
  have r2 : r = 2 := by omega
  subst r2
  refine br_f (by decide) (br_f (by decide) (br_t (by decide) (br_f (by decide) ?_)))
  unfold wL_lawOf_175
  exact rt_rekN k hr ha hb hl hn (fun z => absurd z (by decide)) (fun z => absurd z (by decide)) (fun _ b3 b4 b5 b6 b7 kk => br_t rfl (rt_rows1 2 hb (rt_K32 kk) ((br_t rfl (rt_finB kk hr ha hb (by omega) (by omega) (Or.inr rfl) (fun e => hn e.symm) rfl H))))) (fun z => absurd z (by decide))
/-- the half with remove -/
theorem rt_lawR {post : Int32 → St0 → Prop} {mc ms kc ks : Nat} (k : rt_K (nI r) a b a b a1 a2 a3 a4 a5 a6) (hr : r < 4) (ha : a < 20) (hb : b < 20) (H : post 1 ()) :
    ((nI r = 0 → wL_lawOf_238 post mc ms (nI r) (nI a) (nI b) (-5) kc ks 0 mk a1 a2 a3 a4 a5 a6 a7 a8) ∧ (¬ nI r = 0 → ((nI r = 1 → wL_lawOf_238 post mc ms (nI r) (nI a) (nI b) 2 kc ks 0 mk a1 a2 a3 a4 a5 a6 a7 a8) ∧ (¬ nI r = 1 → ((nI r = 2 → wL_lawOf_238 post mc ms (nI r) (nI a) (nI b) 1 kc ks 0 mk a1 a2 a3 a4 a5 a6 a7 a8) ∧ (¬ nI r = 2 → wL_lawOf_238 post mc ms (nI r) (nI a) (nI b) (-9) kc ks 0 mk a1 a2 a3 a4 a5 a6 a7 a8)))))) := by
  by_cases r0 : r = 0
  · subst r0
    refine br_t rfl (br_f (by decide) ?_)
    unfold wL_lawOf_262
    exact rt_remove k hr ha hb (fun _ b8 => br_t rfl (rt_rows1 0 ha (rt_K30 k) ((br_f (by decide) (br_t rfl (rt_finA k hr ha hb H)))))) (fun z => absurd z (by decide)) (fun z => absurd z (by decide)) (fun z => absurd z (by decide))
  by_cases r1 : r = 1
  · subst r1
    refine br_f (by decide) (br_t rfl (br_t (by decide) (br_t rfl ?_)))
    unfold wL_lawOf_262
    exact rt_remove k hr ha hb (fun z => absurd z (by decide)) (fun _ b3 b4 b5 b6 b7 b8 kk => br_t rfl (rt_rows 0 (by omega) (rt_K30 kk) (br_t (by decide) (br_t rfl (rt_finC kk hr ha hb H))))) (fun z => absurd z (by decide)) (fun z => absurd z (by decide))
  by_cases r2 : r = 2
  · subst r2
    refine br_f (by decide) (br_f (by decide) (br_t rfl (br_t (by decide) (br_f (by decide) ?_))))
    unfold wL_lawOf_262
    exact rt_remove k hr ha hb (fun z => absurd z (by decide)) (fun z => absurd z (by decide)) (fun _ b3 b4 b5 b6 b7 b8 kk => br_t rfl (rt_rows 0 (by omega) (rt_K30 kk) (br_t (by decide) (br_t rfl (rt_finB kk hr ha hb (by omega) (by omega) (Or.inr rfl) (by omega) rfl H))))) (fun z => absurd z (by decide))
  have r3 : r = 3 := by omega
  subst r3
  refine br_f (by decide) (br_f (by decide) (br_f (by decide) (br_f (by decide) ?_)))
  unfold wL_lawOf_262
  exact rt_remove k hr ha hb (fun z => absurd z (by decide)) (fun z => absurd z (by decide)) (fun z => absurd z (by decide)) (fun _ b3 b4 b5 b6 b7 b8 kk => br_t rfl (rt_rows1 0 ha (rt_K30 kk) ((br_f (by decide) (br_t rfl (rt_finA kk hr ha hb H))))))
end
end
section
/-! the law -/
theorem rt_cell {post : Int32 → Prop} {L : Nat} {xs : Nat → Int32} {z : Int32} (i : Nat) (hL : L ≤ 5) (hi : i < 5) (H : ∀ v, post v) (e : z = nI i := by rfl) : wpL_cellAt post L xs () z := by
  subst e
  exact pk_le L i (fun _ => H 0) (fun h => ⟨pk_in i L h, H _⟩)
theorem rt_K0 {b : Nat} {a2 a4 : Nat → Int32} (r : Nat) (h2 : ∀ j, j < 6 → a2 j = -1) (h4 : ∀ j, j < 120 → a4 j = -1) :
    rt_K (nI r) 20 20 20 b (upd (fun _ => 0) 5 0) (upd a2 5 (nI r)) (fun _ => 0) a4 (fun _ => 0) (fun _ => 0) := by
  refine ⟨fun j hj => ?_, fun j hj => ?_, pk_us, fun j hj => ?_, fun j hj => ?_, fun j hj => rfl, fun j hj => ?_⟩
  · by_cases e : j = 5
    · rw [e, pk_us]
    · rw [pk_un e]
  · rw [pk_un (by omega)]
    exact h2 j (by omega)
  · unfold rt_t
    split
    · rfl
    · split
      · rfl
      · rfl
  · rw [h4 j hj]
    unfold rt_r
    split
    · rfl
    · rfl
  · unfold rt_h
    rw [if_neg (by omega)]
theorem rt_mod {y : Int32} (x : Int32) (hy : y = x &&& 31) : ∃ a, a < 20 ∧ y - y / 20 * 20 = nI a := by
  obtain ⟨j, hj, e⟩ := pk_andE x (m := 31) 5 (by decide)
  refine ⟨j % 20, by omega, ?_⟩
  rw [hy, e]
  exact pk_rem (d := 20) (by omega) (by omega) (by omega)
theorem rt_lawOf {post : Int32 → St0 → Prop} (p0 p1 p2 p3 p4 : Int32) (H : post 1 ()) : wpL_lawOf post 9 1243 () p0 p1 p2 p3 p4 := by
  obtain ⟨r, hr, er⟩ := pk_andE p0 (m := 3) 2 (by decide)
  obtain ⟨a, ha, ea⟩ := rt_mod p1 rfl
  obtain ⟨b, hb, eb⟩ := rt_mod p2 rfl
  unfold wpL_lawOf
  refine ⟨by omega, by omega, 8, 1233, by omega, by omega, rt_init (by omega) (by omega) (fun a2 a4 h2 h4 => ?_)⟩
  refine nm_r er ⟨by decide, nm_r ea ⟨by decide, nm_r eb ?_⟩⟩
  have k0 := rt_K0 (b := b) r h2 h4
  refine rt_link hr (fun _ _ => rfl) (fun _ => ?_)
  have k1 := rt_Kt0 k0 a
  refine rt_insert 0 ha (rt_K30 k0) ?_
  have k2 := rt_Kt2 k1 b
  refine rt_insert 2 hb (rt_K32 k1) ?_
  refine rt_refer k2 hr ha hb (fun a4' a6' a7' k => br_t rfl (br_c (fun _ => ?_) (fun _ => ?_)))
  · exact rt_lawK k hr ha hb H
  · exact rt_lawR k hr ha hb H
theorem i_vc (xs : Nat → Int32) (L : Nat) (hL : L ≤ 5) : wpL_law (fun r => r = 1) L xs := by
  unfold wpL_law
  refine rt_cell 0 hL (by omega) (fun r1 => rt_cell 1 hL (by omega) (fun r2 => rt_cell 2 hL (by omega) (fun r3 => rt_cell 3 hL (by omega) (fun r4 => rt_cell 4 hL (by omega) (fun r5 => ?_)))))
  exact ⟨9, 1243, by omega, by omega, rt_lawOf r1 r2 r3 r4 r5 rfl⟩
end
