section
/-- where part i begins when one pair lies in part b (b = 4: no pair) -/
def mr_c (b i : Nat) : Nat := if i ≤ b then 0 else 1
theorem mr_c0 {b i : Nat} (h : i ≤ b) : mr_c b i = 0 := if_pos h
theorem mr_c1 {b i : Nat} (h : b < i) : mr_c b i = 1 := if_neg (by omega)
theorem mr_cl (b i : Nat) : mr_c b i < 16 := by
  unfold mr_c
  split <;> omega
theorem mr_nb : ∀ q, q < 16 → (nI q).toInt8.toInt32 = nI q := by decide +kernel
theorem mr_vb (q : Nat) (h : q < 16) : vp_nar .byte (nI q) = nI q := by
  rw [vp_nar_byte]
  exact mr_nb q h
theorem mr_k0 : (nI 0).toNatClampNeg = 0 := nI_clamp (by omega)
theorem mr_50 (i : Nat) : (5 * 0 : Int32) + nI i = nI i := by
  rw [show (5 * 0 : Int32) = 0 from by decide, Int32.zero_add]
theorem mr_51 (i : Nat) : (5 * 0 : Int32) + nI i + 1 = nI (i + 1) := by
  rw [mr_50, nI_1]
theorem mr_16 (s : Nat) : (16 : Int32) * nI s + 0 = nI (16 * s) := by
  rw [Int32.add_zero]
  exact pk_mul 16 s
theorem mr_lo (x : Int32) : ¬ x < (-2147483648) := by
  rw [Int32.lt_iff_toInt_lt]
  have h := Int32.le_toInt x
  have e : ((-2147483648) : Int32).toInt = -2147483648 := by decide
  omega
theorem mr_hi (x : Int32) : x ≤ 2147483647 := by
  rw [Int32.le_iff_toInt_le]
  have h := Int32.toInt_lt x
  have e : (2147483647 : Int32).toInt = 2147483647 := by decide
  omega
/-- x is k's remainder by m, brought to 0 .. m - 1 -/
def mr_key (k m x : Int32) : Prop := (0 ≤ k - k / m * m → k - k / m * m = x) ∧ (¬ 0 ≤ k - k / m * m → k - k / m * m + m = x)
theorem mr_norm {k m : Int32} (h0 : 1 ≤ m) (h1 : m ≤ 16) : ∃ q : Nat, q < 16 ∧ mr_key k m (nI q) := by
  rw [Int32.le_iff_toInt_le] at h0 h1
  have e0 : (1 : Int32).toInt = 1 := by decide
  have e1 : (16 : Int32).toInt = 16 := by decide
  obtain ⟨c, hc, hl⟩ := fmv_nat (a := k) (m := m) (by omega)
  exact ⟨c, by omega, fun h => by rw [← show fmv k m = nI c from hc]; exact (if_pos h).symm, fun h => by rw [← show fmv k m = nI c from hc]; exact (if_neg h).symm⟩
theorem mr_ups {f : Nat → Int32} {i j : Nat} {x : Int32} {g : Nat → Int32} (h : ∀ k, k < i → f k = g k) (hx : x = g i) (hj : j < i + 1) : upd f i x j = g j := by
  by_cases e : j = i
  · rw [e, pk_us, hx]
  · rw [pk_un e]
    exact h j (by omega)
section
variable {pc bs mo fa fo lo up re bu ma sc se oe : Int32} {a1 a2 a3 a4 a5 a6 a7 a8 a9 a10 a11 a12 a13 a14 a15 : Nat → Int32}
variable {pr : Int32 → Prop}
theorem mr_fail (h4 : ∀ j, j < 4 → a4 j = 0) (h5 : ∀ j, j < 4 → a5 j = 0) (H : pr 0) : wpX_failuresToCome pr (pc, bs, mo, fa, fo, lo, up, re, bu, ma, sc, se, oe, a1, a2, a3, a4, a5, a6, a7, a8, a9, a10, a11, a12, a13, a14, a15) :=
  pk_loop (σ := Int32) (fun n i s => wX_failuresToCome_4 pr pc bs mo fa fo lo up re bu ma sc se oe a1 a2 a3 a4 a5 a6 a7 a8 a9 a10 a11 a12 a13 a14 a15 n s (nI i)) (fun _ s => s = 0) 4 0 0 (by omega) rfl
    (fun n s h => pk_le 4 4 (fun _ => h ▸ H) (fun z => absurd z (by omega)))
    (fun n i s hi h hw => pk_le 4 i (fun z => absurd z (by omega)) (fun _ => ⟨pk_in i 4 hi, pk_in i 4 hi, nm_r (e' := 0) (by rw [nI_clamp (by omega), h4 i hi, h5 i hi, h]; decide) (nm_r (nI_1 i) (hw 0 rfl))⟩))
end
end
section
section
variable {pc bs mo fa fo lo up re bu ma sc se oe : Int32} {a1 a2 a3 a4 a5 a6 a7 a8 a9 a10 a11 a12 a13 a14 a15 : Nat → Int32}
variable {post : St2 → Prop}
theorem mr_20 {p q : Nat} (hp : 0 < p) (hp4 : p ≤ 4) (hq : q < 16) (h6 : a6 0 = nI q)
    (H : ∀ a8' a9' a10' : Nat → Int32, a8' 0 = nI q → a9' 0 = a7 0 → (∀ j, j ≤ 4 → a10' j = nI (mr_c (q % p) j)) → post (nI p, bs, mo, fa, fo, lo, up, re, 0, ma, 1, 1, oe, a1, a2, a3, a4, a5, a6, a7, a8', a9', a10', a11, a12, a13, a14, a15)) :
    ∃ n, wX_spill_20 post (nI p) bs mo fa fo lo up re 1 ma 0 oe n 0 0 0 a1 a2 a3 a4 a5 a6 a7 a8 a9 a10 a11 a12 a13 a14 a15 := by
  have hb : q % p < 4 := by
    have := Nat.mod_lt q hp
    omega
  have hc : nI q - nI q / nI p * nI p = nI (q % p) := pk_rem (by omega) hp (by omega)
  have hp0 : ¬ nI p = 0 := nI_ne0 hp (by omega)
  obtain ⟨b, eb⟩ : ∃ b, b = q % p := ⟨_, rfl⟩
  rw [← eb] at hb hc
  rw [← eb] at H
  have L : ∃ n, wX_spill_20 post (nI p) bs mo fa fo lo up re 1 ma 0 oe n (nI (mr_c b 0)) (nI 0) (nI (mr_c b 0)) a1 a2 a3 a4 a5 a6 a7 a8 a9 a10 a11 a12 a13 a14 a15 := by
    refine pk_loop (σ := (Nat → Int32) × (Nat → Int32) × (Nat → Int32)) (fun n i s => wX_spill_20 post (nI p) bs mo fa fo lo up re 1 ma 0 oe n (nI (mr_c b i)) (nI i) (nI (mr_c b i)) a1 a2 a3 a4 a5 a6 a7 s.1 s.2.1 s.2.2 a11 a12 a13 a14 a15) (fun i s => (b < i → s.1 0 = nI q ∧ s.2.1 0 = a7 0) ∧ ∀ j, j < i → s.2.2 j = nI (mr_c b j)) 4 0 (a8, a9, a10) (by omega) ⟨fun h => absurd h (by omega), fun j h => absurd h (by omega)⟩ ?_ ?_
    · intro n s h
      obtain ⟨a8, a9, a10⟩ := s
      obtain ⟨h1, h2⟩ := h
      dsimp only at h1 h2 ⊢
      rw [mr_c1 hb]
      refine pk_le 4 4 (fun _ => ⟨pk_in 4 160 (by omega) (by decide), nm_r (e' := upd a10 4 (nI (mr_c b 4))) ?_ (nm_r (e' := 1) (by decide) (H a8 a9 _ (h1 hb).1 (h1 hb).2 (fun j hj => mr_ups (g := fun j => nI (mr_c b j)) h2 rfl (by omega))))⟩) (fun z => absurd z (by omega))
      rw [mr_c1 hb, show ((5 : Int32) * 0 + 4).toNatClampNeg = 4 from by decide, mr_nb 1 (by omega)]
    · intro n i s hi h hw
      obtain ⟨a8, a9, a10⟩ := s
      obtain ⟨h1, h2⟩ := h
      dsimp only at h1 h2 ⊢
      have hw' : ∀ a8' a9' a10' : Nat → Int32, (b < i + 1 → a8' 0 = nI q ∧ a9' 0 = a7 0) → (∀ j, j < i + 1 → a10' j = nI (mr_c b j)) → wX_spill_20 post (nI p) bs mo fa fo lo up re 1 ma 0 oe n (nI (mr_c b (i + 1))) (nI (i + 1)) (nI (mr_c b (i + 1))) a1 a2 a3 a4 a5 a6 a7 a8' a9' a10' a11 a12 a13 a14 a15 := fun x y z u w => hw (x, y, z) ⟨u, w⟩
      have h3 : ∀ j, j < i + 1 → upd a10 i (nI (mr_c b i)) j = nI (mr_c b j) := fun j hj => mr_ups (g := fun j => nI (mr_c b j)) h2 rfl hj
      refine pk_le 4 i (fun z => absurd z (by omega)) (fun _ => ⟨pk_in i 160 (by omega) (mr_50 i), nm_r (e' := upd a10 i (nI (mr_c b i))) ?_ ?_⟩)
      · rw [mr_50, nI_clamp (by omega), mr_nb _ (mr_cl b i)]
      · rcases Nat.lt_trichotomy i b with g | g | g
        · have w := hw' a8 a9 _ (fun z => absurd z (by omega)) h3
          rw [mr_c0 (show i + 1 ≤ b by omega)] at w
          rw [mr_c0 (show i ≤ b by omega)] at w ⊢
          refine ⟨1, pk_le 1 0 (fun z => absurd z (by omega)) (fun _ => ⟨pk_in 0 8 (by omega), hp0, br_f ?_ (nm_r (nI_1 i) w)⟩)⟩
          rw [mr_k0, h6, hc, nI_eq (by omega) (by omega)]
          omega
        · have w := hw' (upd a8 0 (nI q)) (upd a9 0 (a7 0)) _ (fun _ => ⟨pk_us, pk_us⟩) h3
          rw [mr_c1 (show b < i + 1 by omega)] at w
          rw [mr_c0 (show i ≤ b by omega)] at w ⊢
          refine ⟨2, pk_le 1 0 (fun z => absurd z (by omega)) (fun _ => ⟨pk_in 0 8 (by omega), hp0, br_t ?_ ⟨pk_in 0 8 (by omega), pk_in 0 64 (by omega), nm_r (e' := upd a8 0 (nI q)) ?_ ⟨pk_in 0 8 (by omega), pk_in 0 64 (by omega), nm_r (e' := upd a9 0 (a7 0)) ?_ (nm_r (e' := nI 1) (by decide) (nm_r (e' := nI 1) (by decide) (pk_le 1 1 (fun _ => nm_r (nI_1 i) w) (fun z => absurd z (by omega)))))⟩⟩⟩)⟩
          · rw [mr_k0, h6, hc, g]
          · rw [mr_k0, h6, mr_vb q hq]
          · rw [mr_k0]
        · have w := hw' a8 a9 _ (fun _ => h1 g) h3
          rw [mr_c1 (show b < i + 1 by omega)] at w
          rw [mr_c1 g] at w ⊢
          exact ⟨1, pk_le 1 1 (fun _ => nm_r (nI_1 i) w) (fun z => absurd z (by omega))⟩
  rw [mr_c0 (Nat.zero_le b)] at L
  exact L
theorem mr_spill {p q : Nat} (hp : 0 < p) (hp4 : p ≤ 4) (hq : q < 16) (h6 : a6 0 = nI q)
    (H : ∀ a8' a9' a10' : Nat → Int32, a8' 0 = nI q → a9' 0 = a7 0 → (∀ j, j ≤ 4 → a10' j = nI (mr_c (q % p) j)) → post (nI p, bs, mo, fa, fo, lo, up, 0, 0, ma, 1, 1, oe, a1, a2, a3, a4, a5, a6, a7, a8', a9', a10', a11, a12, a13, a14, a15)) :
    wpX_spill post (nI p, bs, mo, fa, fo, lo, up, 0, 1, ma, 0, 0, oe, a1, a2, a3, a4, a5, a6, a7, a8, a9, a10, a11, a12, a13, a14, a15) :=
  ⟨1, br_t (by decide) (br_f (by decide) ⟨1, br_t (by decide) (nm_r (e' := 1) (by decide) (mr_20 hp hp4 hq h6 H))⟩)⟩
theorem mr_57 {x2 x3 : Int32} {q : Nat} (hq : q < 16) (h3 : x3 = nI q) (hbs : ¬ (0 : Int32) = bs)
    (H : post (pc, bs, mo, fa, fo, lo, up, 0, 1, ma, sc, se, oe, a1, a2, a3, a4, a5, upd a6 0 (nI q), upd a7 0 (fa * x2 + fo), a8, a9, a10, a11, a12, a13, a14, a15)) : wX_mapRecord_57 post x2 x3 pc bs mo fa fo lo up 0 0 ma sc se oe a1 a2 a3 a4 a5 a6 a7 a8 a9 a10 a11 a12 a13 a14 a15 := by
  subst h3
  refine br_f hbs ⟨pk_in 0 8 (by omega), nm_r (e' := upd a6 0 (nI q)) ?_ (br_f (by decide) ⟨pk_in 0 8 (by omega), nm_r (e' := upd a7 0 (fa * x2 + fo)) ?_ (nm_r (e' := 1) (by decide) H)⟩)⟩
  · rw [sb_cl0, mr_nb q hq]
  · rw [sb_cl0]
theorem mr_rec {x : Int32} {s q : Nat} (hs : s < 4) (hx : x = nI (16 * s)) (hmo : ¬ mo = 0) (hbs : ¬ (0 : Int32) = bs) (hk : mr_key (a2 (16 * s)) mo (nI q)) (hq : q < 16)
    (H : post (pc, bs, mo, fa, fo, (-2147483648), 2147483647, 0, 1, ma + 1, sc, se, oe, a1, a2, a3, a4, a5, upd a6 0 (nI q), upd a7 0 (fa * a3 (16 * s) + fo), a8, a9, a10, a11, a12, a13, a14, a15)) :
    wpX_mapRecord post (pc, bs, mo, fa, fo, (-2147483648), 2147483647, 0, 0, ma, sc, se, oe, a1, a2, a3, a4, a5, a6, a7, a8, a9, a10, a11, a12, a13, a14, a15) x := by
  subst hx
  have hc : (nI (16 * s)).toNatClampNeg = 16 * s := nI_clamp (by omega)
  refine ⟨pk_in (16 * s) 64 (by omega), nm_r (e' := a3 (16 * s)) (by rw [hc]) (br_f (mr_lo _) (br_t (mr_hi _) (nm_e ⟨pk_in (16 * s) 64 (by omega), hmo, nm_r (e' := a2 (16 * s) - a2 (16 * s) / mo * mo) (by rw [hc]) (br_c (fun h => mr_57 hq (hk.1 h) hbs H) (fun h => nm_r (hk.2 h) (mr_57 hq rfl hbs H)))⟩)))⟩
theorem mr_ms0 {s : Nat} (hs : s < 4) (h4 : a4 s = 0) (h1 : a1 s = 0) (H : post (pc, bs, mo, fa, fo, lo, up, re, 0, ma, sc, se, oe, a1, a2, a3, a4, a5, a6, a7, a8, a9, a10, a11, a12, a13, a14, a15)) : wpX_mapSplit post (pc, bs, mo, fa, fo, lo, up, re, bu, ma, sc, se, oe, a1, a2, a3, a4, a5, a6, a7, a8, a9, a10, a11, a12, a13, a14, a15) (nI s) :=
  ⟨pk_in s 4 hs, nm_r (e' := 0) (by rw [nI_clamp (by omega)]; exact h4) ⟨2, br_f (by decide) (br_t (by decide) ⟨pk_in s 4 hs, nm_r (e' := 0) (by rw [nI_clamp (by omega)]; exact h1) ⟨1, br_t (by decide) (br_t (by decide) (nm_r (e' := -1) (by decide) (br_t (by decide) H)))⟩⟩)⟩⟩
theorem mr_ms1 {s p q : Nat} (hs : s < 4) (hp : 0 < p) (hp4 : p ≤ 4) (h4 : a4 s = 0) (h1 : a1 s = 1) (hmo : ¬ mo = 0) (hbs : ¬ (0 : Int32) = bs) (hk : mr_key (a2 (16 * s)) mo (nI q)) (hq : q < 16)
    (H : ∀ a6' a7' a8' a9' a10' : Nat → Int32, a8' 0 = nI q → a9' 0 = fa * a3 (16 * s) + fo → (∀ j, j ≤ 4 → a10' j = nI (mr_c (q % p) j)) → post (nI p, bs, mo, fa, fo, (-2147483648), 2147483647, 0, 0, ma + 1, 1, 1, oe, a1, a2, a3, a4, a5, a6', a7', a8', a9', a10', a11, a12, a13, a14, a15)) :
    wpX_mapSplit post (nI p, bs, mo, fa, fo, (-2147483648), 2147483647, 0, bu, ma, 0, 0, oe, a1, a2, a3, a4, a5, a6, a7, a8, a9, a10, a11, a12, a13, a14, a15) (nI s) :=
  ⟨pk_in s 4 hs, nm_r (e' := 0) (by rw [nI_clamp (by omega)]; exact h4) ⟨2, br_f (by decide) (br_t (by decide) ⟨pk_in s 4 hs, nm_r (e' := 1) (by rw [nI_clamp (by omega)]; exact h1) ⟨2, br_f (by decide) (mr_rec hs (mr_16 s) hmo hbs hk hq (nm_r (e' := 1) (by decide) (br_t (by decide) (br_f (by decide) (mr_spill hp hp4 hq pk_us (fun a8' a9' a10' h8 h9 h10 => nm_r (e' := -1) (by decide) (br_t (by decide) (H _ _ a8' a9' a10' h8 (h9.trans pk_us) h10))))))))⟩⟩)⟩⟩
end
end
section
section
variable {pc bs mo fa fo lo up re bu ma sc se oe : Int32} {a1 a2 a3 a4 a5 a6 a7 a8 a9 a10 a11 a12 a13 a14 a15 : Nat → Int32}
variable {post : St2 → Prop} {pr : Int32 → Prop}
theorem mr_osp {j x y : Nat} (hj : j < 4) (hx : x < 16) (hy : y < 16) (ex : a10 j = nI x) (ey : a10 (j + 1) = nI y)
    (H : post (pc, bs, mo, fa, fo, lo, up, re, bu, ma, 1, se, oe, a1, a2, a3, a4, a5, a6, a7, a8, a9, a10, upd a11 0 (nI x), upd a12 0 (nI y), a13, a14, a15)) : wpX_openSpills post (pc, bs, mo, fa, fo, lo, up, re, bu, ma, 1, se, oe, a1, a2, a3, a4, a5, a6, a7, a8, a9, a10, a11, a12, a13, a14, a15) (nI j) := by
  refine ⟨2, br_f (by decide) ⟨pk_in j 160 (by omega) (mr_50 j), pk_in 0 32 (by omega), nm_r (e' := upd a11 0 (nI x)) ?_ ⟨pk_in (j + 1) 160 (by omega) (mr_51 j), pk_in 0 32 (by omega), nm_r (e' := upd a12 0 (nI y)) ?_ (nm_r (e' := 1) (by decide) (br_t (by decide) H))⟩⟩⟩
  · rw [mr_50, nI_clamp (by omega), ex, mr_vb x hx, sb_cl0]
  · rw [mr_51, nI_clamp (by omega), ey, mr_vb y hy, sb_cl0]
theorem mr_least0 (h : a11 0 = a12 0) (H : pr (-1)) : wpX_leastHead pr (pc, bs, mo, fa, fo, lo, up, re, bu, ma, 1, se, oe, a1, a2, a3, a4, a5, a6, a7, a8, a9, a10, a11, a12, a13, a14, a15) :=
  ⟨2, br_f (by decide) ⟨pk_in 0 32 (by omega), pk_in 0 32 (by omega), br_t (by rw [sb_cl0]; exact h) (nm_r (e' := 1) (by decide) (br_t (by decide) H))⟩⟩
theorem mr_least1 {q : Nat} (h11 : a11 0 = nI 0) (h12 : a12 0 = nI 1) (h8 : a8 0 = nI q) (H : pr (nI q)) : wpX_leastHead pr (pc, bs, mo, fa, fo, lo, up, re, bu, ma, 1, se, oe, a1, a2, a3, a4, a5, a6, a7, a8, a9, a10, a11, a12, a13, a14, a15) :=
  ⟨2, br_f (by decide) ⟨pk_in 0 32 (by omega), pk_in 0 32 (by omega), br_f (by rw [sb_cl0, h11, h12]; decide) ⟨pk_in 0 32 (by omega), pk_in 0 64 (by omega) (by rw [sb_cl0]; exact h11), nm_r (e' := nI q) (by rw [sb_cl0, h11, mr_k0]; exact h8) (br_t (by decide) (nm_r (e' := 1) (by decide) (br_t (by decide) H)))⟩⟩⟩
theorem mr_group {q w : Nat} (hq : q < 16) (hw : w < 16) (h11 : a11 0 = nI 0) (h12 : a12 0 = nI 1) (h8 : a8 0 = nI q)
    (H : post (pc, bs, mo, fa, fo, lo, up, 0, bu, ma, 1, se, nI (w + 1), a1, a2, a3, a4, a5, a6, a7, a8, a9, a10, upd a11 0 (nI 1), a12, a13, upd a14 w (nI q), upd a15 w (a9 0))) : wpX_reduceGroup post (pc, bs, mo, fa, fo, lo, up, 0, bu, ma, 1, se, nI w, a1, a2, a3, a4, a5, a6, a7, a8, a9, a10, a11, a12, a13, a14, a15) (nI q) := by
  have e11 : a11 (0 : Int32).toNatClampNeg = nI 0 := by rw [sb_cl0]; exact h11
  have e12 : a12 (0 : Int32).toNatClampNeg = nI 1 := by rw [sb_cl0]; exact h12
  refine br_f (by decide) ⟨2, br_f (by decide) ⟨2, pk_in 0 32 (by omega), pk_in 0 32 (by omega), br_f (by rw [e11, e12]; decide) ⟨pk_in 0 32 (by omega), pk_in 0 64 (by omega) e11, br_t (by rw [e11, mr_k0]; exact h8) ⟨pk_in 0 32 (by omega), pk_in 0 64 (by omega) e11, nm_r (e' := a9 0) (by rw [e11, mr_k0]) (br_f (by decide) (br_t rfl ⟨pk_in 0 32 (by omega), pk_in 0 32 (by omega), nm_r (e' := upd a11 0 (nI 1)) ?_ ⟨pk_in 0 32 (by omega), pk_in 0 32 (by omega), br_t ?_ (nm_r (e' := 1) (by decide) (br_t (by decide) ⟨pk_in w 16 hw, nm_r (e' := upd a14 w (nI q)) ?_ ⟨pk_in w 16 hw, nm_r (e' := upd a15 w (a9 0)) ?_ (nm_r (nI_1 w) H)⟩⟩))⟩⟩))⟩⟩⟩⟩
  · rw [e11, sb_cl0]
    exact congrArg (upd a11 0) (by decide)
  · rw [e12, sb_cl0, pk_us]
    decide
  · rw [nI_clamp (by omega), mr_nb q hq]
  · rw [nI_clamp (by omega)]
theorem mr_rp0 {j : Nat} (hj : j < 4) (h5 : a5 j = 0) (H : post (pc, bs, mo, fa, fo, lo, up, re, bu, ma, 0, se, oe, a1, a2, a3, a4, a5, a6, a7, a8, a9, a10, a11, a12, a13, a14, a15)) : wpX_reducePart post (pc, bs, mo, fa, fo, lo, up, re, bu, ma, 0, se, oe, a1, a2, a3, a4, a5, a6, a7, a8, a9, a10, a11, a12, a13, a14, a15) (nI j) :=
  ⟨pk_in j 4 hj, nm_r (e' := 0) (by rw [nI_clamp (by omega)]; exact h5) ⟨2, br_f (by decide) ⟨1, br_t (by decide) ⟨1, br_t (by decide) ⟨1, br_t (by decide) (nm_r (e' := -1) (by decide) (br_t (by decide) H))⟩⟩⟩⟩⟩
theorem mr_rp1 {j x : Nat} (hj : j < 4) (h5 : a5 j = 0) (hx : x < 16) (ex : a10 j = nI x) (ey : a10 (j + 1) = nI x)
    (H : post (pc, bs, mo, fa, fo, lo, up, re, bu, ma, 1, se, oe, a1, a2, a3, a4, a5, a6, a7, a8, a9, a10, upd a11 0 (nI x), upd a12 0 (nI x), a13, a14, a15)) : wpX_reducePart post (pc, bs, mo, fa, fo, lo, up, re, bu, ma, 1, se, oe, a1, a2, a3, a4, a5, a6, a7, a8, a9, a10, a11, a12, a13, a14, a15) (nI j) :=
  ⟨pk_in j 4 hj, nm_r (e' := 0) (by rw [nI_clamp (by omega)]; exact h5) ⟨2, br_f (by decide) (mr_osp hj hx hx ex ey (mr_least0 (pk_us.trans pk_us.symm) ⟨1, br_t (by decide) (nm_r (e' := -1) (by decide) (br_t (by decide) H))⟩))⟩⟩
theorem mr_rp2 {j q w : Nat} (hj : j < 4) (h5 : a5 j = 0) (hq : q < 16) (hw : w < 16) (ex : a10 j = nI 0) (ey : a10 (j + 1) = nI 1) (h8 : a8 0 = nI q)
    (H : post (pc, bs, mo, fa, fo, lo, up, 0, bu, ma, 1, se, nI (w + 1), a1, a2, a3, a4, a5, a6, a7, a8, a9, a10, upd (upd a11 0 (nI 0)) 0 (nI 1), upd a12 0 (nI 1), a13, upd a14 w (nI q), upd a15 w (a9 0))) : wpX_reducePart post (pc, bs, mo, fa, fo, lo, up, 0, bu, ma, 1, se, nI w, a1, a2, a3, a4, a5, a6, a7, a8, a9, a10, a11, a12, a13, a14, a15) (nI j) :=
  ⟨pk_in j 4 hj, nm_r (e' := 0) (by rw [nI_clamp (by omega)]; exact h5) ⟨2, br_f (by decide) (mr_osp hj (by omega) (by omega) ex ey (mr_least1 pk_us pk_us h8 ⟨2, br_f (nI_pos (by omega)) (br_f (by decide) (mr_group hq hw pk_us pk_us h8 (br_t rfl (mr_least0 (pk_us.trans pk_us.symm) (br_t (by decide) (nm_r (e' := -1) (by decide) (br_t (by decide) H)))))))⟩))⟩⟩
end
end
section
section
variable {pc bs mo fa fo lo up re bu ma sc se oe : Int32} {a1 a2 a3 a4 a5 a6 a7 a8 a9 a10 a11 a12 a13 a14 a15 : Nat → Int32}
variable {po : Int32 → St2 → Prop}
theorem mr_104 {J : Int32 → Int32 → Int32 → Int32 → Int32 → Int32 → Int32 → Int32 → Int32 → Int32 → Int32 → Int32 → Int32 → Int32 → (Nat → Int32) → (Nat → Int32) → (Nat → Int32) → (Nat → Int32) → (Nat → Int32) → (Nat → Int32) → (Nat → Int32) → (Nat → Int32) → (Nat → Int32) → (Nat → Int32) → (Nat → Int32) → (Nat → Int32) → (Nat → Int32) → (Nat → Int32) → (Nat → Int32) → Prop} {x2 : Int32} {i : Nat} (hi : i < 4)
    (H : J (nI (i + 1)) pc bs mo fa fo lo up re bu ma sc se oe a1 a2 a3 (upd a4 i 0) (upd a5 i 0) a6 a7 a8 a9 a10 a11 a12 a13 a14 a15) : wX_run_104 po J x2 (nI i) pc bs mo fa fo lo up re bu ma sc se oe a1 a2 a3 a4 a5 a6 a7 a8 a9 a10 a11 a12 a13 a14 a15 :=
  ⟨pk_in i 4 hi, nm_r (e' := upd a4 i 0) (by rw [nI_clamp (by omega)]) ⟨pk_in i 4 hi, nm_r (e' := upd a5 i 0) (by rw [nI_clamp (by omega)]) (nm_r (nI_1 i) H)⟩⟩
theorem mr_up0 {f : Nat → Int32} {i : Nat} (h : ∀ j, j < 4 → f j = 0) : ∀ j, j < 4 → upd f i 0 j = 0 := by
  intro j hj
  by_cases e : j = i
  · rw [e, pk_us]
  · rw [pk_un e]
    exact h j hj
/-- what the map tasks leave: no spill (b = 4), or one with the pair (q, v) in part b -/
def mr_R (p q b : Nat) (v sc : Int32) (a8 a9 a10 : Nat → Int32) : Prop := (b = 4 ∧ sc = 0) ∨ (b < p ∧ sc = 1 ∧ a8 0 = nI q ∧ a9 0 = v ∧ ∀ j, j ≤ 4 → a10 j = nI (mr_c b j))
theorem mr_71s {p q b n i : Nat} {v : Int32} (hp4 : p ≤ 4) (hq : q < 16) (hi : i < 4) (R : mr_R p q b v sc a8 a9 a10)
    (h5 : ∀ j, j < 4 → a5 j = 0) (h13 : ∀ j, j < i → a13 j = nI (mr_c b j)) (h14 : b < i → a14 0 = nI q ∧ a15 0 = v)
    (H : ∀ a4' a5' a11' a12' a13' a14' a15' : Nat → Int32, (∀ j, j < 4 → a5' j = 0) → (∀ j, j < i + 1 → a13' j = nI (mr_c b j)) → (b < i + 1 → a14' 0 = nI q ∧ a15' 0 = v) → wX_run_71 po 0 n (nI (i + 1)) (nI p) bs mo fa fo lo up 0 bu ma sc se (nI (mr_c b (i + 1))) a1 a2 a3 a4' a5' a6 a7 a8 a9 a10 a11' a12' a13' a14' a15') :
    wX_run_71 po 0 (n + 1) (nI i) (nI p) bs mo fa fo lo up 0 bu ma sc se (nI (mr_c b i)) a1 a2 a3 a4 a5 a6 a7 a8 a9 a10 a11 a12 a13 a14 a15 := by
  have g13 : ∀ j, j < i + 1 → upd a13 i (nI (mr_c b i)) j = nI (mr_c b j) := fun j hj => mr_ups (g := fun j => nI (mr_c b j)) h13 rfl hj
  have g5 : ∀ j, j < 4 → upd a5 i 0 j = 0 := mr_up0 h5
  refine pk_le 4 i (fun z => absurd z (by omega)) (fun _ => ⟨pk_in i 5 (by omega), nm_r (e' := upd a13 i (nI (mr_c b i))) ?_ (br_t rfl ?_)⟩)
  · rw [nI_clamp (by omega), mr_nb _ (mr_cl b i)]
  · rcases R with ⟨rb, rs⟩ | ⟨rb, rs, r8, r9, r10⟩
    · subst rs
      have e : mr_c b (i + 1) = mr_c b i := by rw [mr_c0 (by omega), mr_c0 (by omega)]
      rw [e] at H
      exact pk_le p i (fun _ => mr_104 hi (H _ _ _ _ _ _ _ g5 g13 (fun z => absurd z (by omega)))) (fun _ => mr_rp0 hi (h5 i hi) (mr_104 hi (H _ _ _ _ _ _ _ g5 g13 (fun z => absurd z (by omega)))))
    · subst rs
      rcases Nat.lt_trichotomy i b with g | g | g
      · have e : mr_c b (i + 1) = mr_c b i := by rw [mr_c0 (by omega), mr_c0 (by omega)]
        have k := r10 (i + 1) (by omega)
        rw [e] at H k
        exact pk_le p i (fun z => absurd z (by omega)) (fun _ => mr_rp1 hi (h5 i hi) (mr_cl b i) (r10 i (by omega)) k (mr_104 hi (H _ _ _ _ _ _ _ g5 g13 (fun z => absurd z (by omega)))))
      · have k := r10 i (by omega)
        have k' := r10 (i + 1) (by omega)
        rw [mr_c1 (show b < i + 1 by omega)] at H k'
        rw [mr_c0 (show i ≤ b by omega)] at k g13 ⊢
        refine pk_le p i (fun z => absurd z (by omega)) (fun _ => mr_rp2 hi (h5 i hi) hq (w := 0) (by omega) k k' r8 (mr_104 hi (H _ _ _ _ _ _ _ g5 g13 (fun _ => ⟨pk_us, pk_us.trans r9⟩))))
      · have e : mr_c b (i + 1) = mr_c b i := by rw [mr_c1 (by omega), mr_c1 (by omega)]
        have k := r10 (i + 1) (by omega)
        rw [e] at H k
        exact pk_le p i (fun _ => mr_104 hi (H _ _ _ _ _ _ _ g5 g13 (fun _ => h14 g))) (fun _ => mr_rp1 hi (h5 i hi) (mr_cl b i) (r10 i (by omega)) k (mr_104 hi (H _ _ _ _ _ _ _ g5 g13 (fun _ => h14 g))))
theorem mr_71 {p q b : Nat} {v : Int32} (hp4 : p ≤ 4) (hq : q < 16) (R : mr_R p q b v sc a8 a9 a10) (h5 : ∀ j, j < 4 → a5 j = 0)
    (H : ∀ a4' a5' a11' a12' a13' a14' a15' : Nat → Int32, (∀ j, j ≤ 4 → a13' j = nI (mr_c b j)) → (b < 4 → a14' 0 = nI q ∧ a15' 0 = v) → po (nI (mr_c b 4)) (nI p, bs, mo, fa, fo, lo, up, 0, bu, ma, sc, se, nI (mr_c b 4), a1, a2, a3, a4', a5', a6, a7, a8, a9, a10, a11', a12', a13', a14', a15')) :
    ∃ n, wX_run_71 po 0 n 0 (nI p) bs mo fa fo lo up 0 bu ma sc se 0 a1 a2 a3 a4 a5 a6 a7 a8 a9 a10 a11 a12 a13 a14 a15 := by
  have L : ∃ n, wX_run_71 po 0 n (nI 0) (nI p) bs mo fa fo lo up 0 bu ma sc se (nI (mr_c b 0)) a1 a2 a3 a4 a5 a6 a7 a8 a9 a10 a11 a12 a13 a14 a15 := by
    refine pk_loop (σ := (Nat → Int32) × (Nat → Int32) × (Nat → Int32) × (Nat → Int32) × (Nat → Int32) × (Nat → Int32) × (Nat → Int32)) (fun n i s => wX_run_71 po 0 n (nI i) (nI p) bs mo fa fo lo up 0 bu ma sc se (nI (mr_c b i)) a1 a2 a3 s.1 s.2.1 a6 a7 a8 a9 a10 s.2.2.1 s.2.2.2.1 s.2.2.2.2.1 s.2.2.2.2.2.1 s.2.2.2.2.2.2) (fun i s => (∀ j, j < 4 → s.2.1 j = 0) ∧ (∀ j, j < i → s.2.2.2.2.1 j = nI (mr_c b j)) ∧ (b < i → s.2.2.2.2.2.1 0 = nI q ∧ s.2.2.2.2.2.2 0 = v)) 4 0 (a4, a5, a11, a12, a13, a14, a15) (by omega) ⟨h5, fun j h => absurd h (by omega), fun h => absurd h (by omega)⟩ ?_ ?_
    · intro n s h
      obtain ⟨a4, a5, a11, a12, a13, a14, a15⟩ := s
      obtain ⟨h1, h2, h3⟩ := h
      dsimp only at h1 h2 h3 ⊢
      refine pk_le 4 4 (fun _ => nm_r (e' := upd a13 4 (nI (mr_c b 4))) ?_ (br_t rfl (H _ _ _ _ _ _ _ (fun j hj => mr_ups (g := fun j => nI (mr_c b j)) h2 rfl (by omega)) h3))) (fun z => absurd z (by omega))
      rw [mr_nb _ (mr_cl b 4)]
    · intro n i s hi h hw
      obtain ⟨a4, a5, a11, a12, a13, a14, a15⟩ := s
      obtain ⟨h1, h2, h3⟩ := h
      dsimp only at h1 h2 h3 ⊢
      exact mr_71s hp4 hq hi R h1 h2 h3 (fun a4' a5' a11' a12' a13' a14' a15' k1 k2 k3 => hw (a4', a5', a11', a12', a13', a14', a15') ⟨k1, k2, k3⟩)
  rw [mr_c0 (Nat.zero_le b)] at L
  exact L
theorem mr_48 {p q b sp : Nat} {v : Int32} (hp : 0 < p) (hp4 : p ≤ 4) (hq : q < 16) (hsp : sp ≤ 4) (hb : sp < 4 → b = q % p) (hb4 : sp = 4 → b = 4)
    (h1 : ∀ j, j < 4 → j ≠ sp → a1 j = 0) (h1' : sp < 4 → a1 sp = 1) (h4 : ∀ j, j < 4 → a4 j = 0) (h5 : ∀ j, j < 4 → a5 j = 0)
    (hmo : ¬ mo = 0) (hbs : ¬ (0 : Int32) = bs) (hk : sp < 4 → mr_key (a2 (16 * sp)) mo (nI q)) (hv : sp < 4 → fa * a3 (16 * sp) + fo = v)
    (H : ∀ (bu' ma' sc' se' : Int32) (a4' a5' a6' a7' a8' a9' a10' a11' a12' a13' a14' a15' : Nat → Int32), (∀ j, j ≤ 4 → a13' j = nI (mr_c b j)) → (b < 4 → a14' 0 = nI q ∧ a15' 0 = v) → po (nI (mr_c b 4)) (nI p, bs, mo, fa, fo, (-2147483648), 2147483647, 0, bu', ma', sc', se', nI (mr_c b 4), a1, a2, a3, a4', a5', a6', a7', a8', a9', a10', a11', a12', a13', a14', a15')) :
    ∃ n, wX_run_48 po 0 n 0 (nI p) bs mo fa fo ((-2147483648)) 2147483647 0 bu ma 0 0 oe a1 a2 a3 a4 a5 a6 a7 a8 a9 a10 a11 a12 a13 a14 a15 := by
  refine pk_loop (σ := Int32 × Int32 × Int32 × Int32 × (Nat → Int32) × (Nat → Int32) × (Nat → Int32) × (Nat → Int32) × (Nat → Int32)) (fun n i s => wX_run_48 po 0 n (nI i) (nI p) bs mo fa fo ((-2147483648)) 2147483647 0 s.1 s.2.1 s.2.2.1 s.2.2.2.1 oe a1 a2 a3 a4 a5 s.2.2.2.2.1 s.2.2.2.2.2.1 s.2.2.2.2.2.2.1 s.2.2.2.2.2.2.2.1 s.2.2.2.2.2.2.2.2 a11 a12 a13 a14 a15) (fun i s => (i ≤ sp ∧ s.2.2.1 = 0 ∧ s.2.2.2.1 = 0) ∨ (sp < i ∧ s.2.2.1 = 1 ∧ s.2.2.2.2.2.2.1 0 = nI q ∧ s.2.2.2.2.2.2.2.1 0 = v ∧ ∀ j, j ≤ 4 → s.2.2.2.2.2.2.2.2 j = nI (mr_c b j))) 4 0 (bu, ma, 0, 0, a6, a7, a8, a9, a10) (by omega) (Or.inl ⟨Nat.zero_le sp, rfl, rfl⟩) ?_ ?_
  · intro n s h
    obtain ⟨bu, ma, sc, se, a6, a7, a8, a9, a10⟩ := s
    dsimp only at h ⊢
    have R : mr_R p q b v sc a8 a9 a10 := by
      rcases h with ⟨k1, k2, k3⟩ | ⟨k1, k2, k3⟩
      · exact Or.inl ⟨hb4 (by omega), k2⟩
      · have := Nat.mod_lt q hp
        have e := hb k1
        exact Or.inr ⟨by omega, k2, k3⟩
    exact pk_le 4 4 (fun _ => mr_71 hp4 hq R h5 (fun a4' a5' a11' a12' a13' a14' a15' k1 k2 => H _ _ _ _ _ _ _ _ _ _ _ _ _ _ _ _ k1 k2)) (fun z => absurd z (by omega))
  · intro n i s hi h hw
    obtain ⟨bu, ma, sc, se, a6, a7, a8, a9, a10⟩ := s
    dsimp only at h ⊢
    refine pk_le 4 i (fun z => absurd z (by omega)) (fun _ => ?_)
    rcases h with ⟨k1, k2, k3⟩ | ⟨k1, k2, k3⟩
    · subst k2 k3
      by_cases e : i = sp
      · subst e
        exact mr_ms1 hi hp hp4 (h4 i hi) (h1' hi) hmo hbs (hk hi) hq (fun a6' a7' a8' a9' a10' g8 g9 g10 => nm_r (nI_1 i) (hw (0, ma + 1, 1, 1, a6', a7', a8', a9', a10') (Or.inr ⟨Nat.lt_succ_self i, rfl, g8, g9.trans (hv hi), fun j hj => by rw [hb hi]; exact g10 j hj⟩)))
      · exact mr_ms0 hi (h4 i hi) (h1 i hi e) (nm_r (nI_1 i) (hw (0, ma, 0, 0, a6, a7, a8, a9, a10) (Or.inl ⟨by omega, rfl, rfl⟩)))
    · exact mr_ms0 hi (h4 i hi) (h1 i hi (by omega)) (nm_r (nI_1 i) (hw (0, ma, sc, se, a6, a7, a8, a9, a10) (Or.inr ⟨by omega, k2, k3⟩)))
theorem mr_run {p q b sp : Nat} {v : Int32} (hp : 0 < p) (hp4 : p ≤ 4) (hq : q < 16) (hsp : sp ≤ 4) (hb : sp < 4 → b = q % p) (hb4 : sp = 4 → b = 4)
    (h1 : ∀ j, j < 4 → j ≠ sp → a1 j = 0) (h1' : sp < 4 → a1 sp = 1) (h4 : ∀ j, j < 4 → a4 j = 0) (h5 : ∀ j, j < 4 → a5 j = 0)
    (hmo : ¬ mo = 0) (hbs : ¬ (0 : Int32) = bs) (hk : sp < 4 → mr_key (a2 (16 * sp)) mo (nI q)) (hv : sp < 4 → fa * a3 (16 * sp) + fo = v)
    (H : ∀ (bu' ma' sc' se' : Int32) (a4' a5' a6' a7' a8' a9' a10' a11' a12' a13' a14' a15' : Nat → Int32), (∀ j, j ≤ 4 → a13' j = nI (mr_c b j)) → (b < 4 → a14' 0 = nI q ∧ a15' 0 = v) → po (nI (mr_c b 4)) (nI p, bs, mo, fa, fo, (-2147483648), 2147483647, 0, bu', ma', sc', se', nI (mr_c b 4), a1, a2, a3, a4', a5', a6', a7', a8', a9', a10', a11', a12', a13', a14', a15')) :
    wpX_run po (nI p, bs, mo, fa, fo, (-2147483648), 2147483647, re, bu, ma, sc, se, oe, a1, a2, a3, a4, a5, a6, a7, a8, a9, a10, a11, a12, a13, a14, a15) 0 :=
  br_f (by decide) (br_t (by decide) (mr_fail h4 h5 (br_t (by decide) (mr_48 hp hp4 hq hsp hb hb4 h1 h1' h4 h5 hmo hbs hk hv H))))
end
end
section
section
variable {pc bs mo fa fo lo up re bu ma sc se oe : Int32} {a1 a2 a3 a4 a5 a6 a7 a8 a9 a10 a11 a12 a13 a14 a15 : Nat → Int32}
variable {post : St2 → Prop} {pr : Int32 → Prop} {po : Int32 → St2 → Prop}
theorem mr_resN {p : Nat} {x : Int32} (hx : x < 0 ∨ nI p ≤ x) (H : pr (-1)) : wpX_results pr (nI p, bs, mo, fa, fo, lo, up, re, bu, ma, sc, se, oe, a1, a2, a3, a4, a5, a6, a7, a8, a9, a10, a11, a12, a13, a14, a15) x := by
  refine br_c (fun _ => H) (fun h => br_f ?_ H)
  rcases hx with k | k
  · exact absurd k h
  · exact Int32.not_lt.mpr k
theorem mr_resI {p j : Nat} (hj : j < p) (hp4 : p ≤ 4) (H : pr (a13 (j + 1) - a13 j)) : wpX_results pr (nI p, bs, mo, fa, fo, lo, up, re, bu, ma, sc, se, oe, a1, a2, a3, a4, a5, a6, a7, a8, a9, a10, a11, a12, a13, a14, a15) (nI j) := by
  refine br_f (nI_pos (by omega)) (br_t (nI_lt hj (by omega)) ⟨pk_in (j + 1) 5 (by omega) (nI_1 j), pk_in j 5 (by omega), ?_⟩)
  rw [nI_1, nI_clamp (by omega), nI_clamp (by omega)]
  exact H
theorem mr_isN {p : Nat} {x y : Int32} (hx : x < 0 ∨ nI p ≤ x) (H : pr 0) : wpX_isResult pr (nI p, bs, mo, fa, fo, lo, up, re, bu, ma, sc, se, oe, a1, a2, a3, a4, a5, a6, a7, a8, a9, a10, a11, a12, a13, a14, a15) x y := by
  refine br_c (fun _ => H) (fun h => br_t ?_ H)
  rcases hx with k | k
  · exact absurd k h
  · exact k
theorem mr_isE {p j : Nat} (hj : j < p) (hp4 : p ≤ 4) (h : a13 (j + 1) = a13 j) (H : pr 0) : wpX_isResult pr (nI p, bs, mo, fa, fo, lo, up, re, bu, ma, sc, se, oe, a1, a2, a3, a4, a5, a6, a7, a8, a9, a10, a11, a12, a13, a14, a15) (nI j) 0 := by
  refine br_f (nI_pos (by omega)) (br_f (nI_ge hj (by omega)) (br_t (by decide) ⟨pk_in (j + 1) 5 (by omega) (nI_1 j), pk_in j 5 (by omega), br_t ?_ H⟩))
  rw [nI_1, nI_clamp (by omega), nI_clamp (by omega), h, Int32.sub_self]
  decide
theorem mr_isI {p j : Nat} (hj : j < p) (hp4 : p ≤ 4) (h : a13 (j + 1) = nI 1) (h' : a13 j = nI 0) (H : pr 1) : wpX_isResult pr (nI p, bs, mo, fa, fo, lo, up, re, bu, ma, sc, se, oe, a1, a2, a3, a4, a5, a6, a7, a8, a9, a10, a11, a12, a13, a14, a15) (nI j) 0 := by
  refine br_f (nI_pos (by omega)) (br_f (nI_ge hj (by omega)) (br_t (by decide) ⟨pk_in (j + 1) 5 (by omega) (nI_1 j), pk_in j 5 (by omega), br_f ?_ H⟩))
  rw [nI_1, nI_clamp (by omega), nI_clamp (by omega), h, h']
  decide
theorem mr_keyN {p : Nat} {x y : Int32} (hx : x < 0 ∨ nI p ≤ x) (H : pr (-1)) : wpX_keyAt pr (nI p, bs, mo, fa, fo, lo, up, re, bu, ma, sc, se, oe, a1, a2, a3, a4, a5, a6, a7, a8, a9, a10, a11, a12, a13, a14, a15) x y := by
  unfold wpX_keyAt
  exact mr_isN hx (br_t rfl H)
theorem mr_keyE {p j : Nat} (hj : j < p) (hp4 : p ≤ 4) (h : a13 (j + 1) = a13 j) (H : pr (-1)) : wpX_keyAt pr (nI p, bs, mo, fa, fo, lo, up, re, bu, ma, sc, se, oe, a1, a2, a3, a4, a5, a6, a7, a8, a9, a10, a11, a12, a13, a14, a15) (nI j) 0 := by
  unfold wpX_keyAt
  exact mr_isE hj hp4 h (br_t rfl H)
theorem mr_at' {j : Nat} (hj : j < 4) (h' : a13 j = nI 0) : (a13 (nI j).toNatClampNeg) + 0 = nI 0 := by
  rw [nI_clamp (by omega), h', Int32.add_zero]
theorem mr_keyI {p j : Nat} (hj : j < p) (hp4 : p ≤ 4) (h : a13 (j + 1) = nI 1) (h' : a13 j = nI 0) (H : pr (a14 0)) : wpX_keyAt pr (nI p, bs, mo, fa, fo, lo, up, re, bu, ma, sc, se, oe, a1, a2, a3, a4, a5, a6, a7, a8, a9, a10, a11, a12, a13, a14, a15) (nI j) 0 := by
  unfold wpX_keyAt
  exact mr_isI hj hp4 h h' (br_f (by decide) ⟨pk_in j 5 (by omega), pk_in 0 16 (by omega) (mr_at' (by omega) h'), by rw [mr_at' (by omega) h', mr_k0]; exact H⟩)
theorem mr_valN {p : Nat} {x y : Int32} (hx : x < 0 ∨ nI p ≤ x) (H : pr 0) : wpX_valueAt pr (nI p, bs, mo, fa, fo, lo, up, re, bu, ma, sc, se, oe, a1, a2, a3, a4, a5, a6, a7, a8, a9, a10, a11, a12, a13, a14, a15) x y := by
  unfold wpX_valueAt
  exact mr_isN hx (br_t rfl H)
theorem mr_valE {p j : Nat} (hj : j < p) (hp4 : p ≤ 4) (h : a13 (j + 1) = a13 j) (H : pr 0) : wpX_valueAt pr (nI p, bs, mo, fa, fo, lo, up, re, bu, ma, sc, se, oe, a1, a2, a3, a4, a5, a6, a7, a8, a9, a10, a11, a12, a13, a14, a15) (nI j) 0 := by
  unfold wpX_valueAt
  exact mr_isE hj hp4 h (br_t rfl H)
theorem mr_valI {p j : Nat} (hj : j < p) (hp4 : p ≤ 4) (h : a13 (j + 1) = nI 1) (h' : a13 j = nI 0) (H : pr (a15 0)) : wpX_valueAt pr (nI p, bs, mo, fa, fo, lo, up, re, bu, ma, sc, se, oe, a1, a2, a3, a4, a5, a6, a7, a8, a9, a10, a11, a12, a13, a14, a15) (nI j) 0 := by
  unfold wpX_valueAt
  exact mr_isI hj hp4 h h' (br_f (by decide) ⟨pk_in j 5 (by omega), pk_in 0 16 (by omega) (mr_at' (by omega) h'), by rw [mr_at' (by omega) h', mr_k0]; exact H⟩)
/-- p is x brought to 1 .. 4 -/
def mr_clip (x : Int32) (p : Nat) : Prop := (1 ≤ x → x ≤ 4 → x = nI p) ∧ (1 ≤ x → ¬ x ≤ 4 → p = 4) ∧ (¬ 1 ≤ x → p = 1)
theorem mr_141 {mc ms kc ks p : Nat} {x z : Int32} (hz : z = nI p) (H : ∀ bs' : Int32, ¬ (0 : Int32) = bs' → post (nI p, bs', 16, 1, fo, (-2147483648), 2147483647, re, bu, ma, sc, se, oe, a1, a2, a3, a4, a5, a6, a7, a8, a9, a10, a11, a12, a13, a14, a15)) :
    wX_init_141 post mc ms x z kc ks pc bs mo fa fo lo up re bu ma sc se oe a1 a2 a3 a4 a5 a6 a7 a8 a9 a10 a11 a12 a13 a14 a15 := by
  subst hz
  refine br_c (fun h => br_c (fun _ => H x (fun e => ?_)) (fun _ => H 8 (by decide))) (fun _ => H 2 (by decide))
  rw [← e] at h
  exact absurd h (by decide)
theorem mr_init {p : Nat} {x y : Int32} (hp : mr_clip x p) (H : ∀ bs' : Int32, ¬ (0 : Int32) = bs' → post (nI p, bs', 16, 1, 0, (-2147483648), 2147483647, 0, 0, 0, 0, 0, 0, fun _ => 0, fun _ => 0, fun _ => 0, fun _ => 0, fun _ => 0, fun _ => 0, fun _ => 0, fun _ => 0, fun _ => 0, fun _ => 0, fun _ => 0, fun _ => 0, fun _ => 0, fun _ => 0, fun _ => 0)) :
    wpX_init post 15 545 (0, 0, 0, 0, 0, 0, 0, 0, 0, 0, 0, 0, 0) x y :=
  ⟨by omega, by omega, by omega, by omega, by omega, by omega, by omega, by omega, by omega, by omega, by omega, by omega, by omega, by omega, by omega, by omega, by omega, by omega, by omega, by omega, by omega, by omega, by omega, by omega, by omega, by omega, by omega, by omega, by omega, by omega,
    br_c (fun h => br_c (fun h' => mr_141 (hp.1 h h') H) (fun h' => mr_141 (by rw [hp.2.1 h h']; rfl) H)) (fun h => mr_141 (by rw [hp.2.2 h]; rfl) H)⟩
theorem mr_addN {x k v : Int32} (hx : x < 0 ∨ ¬ x ≤ 3) (H : po (-1) (pc, bs, mo, fa, fo, lo, up, re, bu, ma, sc, se, oe, a1, a2, a3, a4, a5, a6, a7, a8, a9, a10, a11, a12, a13, a14, a15)) : wpX_addRecord po (pc, bs, mo, fa, fo, lo, up, re, bu, ma, sc, se, oe, a1, a2, a3, a4, a5, a6, a7, a8, a9, a10, a11, a12, a13, a14, a15) x k v := by
  refine br_c (fun _ => H) (fun h => br_f ?_ H)
  rcases hx with g | g
  · exact absurd g h
  · exact g
theorem mr_addI {s : Nat} {k v : Int32} (hs : s < 4) (h1 : a1 s = 0) (H : po 1 (pc, bs, mo, fa, fo, lo, up, re, bu, ma, sc, se, oe, upd a1 s 1, upd a2 (16 * s) k, upd a3 (16 * s) v, a4, a5, a6, a7, a8, a9, a10, a11, a12, a13, a14, a15)) : wpX_addRecord po (pc, bs, mo, fa, fo, lo, up, re, bu, ma, sc, se, oe, a1, a2, a3, a4, a5, a6, a7, a8, a9, a10, a11, a12, a13, a14, a15) (nI s) k v := by
  have hc : (nI s).toNatClampNeg = s := nI_clamp (by omega)
  have e : 16 * nI s + a1 (nI s).toNatClampNeg = nI (16 * s) := by rw [hc, h1]; exact mr_16 s
  have hc' : (nI (16 * s)).toNatClampNeg = 16 * s := nI_clamp (by omega)
  refine br_f (nI_pos (by omega)) (br_t (nI_le (b := 3) (by omega) (by omega)) ⟨pk_in s 4 hs, br_t ?_ ⟨pk_in s 4 hs, nm_r e ⟨pk_in (16 * s) 64 (by omega), nm_r (e' := upd a2 (16 * s) k) (by rw [hc']) ⟨pk_in (16 * s) 64 (by omega), nm_r (e' := upd a3 (16 * s) v) (by rw [hc']) ⟨pk_in s 4 hs, pk_in s 4 hs, nm_r (e' := upd a1 s 1) ?_ ⟨pk_in s 4 hs, ?_⟩⟩⟩⟩⟩⟩)
  · rw [hc, h1]
    decide
  · rw [hc, h1]
    exact congrArg (upd a1 s) (by decide)
  · rw [hc, pk_us]
    exact H
theorem mr_mapN {x y z : Int32} (hx : x < 1 ∨ ¬ x ≤ 16) (H : po 0 (pc, bs, mo, fa, fo, lo, up, re, bu, ma, sc, se, oe, a1, a2, a3, a4, a5, a6, a7, a8, a9, a10, a11, a12, a13, a14, a15)) : wpX_mapping po (pc, bs, mo, fa, fo, lo, up, re, bu, ma, sc, se, oe, a1, a2, a3, a4, a5, a6, a7, a8, a9, a10, a11, a12, a13, a14, a15) x y z := by
  refine br_c (fun _ => H) (fun h => br_f ?_ H)
  rcases hx with g | g
  · exact absurd g h
  · exact g
theorem mr_mapI {x y z : Int32} (h : ¬ x < 1) (h' : x ≤ 16) (H : po 1 (pc, bs, x, y, z, lo, up, re, bu, ma, sc, se, oe, a1, a2, a3, a4, a5, a6, a7, a8, a9, a10, a11, a12, a13, a14, a15)) : wpX_mapping po (pc, bs, mo, fa, fo, lo, up, re, bu, ma, sc, se, oe, a1, a2, a3, a4, a5, a6, a7, a8, a9, a10, a11, a12, a13, a14, a15) x y z := br_f h (br_t h' H)
end
end
section
section
variable {pc bs mo fa fo lo up re bu ma sc se oe : Int32} {a1 a2 a3 a4 a5 a6 a7 a8 a9 a10 a11 a12 a13 a14 a15 : Nat → Int32}
variable {po : Int32 → St0 → Prop} {mc ms kc ks : Nat}
theorem mr_180 {p q b : Nat} {x4 x5 x8 x11 v z0 z1 : Int32} (H : po 1 ()) (hp4 : p ≤ 4) (hb : b < p ∨ b = 4) (hz : z1 = z0)
    (h13 : ∀ j, j ≤ 4 → a13 j = nI (mr_c b j)) (h14 : b < 4 → a14 0 = nI q ∧ a15 0 = v)
    (h11 : (x11 = 0 ∧ (b < 4 → ¬ x5 = nI b)) ∨ (x11 = 1 ∧ b < 4 ∧ x5 = nI b)) (hv0 : x8 = 0 → v = x4) (hv1 : ¬ x8 = 0 → v = 3 * x4 + 1) :
    wL_lawOf_180 po mc ms x4 x5 (nI p) x8 (nI q) x11 z0 z1 kc ks (nI p) bs mo fa fo lo up re bu ma sc se oe a1 a2 a3 a4 a5 a6 a7 a8 a9 a10 a11 a12 a13 a14 a15 := by
  refine br_t hz ?_
  have out : (x5 < 0 ∨ nI p ≤ x5) → x11 = 0 := by
    intro hx
    rcases h11 with g | ⟨g1, g2, g3⟩
    · exact g.1
    · exfalso
      rw [g3] at hx
      rcases hx with k | k
      · exact nI_pos (by omega) k
      · exact nI_ge (show b < p by omega) (by omega) k
  have fin : ∀ hx : x5 < 0 ∨ nI p ≤ x5, wL_lawOf_204 po mc ms x4 x5 x8 (nI q) x11 (-1) kc ks (nI p) bs mo fa fo lo up re bu ma sc se oe a1 a2 a3 a4 a5 a6 a7 a8 a9 a10 a11 a12 a13 a14 a15 := fun hx => br_t rfl (mr_keyN hx (br_t (out hx) (br_t rfl (mr_valN hx (br_t (out hx) (br_t rfl H))))))
  rcases pk_ix x5 (n := p) (by omega) with hx | hx | ⟨j, hj, hx⟩
  · exact mr_resN (Or.inl hx) (br_t hx (fin (Or.inl hx)))
  · exact mr_resN (Or.inr hx) (br_c (fun _ => fin (Or.inr hx)) (fun _ => br_f (Int32.not_lt.mpr hx) (fin (Or.inr hx))))
  · subst hx
    by_cases e : j = b
    · subst e
      have h110 : x11 = 1 := by
        rcases h11 with g | g
        · exact absurd rfl (g.2 (by omega))
        · exact g.1
      subst h110
      obtain ⟨e14, e15⟩ := h14 (by omega)
      have e0 : a13 j = nI 0 := by rw [h13 j (by omega), mr_c0 (by omega)]
      have e1 : a13 (j + 1) = nI 1 := by rw [h13 (j + 1) (by omega), mr_c1 (by omega)]
      refine mr_resI hj hp4 (br_f (nI_pos (by omega)) (br_t (nI_lt hj (by omega)) (br_f (by decide) (br_t ?_ (mr_keyI hj hp4 e1 e0 (br_f (by decide) (br_t e14 (mr_valI hj hp4 e1 e0 (br_f (by decide) (br_c (fun h8 => br_t (e15.trans (hv0 h8)) H) (fun h8 => br_t (e15.trans (hv1 h8)) H)))))))))))
      rw [e0, e1]
      decide
    · have h110 : x11 = 0 := by
        rcases h11 with g | ⟨_, g, g'⟩
        · exact g.1
        · exact absurd ((nI_eq (by omega) (by omega)).mp g') e
      subst h110
      have ee : a13 (j + 1) = a13 j := by
        rw [h13 (j + 1) (by omega), h13 j (by omega)]
        rcases Nat.lt_or_ge b j with k | k
        · rw [mr_c1 k, mr_c1 (by omega)]
        · rw [mr_c0 k, mr_c0 (by omega)]
      refine mr_resI hj hp4 (br_f (nI_pos (by omega)) (br_t (nI_lt hj (by omega)) (br_t rfl (br_t ?_ (mr_keyE hj hp4 ee (br_t rfl (br_t rfl (mr_valE hj hp4 ee (br_t rfl (br_t rfl H))))))))))
      rw [ee, Int32.sub_self]
theorem mr_144 {p q b sp : Nat} {m x3 x4 x5 x7 x8 x11 z0 z1 : Int32} (H : po 1 ()) (hp : 0 < p) (hp4 : p ≤ 4) (hq : q < 16) (hz : z1 = z0)
    (hput : (x7 = 0 ∧ sp = 4 ∧ b = 4) ∨ (x7 = 1 ∧ sp < 4 ∧ b = q % p)) (hset : (x8 = 0 ∧ (x3 < 1 ∨ ¬ x3 ≤ 16) ∧ m = 16) ∨ (x8 = 1 ∧ ¬ x3 < 1 ∧ x3 ≤ 16 ∧ m = x3)) (hm : ¬ m = 0)
    (h1 : ∀ j, j < 4 → j ≠ sp → a1 j = 0) (h1' : sp < 4 → a1 sp = 1) (h4 : ∀ j, j < 4 → a4 j = 0) (h5 : ∀ j, j < 4 → a5 j = 0)
    (hbs : ¬ (0 : Int32) = bs) (hk : sp < 4 → mr_key (a2 (16 * sp)) m (nI q)) (hv : sp < 4 → a3 (16 * sp) = x4)
    (h11 : (x11 = 0 ∧ (b < 4 → ¬ x5 = nI b)) ∨ (x11 = 1 ∧ b < 4 ∧ x5 = nI b)) :
    wL_lawOf_144 po mc ms x3 x4 x5 (nI p) x7 x8 (nI q) x11 z0 z1 kc ks (nI p) bs 16 1 0 ((-2147483648)) 2147483647 re bu ma sc se oe a1 a2 a3 a4 a5 a6 a7 a8 a9 a10 a11 a12 a13 a14 a15 := by
  have hmod := Nat.mod_lt q hp
  have hbb : b < p ∨ b = 4 := by omega
  have hb : sp < 4 → b = q % p := by omega
  have hb4 : sp = 4 → b = 4 := by omega
  have hsp : sp ≤ 4 := by omega
  refine br_t hz ?_
  rcases hset with ⟨s1, s2, s3⟩ | ⟨s1, s2, s3, s4⟩
  · subst s1 s3
    refine mr_mapN s2 (br_t rfl (mr_run (v := x4) hp hp4 hq hsp hb hb4 h1 h1' h4 h5 hm hbs hk (fun z => by rw [hv z, Int32.one_mul, Int32.add_zero]) ?_))
    intro bu' ma' sc' se' a4' a5' a6' a7' a8' a9' a10' a11' a12' a13' a14' a15' k1 k2
    rcases hput with ⟨t1, t2, t3⟩ | ⟨t1, t2, t3⟩
    · exact br_t t1 (mr_180 H hp4 hbb (by rw [mr_c0 (by omega)]; rfl) k1 k2 h11 (fun _ => rfl) (fun z => absurd rfl z))
    · exact br_f (by rw [t1]; decide) (mr_180 H hp4 hbb (by rw [mr_c1 (by omega)]; rfl) k1 k2 h11 (fun _ => rfl) (fun z => absurd rfl z))
  · subst s1 s4
    refine mr_mapI s2 s3 (br_t rfl (mr_run (v := 3 * x4 + 1) hp hp4 hq hsp hb hb4 h1 h1' h4 h5 hm hbs hk (fun z => by rw [hv z]) ?_))
    intro bu' ma' sc' se' a4' a5' a6' a7' a8' a9' a10' a11' a12' a13' a14' a15' k1 k2
    rcases hput with ⟨t1, t2, t3⟩ | ⟨t1, t2, t3⟩
    · exact br_t t1 (mr_180 H hp4 hbb (by rw [mr_c0 (by omega)]; rfl) k1 k2 h11 (fun z => absurd z (by decide)) (fun _ => rfl))
    · exact br_f (by rw [t1]; decide) (mr_180 H hp4 hbb (by rw [mr_c1 (by omega)]; rfl) k1 k2 h11 (fun z => absurd z (by decide)) (fun _ => rfl))
theorem mr_111 {p q b sp : Nat} {m x0 x1 x2 x3 x4 x5 x7 x8 x11 : Int32} (H : po 1 ()) (hp : 0 < p) (hp4 : p ≤ 4) (hcl : mr_clip x0 p) (hq : q < 16)
    (hput : (x7 = 0 ∧ sp = 4 ∧ b = 4 ∧ (x1 < 0 ∨ ¬ x1 ≤ 3)) ∨ (x7 = 1 ∧ sp < 4 ∧ b = q % p ∧ x1 = nI sp)) (hset : (x8 = 0 ∧ (x3 < 1 ∨ ¬ x3 ≤ 16) ∧ m = 16) ∨ (x8 = 1 ∧ ¬ x3 < 1 ∧ x3 ≤ 16 ∧ m = x3)) (hm : ¬ m = 0)
    (hk : mr_key x2 m (nI q)) (h11 : (x11 = 0 ∧ (b < 4 → ¬ x5 = nI b)) ∨ (x11 = 1 ∧ b < 4 ∧ x5 = nI b)) :
    wL_lawOf_111 po 16 573 x0 x1 x2 x3 x4 x5 (nI p) x7 x8 (nI q) x11 0 0 := by
  refine ⟨by omega, by omega, 15, 545, by omega, by omega, mr_init hcl (fun bs hbs => ?_)⟩
  rcases hput with ⟨t1, t2, t3, t4⟩ | ⟨t1, t2, t3, t4⟩
  · exact mr_addN t4 (br_t t1 (mr_144 (sp := sp) H hp hp4 hq rfl (Or.inl ⟨t1, t2, t3⟩) hset hm (fun _ _ _ => rfl) (fun z => absurd z (by omega)) (fun _ _ => rfl) (fun _ _ => rfl) hbs (fun z => absurd z (by omega)) (fun z => absurd z (by omega)) h11))
  · subst t4
    exact mr_addI t2 rfl (br_f (by rw [t1]; decide) (mr_144 (sp := sp) H hp hp4 hq rfl (Or.inr ⟨t1, t2, t3⟩) hset hm (fun j _ hj => pk_un hj) (fun _ => pk_us) (fun _ _ => rfl) (fun _ _ => rfl) hbs (fun _ => by rw [pk_us]; exact hk) (fun _ => pk_us) h11))
theorem mr_89 {p q sp : Nat} {m x0 x1 x2 x3 x4 x5 x7 x8 z : Int32} (H : po 1 ()) (hp : 0 < p) (hp4 : p ≤ 4) (hcl : mr_clip x0 p) (hq : q < 16) (hz : z = nI q)
    (hput : (x7 = 0 ∧ (x1 < 0 ∨ ¬ x1 ≤ 3)) ∨ (x7 = 1 ∧ sp < 4 ∧ x1 = nI sp)) (hset : (x8 = 0 ∧ (x3 < 1 ∨ ¬ x3 ≤ 16) ∧ m = 16) ∨ (x8 = 1 ∧ ¬ x3 < 1 ∧ x3 ≤ 16 ∧ m = x3)) (hm : ¬ m = 0)
    (hk : mr_key x2 m (nI q)) : wL_lawOf_89 po 16 573 x0 x1 x2 x3 x4 x5 (nI p) x7 x8 z 0 0 := by
  subst hz
  have hmod := Nat.mod_lt q hp
  rcases hput with ⟨t1, t2⟩ | ⟨t1, t2, t3⟩
  · exact br_t t1 (mr_111 (b := 4) (sp := 4) H hp hp4 hcl hq (Or.inl ⟨t1, rfl, rfl, t2⟩) hset hm hk (Or.inl ⟨rfl, fun z => absurd z (by omega)⟩))
  · have hc : nI q - nI q / nI p * nI p = nI (q % p) := pk_rem (by omega) hp (by omega)
    refine br_f (by rw [t1]; decide) ⟨nI_ne0 hp (by omega), br_c (fun h => ?_) (fun h => ?_)⟩
    · rw [hc] at h
      exact mr_111 (b := q % p) (sp := sp) H hp hp4 hcl hq (Or.inr ⟨t1, t2, rfl, t3⟩) hset hm hk (Or.inr ⟨rfl, by omega, h.symm⟩)
    · rw [hc] at h
      exact mr_111 (b := q % p) (sp := sp) H hp hp4 hcl hq (Or.inr ⟨t1, t2, rfl, t3⟩) hset hm hk (Or.inl ⟨rfl, fun _ e => h e.symm⟩)
theorem mr_66 {p sp : Nat} {m x0 x1 x2 x3 x4 x5 x7 x8 : Int32} (H : po 1 ()) (hp : 0 < p) (hp4 : p ≤ 4) (hcl : mr_clip x0 p)
    (hput : (x7 = 0 ∧ (x1 < 0 ∨ ¬ x1 ≤ 3)) ∨ (x7 = 1 ∧ sp < 4 ∧ x1 = nI sp)) (hset : (x8 = 0 ∧ (x3 < 1 ∨ ¬ x3 ≤ 16) ∧ m = 16) ∨ (x8 = 1 ∧ ¬ x3 < 1 ∧ x3 ≤ 16 ∧ m = x3)) :
    wL_lawOf_66 po 16 573 x0 x1 x2 x3 x4 x5 (nI p) x7 x8 m 0 0 := by
  have hm1 : 1 ≤ m ∧ m ≤ 16 := by
    rcases hset with ⟨_, _, s⟩ | ⟨_, s1, s2, s⟩
    · rw [s]; decide
    · rw [s]; exact ⟨Int32.not_lt.mp s1, s2⟩
  have hm : ¬ m = 0 := by
    intro e
    rw [e] at hm1
    exact absurd hm1.1 (by decide)
  obtain ⟨q, hq, hk⟩ := mr_norm (k := x2) hm1.1 hm1.2
  exact ⟨hm, br_c (fun h => ⟨hm, mr_89 H hp hp4 hcl hq (hk.1 h) hput hset hm hk⟩) (fun h => ⟨hm, mr_89 H hp hp4 hcl hq (hk.2 h) hput hset hm hk⟩)⟩
theorem mr_35 {p sp : Nat} {x0 x1 x2 x3 x4 x5 x7 : Int32} (H : po 1 ()) (hp : 0 < p) (hp4 : p ≤ 4) (hcl : mr_clip x0 p)
    (hput : (x7 = 0 ∧ (x1 < 0 ∨ ¬ x1 ≤ 3)) ∨ (x7 = 1 ∧ sp < 4 ∧ x1 = nI sp)) :
    wL_lawOf_35 po 16 573 x0 x1 x2 x3 x4 x5 (nI p) x7 0 0 :=
  br_c (fun h => br_t rfl (mr_66 H hp hp4 hcl hput (Or.inl ⟨rfl, Or.inl h, rfl⟩))) (fun h => br_c (fun h' => br_t rfl (mr_66 H hp hp4 hcl hput (Or.inl ⟨rfl, Or.inr (Int32.not_le.mpr h'), rfl⟩))) (fun h' => br_f (by decide) (mr_66 H hp hp4 hcl hput (Or.inr ⟨rfl, h, Int32.not_lt.mp h', rfl⟩))))
theorem mr_19 {p : Nat} {x0 x1 x2 x3 x4 x5 x6 : Int32} (H : po 1 ()) (hx : x6 = nI p) (hp : 0 < p) (hp4 : p ≤ 4) (hcl : mr_clip x0 p) : wL_lawOf_19 po 16 573 x0 x1 x2 x3 x4 x5 x6 0 0 := by
  subst hx
  refine br_c (fun h => mr_35 (sp := 0) H hp hp4 hcl (Or.inl ⟨rfl, Or.inl h⟩)) (fun h => br_c (fun h' => mr_35 (sp := 0) H hp hp4 hcl (Or.inl ⟨rfl, Or.inr (Int32.not_le.mpr h')⟩)) (fun h' => ?_))
  obtain ⟨sp, hs, e⟩ := nI_of2 (M := 3) (n := 3) (by decide) h (Int32.not_lt.mp h')
  exact mr_35 (sp := sp) H hp hp4 hcl (Or.inr ⟨rfl, by omega, e⟩)
theorem mr_lawOf {x0 x1 x2 x3 x4 x5 : Int32} (H : po 1 ()) : wpL_lawOf po 16 573 () x0 x1 x2 x3 x4 x5 := by
  refine br_c (fun h => br_c (fun h' => ?_) (fun h' => mr_19 (p := 4) H rfl (by omega) (by omega) ⟨fun _ z => absurd z h', fun _ _ => rfl, fun z => absurd h z⟩)) (fun h => mr_19 (p := 1) H rfl (by omega) (by omega) ⟨fun z => absurd z h, fun z => absurd z h, fun _ => rfl⟩)
  have h0 : ¬ x0 < 0 := by
    rw [Int32.le_iff_toInt_le] at h
    rw [Int32.lt_iff_toInt_lt]
    have e0 : (1 : Int32).toInt = 1 := by decide
    have e1 : (0 : Int32).toInt = 0 := by decide
    omega
  obtain ⟨p, hp, e⟩ := nI_of2 (M := 4) (n := 4) (by decide) h0 h'
  have hp0 : 0 < p := by
    rcases Nat.eq_zero_or_pos p with z | z
    · rw [e, z] at h
      exact absurd h (by decide)
    · exact z
  exact mr_19 (p := p) H e hp0 hp ⟨fun _ _ => e, fun _ z => absurd h' z, fun z => absurd h z⟩
end
theorem mr_cell {pr : Int32 → Prop} {L : Nat} {xs : Nat → Int32} {x : Int32} (k : Nat) (hk : k < 6) (hL : L ≤ 6) (hx : x = nI k) (H : ∀ y, pr y) : wpL_cellAt pr L xs () x := by
  subst hx
  exact pk_le L k (fun _ => H _) (fun z => ⟨pk_in k L z, H _⟩)
theorem i_vc (xs : Nat → Int32) (L : Nat) (hL : L ≤ 6) : wpL_law (fun r => r = 1) L xs :=
  mr_cell 0 (by omega) hL rfl (fun _ => mr_cell 1 (by omega) hL rfl (fun _ => mr_cell 2 (by omega) hL rfl (fun _ => mr_cell 3 (by omega) hL rfl (fun _ => mr_cell 4 (by omega) hL rfl (fun _ => mr_cell 5 (by omega) hL rfl (fun _ => ⟨16, 573, by omega, by omega, mr_lawOf rfl⟩))))))
end
