section
/-- bits of small naturals as ints -/
theorem ra_sm : ∀ n, n < 32 → ((nI n &&& 31).toBitVec.smod 32).toNat = n := by decide +kernel
theorem ra_shl : ∀ k, k < 31 → (1 : Int32) <<< (nI k &&& 31) = nI (2 ^ k) := by decide +kernel
theorem ra_or (a b : Nat) : nI a ||| nI b = nI (a ||| b) := by
  apply Int32.toBitVec_inj.1
  show BitVec.ofNat 32 a ||| BitVec.ofNat 32 b = BitVec.ofNat 32 (a ||| b)
  apply BitVec.eq_of_getLsbD_eq
  intro i hi
  simp [hi]
theorem ra_bit {W k : Nat} (hW : W < 2 ^ 31) (hk : k < 31) : ((nI W >>> (nI k &&& 31)) &&& 1) = nI (W / 2 ^ k % 2) := by
  rw [pk_shrN hW _ k (ra_sm k (by omega))]
  have h : W / 2 ^ k < 2 ^ 32 := Nat.lt_of_le_of_lt (Nat.div_le_self W (2 ^ k)) (by omega)
  exact pk_andN h (m := 1) 1 (by decide)
theorem ra_b1 {W k : Nat} (hW : W < 2 ^ 31) (hk : k < 31) (h : W.testBit k = true) : ((nI W >>> (nI k &&& 31)) &&& 1) = 1 := by
  rw [ra_bit hW hk]
  rw [Nat.testBit_eq_decide_div_mod_eq, decide_eq_true_iff] at h
  rw [h]
  rfl
theorem ra_b0 {W k : Nat} (hW : W < 2 ^ 31) (hk : k < 31) (h : W.testBit k = false) : ((nI W >>> (nI k &&& 31)) &&& 1) = 0 := by
  rw [ra_bit hW hk]
  rw [Nat.testBit_eq_decide_div_mod_eq, decide_eq_false_iff_not] at h
  have e : W / 2 ^ k % 2 = 0 := by
    generalize W / 2 ^ k = z at h
    omega
  rw [e]
  rfl
theorem ra_t1 {W k : Nat} {A B : Prop} (hW : W < 2 ^ 31) (hk : k < 31) (f : W.testBit k = true → A) (g : W.testBit k = false → B) : (((nI W >>> (nI k &&& 31)) &&& 1) = 1 → A) ∧ (¬ ((nI W >>> (nI k &&& 31)) &&& 1) = 1 → B) := by
  cases h : W.testBit k with
  | true => exact br_t (ra_b1 hW hk h) (f h)
  | false => exact br_f (by rw [ra_b0 hW hk h]; decide) (g h)
theorem ra_t0 {W k : Nat} {A B : Prop} (hW : W < 2 ^ 31) (hk : k < 31) (f : W.testBit k = false → A) (g : W.testBit k = true → B) : (((nI W >>> (nI k &&& 31)) &&& 1) = 0 → A) ∧ (¬ ((nI W >>> (nI k &&& 31)) &&& 1) = 0 → B) := by
  cases h : W.testBit k with
  | true => exact br_f (by rw [ra_b1 hW hk h]; decide) (g h)
  | false => exact br_t (ra_b0 hW hk h) (f h)
theorem ra_z : ∀ i, i < 31 → ¬ (((0 : Int32) >>> (nI i &&& 31)) &&& 1) = 1 := by decide +kernel
theorem ra_pne : ∀ k, k < 8 → ¬ nI (2 ^ k) = 0 := by decide +kernel
theorem ra_inc {h : Nat} (hh : h < 32) : (nI h + 1) &&& 31 = nI ((h + 1) % 32) := by
  rw [nI_1]
  exact pk_andN (by omega) (m := 31) 5 (by decide)
theorem ra_inc8 {t : Nat} (ht : t < 8) : (nI t + 1) &&& 7 = nI ((t + 1) % 8) := by
  rw [nI_1]
  exact pk_andN (by omega) (m := 7) 3 (by decide)
theorem ra_fill {f s : Nat → Int32} {i k : Nat} {x : Int32} (hk : k = i) (h : ∀ j, j < i → s j = f j) (hx : x = f i) : ∀ j, j < i + 1 → upd s k x j = f j := by
  intro j hj
  rw [hk]
  by_cases e : j = i
  · rw [e, pk_us, hx]
  · rw [pk_un e]
    exact h j (by omega)
theorem ra_ix (a b : Nat) : nI a * 8 + nI b = nI (a * 8 + b) := by
  show nI a * nI 8 + nI b = _
  rw [pk_mul, nI_add]
theorem ra_p256 {k : Nat} (h : k < 8) : 2 ^ k < 256 := Nat.pow_lt_pow_right (by decide) h
theorem ra_o256 {a b : Nat} (ha : a < 256) (hb : b < 256) : a ||| b < 256 := Nat.or_lt_two_pow (n := 8) ha hb
theorem ra_badV {post : Int32 → Prop} {v : Nat} (hv : v < 12) (h : post 0) : wpX_badVariable post () (nI v) :=
  br_f (nI_pos (by omega)) (br_t (nI_lt (b := 12) hv (by decide)) h)
theorem ra_badS {post : Int32 → Prop} {v : Nat} (hv : v < 8) (h : post 0) : wpX_badSite post () (nI v) :=
  br_f (nI_pos (by omega)) (br_t (nI_lt (b := 8) hv (by decide)) h)
theorem ra_badF {post : Int32 → Prop} {v : Nat} (hv : v ≤ 1) (h : post 0) : wpX_badField post () (nI v) :=
  br_f (nI_pos (by omega)) (br_t (nI_le (b := 1) hv (by decide)) h)
theorem ra_bne {a b : Nat} (h : a ≠ b) : Nat.beq a b = false := by
  cases e : Nat.beq a b with
  | false => rfl
  | true => exact absurd (Nat.eq_of_beq_eq_true e) h
end
section
theorem ra_init {post : St2 → Prop} (H : ∀ a1 : Nat → Int32, (∀ j, j < 28 → a1 j = nI j) → post (0, 0, 0, 0, 0, 0, 0, 0, 0, a1, (fun _ => 0), (fun _ => 0), (fun _ => 0), (fun _ => 0), (fun _ => 0), (fun _ => 0), (fun _ => 0), (fun _ => 0), (fun _ => 0), (fun _ => 0), (fun _ => 0), (fun _ => 0), (fun _ => 0), (fun _ => 0), (fun _ => 0), (fun _ => 0), (fun _ => 0), (fun _ => 0), (fun _ => 0), (fun _ => 0), (fun _ => 0), (fun _ => 0), (fun _ => 0))) : wpX_init post 24 490 (0, 0, 0, 0, 0, 0, 0, 0, 0) := by
  have L : ∃ n, wX_init_198 post 24 490 24 490 0 0 0 0 0 0 0 0 0 n 0 (fun _ => 0) (fun _ => 0) (fun _ => 0) (fun _ => 0) (fun _ => 0) (fun _ => 0) (fun _ => 0) (fun _ => 0) (fun _ => 0) (fun _ => 0) (fun _ => 0) (fun _ => 0) (fun _ => 0) (fun _ => 0) (fun _ => 0) (fun _ => 0) (fun _ => 0) (fun _ => 0) (fun _ => 0) (fun _ => 0) (fun _ => 0) (fun _ => 0) (fun _ => 0) (fun _ => 0) :=
    pk_loop (fun n i s => wX_init_198 post 24 490 24 490 0 0 0 0 0 0 0 0 0 n (nI i) s (fun _ => 0) (fun _ => 0) (fun _ => 0) (fun _ => 0) (fun _ => 0) (fun _ => 0) (fun _ => 0) (fun _ => 0) (fun _ => 0) (fun _ => 0) (fun _ => 0) (fun _ => 0) (fun _ => 0) (fun _ => 0) (fun _ => 0) (fun _ => 0) (fun _ => 0) (fun _ => 0) (fun _ => 0) (fun _ => 0) (fun _ => 0) (fun _ => 0) (fun _ => 0)) (fun i s => ∀ j, j < i → s j = nI j) 28 0 (fun _ => 0) (by omega) (fun j hj => absurd hj (by omega))
      (fun n s h => pk_le 28 28 (fun _ => H s h) (fun z => absurd z (by omega)))
      (fun n i s hi h hw => pk_le 28 i (fun z => absurd z (by omega)) (fun _ => ⟨pk_in i 28 hi, nm_e (nm_r (nI_1 i) (hw _ (ra_fill (f := fun j => nI j) (nI_clamp (by omega)) h rfl)))⟩))
  unfold wpX_init
  exact ⟨by decide, by decide, by decide, by decide, by decide, by decide, by decide, by decide, by decide, by decide, by decide, by decide, by decide, by decide, by decide, by decide, by decide, by decide, by decide, by decide, by decide, by decide, by decide, by decide, by decide, by decide, by decide, by decide, by decide, by decide, by decide, by decide, by decide, by decide, by decide, by decide, by decide, by decide, by decide, by decide, by decide, by decide, by decide, by decide, by decide, by decide, by decide, by decide, L⟩
theorem ra_enqueue {hd ld sr on rg ac wk fc : Int32} {a1 a2 a3 a4 a5 a6 a7 a8 a9 a10 a11 a12 a13 a14 a15 a16 a17 a18 a19 a20 a21 a22 a23 a24 : Nat → Int32} {post : St2 → Prop} {n h : Nat} (hn : n < 28) (hh : h < 32) (hq : a5 n = 0) (H : post (hd, nI ((h + 1) % 32), ld, sr, on, rg, ac, wk, fc, a1, a2, a3, a4, upd a5 n 1, upd a6 h (nI n), a7, a8, a9, a10, a11, a12, a13, a14, a15, a16, a17, a18, a19, a20, a21, a22, a23, a24)) : wpX_enqueue post (hd, nI h, ld, sr, on, rg, ac, wk, fc, a1, a2, a3, a4, a5, a6, a7, a8, a9, a10, a11, a12, a13, a14, a15, a16, a17, a18, a19, a20, a21, a22, a23, a24) (nI n) := by
  unfold wpX_enqueue
  dsimp only
  rw [nI_clamp (show n < 2 ^ 31 by omega), nI_clamp (show h < 2 ^ 31 by omega)]
  exact ⟨pk_in n 28 hn, br_t hq ⟨pk_in n 28 hn, nm_e ⟨pk_in h 32 hh, nm_e (nm_r (ra_inc hh) H)⟩⟩⟩
theorem ra_addSites {hd ld sr on rg ac wk fc : Int32} {a1 a2 a3 a4 a5 a6 a7 a8 a9 a10 a11 a12 a13 a14 a15 a16 a17 a18 a19 a20 a21 a22 a23 a24 : Nat → Int32} {post : St2 → Prop} {v h : Nat} {m : Int32} (hv : v < 28) (hh : h < 32) (hl : a1 v = nI v) (hm : m &&& (a2 v ^^^ (-1)) = m) (hm0 : ¬ m = 0) (hq : a5 v = 0)
    (H : post (hd, nI ((h + 1) % 32), ld, sr, on, rg, ac, wk, fc, a1, upd a2 v (a2 v ||| m), upd a3 v (a3 v ||| m), a4, upd a5 v 1, upd a6 h (nI v), a7, a8, a9, a10, a11, a12, a13, a14, a15, a16, a17, a18, a19, a20, a21, a22, a23, a24)) : wpX_addSites post (hd, nI h, ld, sr, on, rg, ac, wk, fc, a1, a2, a3, a4, a5, a6, a7, a8, a9, a10, a11, a12, a13, a14, a15, a16, a17, a18, a19, a20, a21, a22, a23, a24) (nI v) m := by
  unfold wpX_addSites
  refine ⟨pk_in v 28 hv, nm_r (e' := nI v) (by rw [nI_clamp (show v < 2 ^ 31 by omega)]; exact hl) ⟨pk_in v 28 hv, ?_⟩⟩
  rw [nI_clamp (show v < 2 ^ 31 by omega)]
  exact nm_r hm (br_f hm0 ⟨pk_in v 28 hv, pk_in v 28 hv, nm_e ⟨pk_in v 28 hv, pk_in v 28 hv, nm_e (ra_enqueue hv hh hq H)⟩⟩)
theorem ra_pass120 {hd tl ld sr on rg ac wk fc : Int32} {a1 a2 a3 a4 a5 a6 a7 a8 a9 a10 a11 a12 a13 a14 a15 a16 a17 a18 a19 a20 a21 a22 a23 a24 : Nat → Int32} {post : St2 → Prop} {x1 x2 : Int32} (H : post (hd, tl, ld, sr, on, rg, ac, wk, fc, a1, a2, a3, a4, a5, a6, a7, a8, a9, a10, a11, a12, a13, a14, a15, a16, a17, a18, a19, a20, a21, a22, a23, a24)) : ∃ n, wX_pass_120 post x1 x2 0 n 0 hd tl ld sr on rg ac wk fc a1 a2 a3 a4 a5 a6 a7 a8 a9 a10 a11 a12 a13 a14 a15 a16 a17 a18 a19 a20 a21 a22 a23 a24 :=
  pk_loop (σ := Unit) (fun n i _ => wX_pass_120 post x1 x2 0 n (nI i) hd tl ld sr on rg ac wk fc a1 a2 a3 a4 a5 a6 a7 a8 a9 a10 a11 a12 a13 a14 a15 a16 a17 a18 a19 a20 a21 a22 a23 a24) (fun _ _ => True) 28 0 () (by omega) trivial
    (fun n _ _ => pk_le 28 28 (fun _ => H) (fun z => absurd z (by omega)))
    (fun n i _ hi _ hw => pk_le 28 i (fun z => absurd z (by omega)) (fun _ => br_f (ra_z i (by omega)) (nm_r (nI_1 i) (hw () trivial))))
theorem ra_pass {hd tl on rg ac wk fc : Int32} {a1 a2 a3 a4 a5 a6 a7 a8 a9 a10 a11 a12 a13 a14 a15 a16 a17 a18 a19 a20 a21 a22 a23 a24 : Nat → Int32} {post : St2 → Prop} {n : Nat} (hn : n < 28) (hg : a4 n = 0) (H : post (hd, tl, 0, 0, on, rg, ac, wk, fc, a1, a2, upd a3 n 0, a4, a5, a6, a7, a8, a9, a10, a11, a12, a13, a14, a15, a16, a17, a18, a19, a20, a21, a22, a23, a24)) : wpX_pass post (hd, tl, 0, 0, on, rg, ac, wk, fc, a1, a2, a3, a4, a5, a6, a7, a8, a9, a10, a11, a12, a13, a14, a15, a16, a17, a18, a19, a20, a21, a22, a23, a24) (nI n) := by
  unfold wpX_pass
  dsimp only
  rw [nI_clamp (show n < 2 ^ 31 by omega)]
  refine ⟨pk_in n 28 hn, nm_e ⟨pk_in n 28 hn, nm_e ⟨0 + 1, ?_⟩⟩⟩
  refine pk_le 0 0 (fun _ => ⟨0 + 1, ?_⟩) (fun z => absurd z (by omega))
  refine pk_le 0 0 (fun _ => ⟨pk_in n 28 hn, nm_r (by rw [nI_clamp (show n < 2 ^ 31 by omega)]; exact hg) (ra_pass120 H)⟩) (fun z => absurd z (by omega))
theorem ra_solve {on rg ac wk fc : Int32} {a1 a2 a3 a4 a5 a6 a7 a8 a9 a10 a11 a12 a13 a14 a15 a16 a17 a18 a19 a20 a21 a22 a23 a24 : Nat → Int32} {post : St2 → Prop} {h n : Nat} (hh : h < 32) (hn : n < 28) (hq : a6 h = nI n) (hl : a1 n = nI n) (hg : a4 n = 0)
    (H : post (nI ((h + 1) % 32), nI ((h + 1) % 32), 0, 0, on, rg, ac, wk, fc, a1, a2, upd a3 n 0, a4, upd a5 n 0, a6, a7, a8, a9, a10, a11, a12, a13, a14, a15, a16, a17, a18, a19, a20, a21, a22, a23, a24)) : wpX_solve post (nI h, nI ((h + 1) % 32), 0, 0, on, rg, ac, wk, fc, a1, a2, a3, a4, a5, a6, a7, a8, a9, a10, a11, a12, a13, a14, a15, a16, a17, a18, a19, a20, a21, a22, a23, a24) := by
  unfold wpX_solve
  refine ⟨0 + 1 + 1, ?_⟩
  refine pk_le 600 0 (fun z => absurd z (by omega)) (fun _ => ?_)
  refine pk_eq h ((h + 1) % 32) (fun z => absurd z (by omega)) (fun _ => ?_)
  refine ⟨pk_in h 32 hh, nm_r (e' := nI n) (by rw [nI_clamp (show h < 2 ^ 31 by omega)]; exact hq) (nm_r (ra_inc hh) ⟨pk_in n 28 hn, nm_e ⟨pk_in n 28 hn, br_t (by rw [nI_clamp (show n < 2 ^ 31 by omega)]; exact hl) ?_⟩⟩)⟩
  rw [nI_clamp (show n < 2 ^ 31 by omega)]
  refine ra_pass hn hg ?_
  exact nm_r (nI_1 0) (pk_le 600 1 (fun z => absurd z (by omega)) (fun _ => br_t rfl H))
theorem ra_bits {post : Int32 → Prop} {x : Int32} (H : ∀ r, post r) : wpX_bits post () x :=
  pk_loop (σ := Int32) (fun n i s => wX_bits_4 post x n s (nI i)) (fun _ _ => True) 8 0 0 (by omega) trivial
    (fun n s _ => pk_le 8 8 (fun _ => H s) (fun z => absurd z (by omega)))
    (fun n i s hi _ hw => pk_le 8 i (fun z => absurd z (by omega)) (fun _ => nm_e (nm_r (nI_1 i) (hw _ trivial))))
theorem ra_alloc {on rg ac wk fc : Int32} {a1 a2 a3 a4 a5 a6 a7 a8 a9 a10 a11 a12 a13 a14 a15 a16 a17 a18 a19 a20 a21 a22 a23 a24 : Nat → Int32} {post : Int32 → St2 → Prop} {v k h : Nat} (hv : v < 12) (hk : k < 8) (hh : h < 32) (hl : ∀ j, j < 28 → a1 j = nI j) (hg : ∀ j, j < 28 → a4 j = 0) (hq : ∀ j, j < 28 → a5 j = 0)
    (hm : nI (2 ^ k) &&& (a2 v ^^^ (-1)) = nI (2 ^ k))
    (H : ∀ (r : Int32) (h' : Nat) (a3' a5' a6' : Nat → Int32), h' < 32 → (∀ j, j < 28 → a5' j = 0) → post r (nI h', nI h', 0, 0, on, rg, ac, wk, fc, a1, upd a2 v (a2 v ||| nI (2 ^ k)), a3', a4, a5', a6', a7, a8, a9, a10, a11, a12, a13, a14, a15, a16, a17, a18, a19, a20, a21, a22, a23, a24)) :
    wpX_alloc post (nI h, nI h, 0, 0, on, rg, ac, wk, fc, a1, a2, a3, a4, a5, a6, a7, a8, a9, a10, a11, a12, a13, a14, a15, a16, a17, a18, a19, a20, a21, a22, a23, a24) (nI v) (nI k) := by
  unfold wpX_alloc
  refine ra_badV hv (br_t rfl (ra_badS hk (br_t rfl ?_)))
  rw [ra_shl k (by omega)]
  refine ra_addSites (by omega) hh (hl v (by omega)) hm (ra_pne k hk) (hq v (by omega)) ?_
  refine ra_solve hh (show v < 28 by omega) pk_us (hl v (by omega)) (hg v (by omega)) ?_
  refine ⟨pk_in v 28 (by omega), ?_⟩
  refine ⟨pk_in v 28 (by omega) (by rw [nI_clamp (show v < 2 ^ 31 by omega)]; exact hl v (by omega)), ?_⟩
  refine ra_bits (fun r => H r _ _ _ _ (Nat.mod_lt _ (by decide)) (fun j hj => ?_))
  by_cases e : j = v
  · rw [e, pk_us]
  · rw [pk_un e, pk_un e]
    exact hq j hj
theorem ra_once {hd tl ld sr on rg ac wk fc : Int32} {a1 a2 a3 a4 a5 a6 a7 a8 a9 a10 a11 a12 a13 a14 a15 a16 a17 a18 a19 a20 a21 a22 a23 a24 : Nat → Int32} {post : Int32 → St2 → Prop} {k : Nat} (hk : k < 8) {b : Int32} (H0 : b = 0 → ∀ r, post r (hd, tl, ld, sr, on &&& (nI (2 ^ k) ^^^ (-1)), rg, ac, wk, fc, a1, a2, a3, a4, a5, a6, a7, a8, a9, a10, a11, a12, a13, a14, a15, a16, a17, a18, a19, a20, a21, a22, a23, a24)) (H1 : ¬ b = 0 → ∀ r, post r (hd, tl, ld, sr, (on &&& (nI (2 ^ k) ^^^ (-1))) ||| nI (2 ^ k), rg, ac, wk, fc, a1, a2, a3, a4, a5, a6, a7, a8, a9, a10, a11, a12, a13, a14, a15, a16, a17, a18, a19, a20, a21, a22, a23, a24)) : wpX_once post (hd, tl, ld, sr, on, rg, ac, wk, fc, a1, a2, a3, a4, a5, a6, a7, a8, a9, a10, a11, a12, a13, a14, a15, a16, a17, a18, a19, a20, a21, a22, a23, a24) (nI k) b := by
  unfold wpX_once
  refine ra_badS hk (br_t rfl ?_)
  rw [ra_shl k (by omega)]
  exact nm_e (nm_e (br_c (fun z => H0 z _) (fun z => nm_e (H1 z _))))
end
section
theorem ra_m1lt : ∀ R, R < 13 → (-1 : Int32) < nI R := by decide +kernel
theorem ra_nlm1 : ∀ j, j < 13 → ¬ nI j < (-1 : Int32) := by decide +kernel
theorem ra_region {hd tl ld sr on ac wk fc : Int32} {a1 a2 a3 a4 a5 a6 a7 a8 a9 a10 a11 a12 a13 a14 a15 a16 a17 a18 a19 a20 a21 a22 a23 a24 : Nat → Int32} {post : Int32 → St2 → Prop} {th v R : Nat} {q : Int32} (hth : th < 4) (hv : v < 12) (hR : R < 12) (hq : q = -1 ∨ ∃ j, j < R ∧ q = nI j ∧ a13 j = nI th)
    (H : post (nI R) (hd, tl, ld, sr, on, nI (R + 1), ac, wk, fc, a1, a2, a3, a4, a5, a6, a7, a8, a9, a10, a11, a12, upd a13 R (nI th), upd a14 R (nI v), upd a15 R q, a16, a17, a18, a19, a20, a21, a22, a23, a24)) : wpX_region post (hd, tl, ld, sr, on, nI R, ac, wk, fc, a1, a2, a3, a4, a5, a6, a7, a8, a9, a10, a11, a12, a13, a14, a15, a16, a17, a18, a19, a20, a21, a22, a23, a24) (nI th) (nI v) q := by
  have K : wX_region_49 post (nI th) (nI v) q hd tl ld sr on (nI R) ac wk fc a1 a2 a3 a4 a5 a6 a7 a8 a9 a10 a11 a12 a13 a14 a15 a16 a17 a18 a19 a20 a21 a22 a23 a24 := by
    unfold wX_region_49
    rw [nI_clamp (show R < 2 ^ 31 by omega)]
    exact br_t (nI_lt (b := 12) hR (by decide)) ⟨pk_in R 12 hR, nm_e ⟨pk_in R 12 hR, nm_e ⟨pk_in R 12 hR, nm_e (nm_r (nI_1 R) H)⟩⟩⟩
  unfold wpX_region
  refine br_f (nI_pos (by omega)) (br_f (nI_nlt (a := 3) (b := th) (by omega) (by decide)) (ra_badV hv (br_t rfl ?_)))
  rcases hq with e | ⟨j, hj, e, e3⟩
  · subst e
    exact br_f (by decide) (br_t (ra_m1lt R (by omega)) (br_t (by decide) K))
  · subst e
    exact br_f (ra_nlm1 j (by omega)) (br_t (nI_lt hj (by omega)) (br_f (nI_pos (by omega)) ⟨pk_in j 12 (by omega), br_t (by rw [nI_clamp (show j < 2 ^ 31 by omega)]; exact e3) K⟩))
theorem ra_regionBad {hd tl ld sr on ac wk fc : Int32} {a1 a2 a3 a4 a5 a6 a7 a8 a9 a10 a11 a12 a13 a14 a15 a16 a17 a18 a19 a20 a21 a22 a23 a24 : Nat → Int32} {post : Int32 → St2 → Prop} {th v R j : Nat} (hth : th < 4) (hv : v < 12) (hR : R < 12) (hj : j < R) (e : ¬ a13 j = nI th) (H : post (-1) (hd, tl, ld, sr, on, nI R, ac, wk, fc, a1, a2, a3, a4, a5, a6, a7, a8, a9, a10, a11, a12, a13, a14, a15, a16, a17, a18, a19, a20, a21, a22, a23, a24)) : wpX_region post (hd, tl, ld, sr, on, nI R, ac, wk, fc, a1, a2, a3, a4, a5, a6, a7, a8, a9, a10, a11, a12, a13, a14, a15, a16, a17, a18, a19, a20, a21, a22, a23, a24) (nI th) (nI v) (nI j) := by
  unfold wpX_region
  refine br_f (nI_pos (by omega)) (br_f (nI_nlt (a := 3) (b := th) (by omega) (by decide)) (ra_badV hv (br_t rfl ?_)))
  exact br_f (ra_nlm1 j (by omega)) (br_t (nI_lt hj (by omega)) (br_f (nI_pos (by omega)) ⟨pk_in j 12 (by omega), br_f (by rw [nI_clamp (show j < 2 ^ 31 by omega)]; exact e) H⟩))
theorem ra_badP {hd tl ld sr on ac wk fc : Int32} {a1 a2 a3 a4 a5 a6 a7 a8 a9 a10 a11 a12 a13 a14 a15 a16 a17 a18 a19 a20 a21 a22 a23 a24 : Nat → Int32} {post : Int32 → Prop} {p R : Nat} (hp : p < 4 + R) (hR : R < 13) (h : post 0) : wpX_badPlace post (hd, tl, ld, sr, on, nI R, ac, wk, fc, a1, a2, a3, a4, a5, a6, a7, a8, a9, a10, a11, a12, a13, a14, a15, a16, a17, a18, a19, a20, a21, a22, a23, a24) (nI p) := by
  unfold wpX_badPlace
  refine br_f (nI_pos (by omega)) (br_t ?_ h)
  show nI p < nI 4 + nI R
  rw [nI_add]
  exact nI_lt hp (by omega)
theorem ra_access {hd tl ld sr on wk fc : Int32} {a1 a2 a3 a4 a5 a6 a7 a8 a9 a10 a11 a12 a13 a14 a15 a16 a17 a18 a19 a20 a21 a22 a23 a24 : Nat → Int32} {post : Int32 → St2 → Prop} {p v f n R : Nat} {w : Int32} (hp : p < 4 + R) (hR : R < 13) (hv : v < 12) (hf : f ≤ 1) (hn : n < 16) (hw : vp_nar .boolean w = w)
    (H : post (nI n) (hd, tl, ld, sr, on, nI R, nI (n + 1), wk, fc, a1, a2, a3, a4, a5, a6, a7, a8, a9, a10, a11, a12, a13, a14, a15, upd a16 n (nI p), upd a17 n (nI v), upd a18 n (nI f), upd a19 n w, a20, a21, a22, a23, a24)) : wpX_access post (hd, tl, ld, sr, on, nI R, nI n, wk, fc, a1, a2, a3, a4, a5, a6, a7, a8, a9, a10, a11, a12, a13, a14, a15, a16, a17, a18, a19, a20, a21, a22, a23, a24) (nI p) (nI v) (nI f) w := by
  unfold wpX_access
  dsimp only
  rw [nI_clamp (show n < 2 ^ 31 by omega), hw]
  exact ra_badP hp hR (br_t rfl (ra_badV hv (br_t rfl (ra_badF hf (br_t rfl (br_t (nI_lt (b := 16) hn (by decide)) ⟨pk_in n 16 hn, nm_e ⟨pk_in n 16 hn, nm_e ⟨pk_in n 16 hn, nm_e ⟨pk_in n 16 hn, nm_e (nm_r (nI_1 n) H)⟩⟩⟩⟩))))))
/-- what a lock set adds to the sites held -/
def ra_hv (o x : Int32) : Int32 := if x &&& (x - 1) = 0 then x &&& o else 0
theorem ra_hstep {hd tl ld sr on rg ac wk fc : Int32} {a1 a2 a3 a4 a5 a6 a7 a8 a9 a10 a11 a12 a13 a14 a15 a16 a17 a18 a19 a20 a21 a22 a23 a24 : Nat → Int32} {post : Int32 → Prop} {n : Nat} {x2 x4 : Int32} {r v : Nat} (hr : r < 12) (hv : v < 28) (h14 : a14 r = nI v) (hl : a1 v = nI v) (h4 : ¬ 12 ≤ x4)
    (H : wX_heldAt_18 post hd tl ld sr on rg ac wk fc a1 a2 a3 a4 a5 a6 a7 a8 a9 a10 a11 a12 a13 a14 a15 a16 a17 a18 a19 a20 a21 a22 a23 a24 n (x2 ||| ra_hv on (a2 v)) (a15 r) (x4 + 1)) : wX_heldAt_18 post hd tl ld sr on rg ac wk fc a1 a2 a3 a4 a5 a6 a7 a8 a9 a10 a11 a12 a13 a14 a15 a16 a17 a18 a19 a20 a21 a22 a23 a24 (n + 1) x2 (nI r) x4 := by
  refine br_f h4 (br_f (nI_pos (by omega)) ?_)
  rw [nI_clamp (show r < 2 ^ 31 by omega), h14, nI_clamp (show v < 2 ^ 31 by omega), hl, nI_clamp (show v < 2 ^ 31 by omega)]
  refine ⟨pk_in r 12 hr, pk_in v 28 hv, pk_in v 28 hv, nm_e ?_⟩
  unfold ra_hv at H
  by_cases z : a2 v &&& (a2 v - 1) = 0
  · rw [if_pos z] at H
    exact br_t z (nm_e ⟨pk_in r 12 hr, nm_e (nm_e H)⟩)
  · rw [if_neg z, Int32.or_zero] at H
    exact br_f z ⟨pk_in r 12 hr, nm_e (nm_e H)⟩
theorem ra_hend {hd tl ld sr on rg ac wk fc : Int32} {a1 a2 a3 a4 a5 a6 a7 a8 a9 a10 a11 a12 a13 a14 a15 a16 a17 a18 a19 a20 a21 a22 a23 a24 : Nat → Int32} {post : Int32 → Prop} {n : Nat} {x2 x3 x4 : Int32} (h3 : x3 = -1) (h4 : ¬ 12 ≤ x4) (H : post x2) : wX_heldAt_18 post hd tl ld sr on rg ac wk fc a1 a2 a3 a4 a5 a6 a7 a8 a9 a10 a11 a12 a13 a14 a15 a16 a17 a18 a19 a20 a21 a22 a23 a24 (n + 1) x2 x3 x4 := by
  subst h3
  exact br_f h4 (br_t (by decide) H)
theorem ra_held0 {hd tl ld sr on rg ac wk fc : Int32} {a1 a2 a3 a4 a5 a6 a7 a8 a9 a10 a11 a12 a13 a14 a15 a16 a17 a18 a19 a20 a21 a22 a23 a24 : Nat → Int32} {post : Int32 → Prop} {p : Nat} (hp : p < 4) (H : post 0) : wpX_heldAt post (hd, tl, ld, sr, on, rg, ac, wk, fc, a1, a2, a3, a4, a5, a6, a7, a8, a9, a10, a11, a12, a13, a14, a15, a16, a17, a18, a19, a20, a21, a22, a23, a24) (nI p) := by
  unfold wpX_heldAt
  exact br_f (nI_ge (b := 4) hp (by decide)) ⟨0 + 1, ra_hend rfl (by decide) H⟩
theorem ra_held1 {hd tl ld sr on rg ac wk fc : Int32} {a1 a2 a3 a4 a5 a6 a7 a8 a9 a10 a11 a12 a13 a14 a15 a16 a17 a18 a19 a20 a21 a22 a23 a24 : Nat → Int32} {post : Int32 → Prop} {r v : Nat} {x : Int32} (hr : r < 12) (hv : v < 28) (h14 : a14 r = nI v) (hl : a1 v = nI v) (h15 : a15 r = -1) (hx : ra_hv on (a2 v) = x) (H : post x) : wpX_heldAt post (hd, tl, ld, sr, on, rg, ac, wk, fc, a1, a2, a3, a4, a5, a6, a7, a8, a9, a10, a11, a12, a13, a14, a15, a16, a17, a18, a19, a20, a21, a22, a23, a24) (nI (r + 4)) := by
  unfold wpX_heldAt
  refine br_t (nI_le (a := 4) (by omega) (by omega)) (nm_r (e' := nI r) ?_ ⟨0 + 1 + 1, ra_hstep hr hv h14 hl (by decide) (ra_hend h15 (by decide) ?_)⟩)
  · show nI (r + 4) - nI 4 = nI r
    rw [pk_sub (by omega)]
    rfl
  · rw [hx, Int32.zero_or]
    exact H
theorem ra_held2 {hd tl ld sr on rg ac wk fc : Int32} {a1 a2 a3 a4 a5 a6 a7 a8 a9 a10 a11 a12 a13 a14 a15 a16 a17 a18 a19 a20 a21 a22 a23 a24 : Nat → Int32} {post : Int32 → Prop} {r v r' v' : Nat} {x y : Int32} (hr : r < 12) (hv : v < 28) (h14 : a14 r = nI v) (hl : a1 v = nI v) (h15 : a15 r = nI r') (hx : ra_hv on (a2 v) = x)
    (hr' : r' < 12) (hv' : v' < 28) (h14' : a14 r' = nI v') (hl' : a1 v' = nI v') (h15' : a15 r' = -1) (hy : ra_hv on (a2 v') = y) (H : post (x ||| y)) : wpX_heldAt post (hd, tl, ld, sr, on, rg, ac, wk, fc, a1, a2, a3, a4, a5, a6, a7, a8, a9, a10, a11, a12, a13, a14, a15, a16, a17, a18, a19, a20, a21, a22, a23, a24) (nI (r + 4)) := by
  unfold wpX_heldAt
  refine br_t (nI_le (a := 4) (by omega) (by omega)) (nm_r (e' := nI r) ?_ ⟨0 + 1 + 1 + 1, ra_hstep hr hv h14 hl (by decide) ?_⟩)
  · show nI (r + 4) - nI 4 = nI r
    rw [pk_sub (by omega)]
    rfl
  · rw [h15]
    refine ra_hstep hr' hv' h14' hl' (by decide) (ra_hend h15' (by decide) ?_)
    rw [hx, hy, Int32.zero_or]
    exact H
theorem ra_held {hd tl ld sr on ac wk fc : Int32} {a1 a2 a3 a4 a5 a6 a7 a8 a9 a10 a11 a12 a13 a14 a15 a16 a17 a18 a19 a20 a21 a22 a23 a24 : Nat → Int32} {post : Int32 → Prop} {p R : Nat} (hp : p < 4 + R) (hR : R < 13) (H : wpX_heldAt post (hd, tl, ld, sr, on, nI R, ac, wk, fc, a1, a2, a3, a4, a5, a6, a7, a8, a9, a10, a11, a12, a13, a14, a15, a16, a17, a18, a19, a20, a21, a22, a23, a24) (nI p)) : wpX_held post (hd, tl, ld, sr, on, nI R, ac, wk, fc, a1, a2, a3, a4, a5, a6, a7, a8, a9, a10, a11, a12, a13, a14, a15, a16, a17, a18, a19, a20, a21, a22, a23, a24) (nI p) := by
  unfold wpX_held
  exact ra_badP hp hR (br_t rfl H)
theorem ra_thr0 {hd tl ld sr on rg ac wk fc : Int32} {a1 a2 a3 a4 a5 a6 a7 a8 a9 a10 a11 a12 a13 a14 a15 a16 a17 a18 a19 a20 a21 a22 a23 a24 : Nat → Int32} {post : Int32 → Prop} {p : Nat} (hp : p < 4) (H : post (nI p)) : wpX_threadOf post (hd, tl, ld, sr, on, rg, ac, wk, fc, a1, a2, a3, a4, a5, a6, a7, a8, a9, a10, a11, a12, a13, a14, a15, a16, a17, a18, a19, a20, a21, a22, a23, a24) (nI p) := by
  unfold wpX_threadOf
  exact br_f (nI_ge (b := 4) hp (by decide)) H
theorem ra_thr1 {hd tl ld sr on rg ac wk fc : Int32} {a1 a2 a3 a4 a5 a6 a7 a8 a9 a10 a11 a12 a13 a14 a15 a16 a17 a18 a19 a20 a21 a22 a23 a24 : Nat → Int32} {post : Int32 → Prop} {r : Nat} (hr : r < 12) (H : post (a13 r)) : wpX_threadOf post (hd, tl, ld, sr, on, rg, ac, wk, fc, a1, a2, a3, a4, a5, a6, a7, a8, a9, a10, a11, a12, a13, a14, a15, a16, a17, a18, a19, a20, a21, a22, a23, a24) (nI (r + 4)) := by
  unfold wpX_threadOf
  have e : nI (r + 4) - 4 = nI r := by
    show nI (r + 4) - nI 4 = nI r
    rw [pk_sub (by omega)]
    rfl
  rw [e, nI_clamp (show r < 2 ^ 31 by omega)]
  exact br_t (nI_le (a := 4) (by omega) (by omega)) ⟨pk_in r 12 hr, H⟩
/-- what two accesses answer -/
def ra_cf (t u f g w z a b : Int32) : Int32 := if t = u then 0 else if f = g then (if w = 0 then (if z = 0 then 0 else (if a &&& b = 0 then 1 else 0)) else (if a &&& b = 0 then 1 else 0)) else 0
theorem ra_cf01 (t u f g w z a b : Int32) : ra_cf t u f g w z a b = 0 ∨ ra_cf t u f g w z a b = 1 := by
  unfold ra_cf
  repeat' split
  all_goals first | exact Or.inl rfl | exact Or.inr rfl
/-- an access of the table: its thread, the sites held there, its field, whether it writes -/
def ra_Ac (T : St2) (a16 a17 a18 a19 : Nat → Int32) (i : Nat) (t h f w : Int32) : Prop :=
  i < 16 ∧ (∃ p, a16 i = nI p ∧ (∀ ψ : Int32 → Prop, ψ t → wpX_threadOf ψ T (nI p)) ∧ (∀ ψ : Int32 → Prop, ψ h → wpX_heldAt ψ T (nI p))) ∧ a17 i = nI 2 ∧ a18 i = f ∧ a19 i = w
theorem ra_conflict {hd tl ld sr on rg ac wk fc : Int32} {a1 a2 a3 a4 a5 a6 a7 a8 a9 a10 a11 a12 a13 a14 a15 a16 a17 a18 a19 a20 a21 a22 a23 a24 : Nat → Int32} {post : Int32 → Prop} {i j : Nat} {t h f w t' h' f' w' : Int32} (hl : a1 2 = nI 2) (h2 : ¬ a2 2 = 0) (Ai : ra_Ac (hd, tl, ld, sr, on, rg, ac, wk, fc, a1, a2, a3, a4, a5, a6, a7, a8, a9, a10, a11, a12, a13, a14, a15, a16, a17, a18, a19, a20, a21, a22, a23, a24) a16 a17 a18 a19 i t h f w) (Aj : ra_Ac (hd, tl, ld, sr, on, rg, ac, wk, fc, a1, a2, a3, a4, a5, a6, a7, a8, a9, a10, a11, a12, a13, a14, a15, a16, a17, a18, a19, a20, a21, a22, a23, a24) a16 a17 a18 a19 j t' h' f' w')
    (H : post (ra_cf t t' f f' w w' h h')) : wpX_conflict post (hd, tl, ld, sr, on, rg, ac, wk, fc, a1, a2, a3, a4, a5, a6, a7, a8, a9, a10, a11, a12, a13, a14, a15, a16, a17, a18, a19, a20, a21, a22, a23, a24) (nI i) (nI j) := by
  obtain ⟨hi, ⟨p, ep, Tp, Hp⟩, vi, fi, wi⟩ := Ai
  obtain ⟨hj, ⟨q, eq, Tq, Hq⟩, vj, fj, wj⟩ := Aj
  have K : post (if h &&& h' = 0 then 1 else 0) → wX_conflict_74 post (nI i) (nI j) (nI p) (nI q) hd tl ld sr on rg ac wk fc a1 a2 a3 a4 a5 a6 a7 a8 a9 a10 a11 a12 a13 a14 a15 a16 a17 a18 a19 a20 a21 a22 a23 a24 := by
    intro k
    unfold wX_conflict_74
    rw [nI_clamp (show i < 2 ^ 31 by omega), nI_clamp (show j < 2 ^ 31 by omega), vi, vj, nI_clamp (show 2 < 2 ^ 31 by omega), hl, nI_clamp (show 2 < 2 ^ 31 by omega)]
    refine ⟨pk_in i 16 hi, pk_in 2 28 (by omega), pk_in 2 28 (by omega), pk_in j 16 hj, pk_in 2 28 (by omega), pk_in 2 28 (by omega), br_f (by rw [Int32.and_self]; exact h2) ?_⟩
    refine Hp _ ?_
    refine Hq _ ?_
    refine br_c (fun z => ?_) (fun z => ?_)
    · rw [if_pos z] at k
      exact k
    · rw [if_neg z] at k
      exact k
  unfold wpX_conflict
  dsimp only
  rw [nI_clamp (show i < 2 ^ 31 by omega), nI_clamp (show j < 2 ^ 31 by omega), fi, fj, wi, wj]
  unfold ra_cf at H
  refine ⟨pk_in i 16 hi, nm_r ep ⟨pk_in j 16 hj, nm_r eq ?_⟩⟩
  refine Tp _ ?_
  refine Tq _ ?_
  refine br_c (fun z => ?_) (fun z => ?_)
  · rw [if_pos z] at H
    exact H
  rw [if_neg z] at H
  refine ⟨pk_in i 16 hi, pk_in j 16 hj, br_c (fun z2 => ?_) (fun z2 => ?_)⟩
  · rw [if_pos z2] at H
    refine ⟨pk_in i 16 hi, br_c (fun z3 => ?_) (fun z3 => ?_)⟩
    · rw [if_pos z3] at H
      refine ⟨pk_in j 16 hj, br_c (fun z4 => ?_) (fun z4 => ?_)⟩
      · rw [if_pos z4] at H
        exact H
      · rw [if_neg z4] at H
        exact K H
    · rw [if_neg z3] at H
      exact K H
  · rw [if_neg z2] at H
    exact H
theorem ra_race {hd tl ld sr on rg wk fc : Int32} {a1 a2 a3 a4 a5 a6 a7 a8 a9 a10 a11 a12 a13 a14 a15 a16 a17 a18 a19 a20 a21 a22 a23 a24 : Nat → Int32} {post : Int32 → Prop} {i j : Nat} {t h f w t' h' f' w' : Int32} (hi : i < 5) (hj : j < 5) (hl : a1 2 = nI 2) (h2 : ¬ a2 2 = 0) (Ai : ra_Ac (hd, tl, ld, sr, on, rg, nI 5, wk, fc, a1, a2, a3, a4, a5, a6, a7, a8, a9, a10, a11, a12, a13, a14, a15, a16, a17, a18, a19, a20, a21, a22, a23, a24) a16 a17 a18 a19 i t h f w) (Aj : ra_Ac (hd, tl, ld, sr, on, rg, nI 5, wk, fc, a1, a2, a3, a4, a5, a6, a7, a8, a9, a10, a11, a12, a13, a14, a15, a16, a17, a18, a19, a20, a21, a22, a23, a24) a16 a17 a18 a19 j t' h' f' w')
    (H : post (ra_cf t t' f f' w w' h h')) : wpX_race post (hd, tl, ld, sr, on, rg, nI 5, wk, fc, a1, a2, a3, a4, a5, a6, a7, a8, a9, a10, a11, a12, a13, a14, a15, a16, a17, a18, a19, a20, a21, a22, a23, a24) (nI i) (nI j) := by
  unfold wpX_race
  refine br_f (nI_pos (by omega)) (br_f (nI_ge (b := 5) hi (by decide)) (br_f (nI_pos (by omega)) (br_t (nI_lt (b := 5) hj (by decide)) (ra_conflict hl h2 Ai Aj ⟨?_, H⟩))))
  rcases ra_cf01 t t' f f' w w' h h' with e | e
  · rw [e]
    rfl
  · rw [e]
    rfl
theorem ra_rs {hd tl ld sr on rg wk fc : Int32} {a1 a2 a3 a4 a5 a6 a7 a8 a9 a10 a11 a12 a13 a14 a15 a16 a17 a18 a19 a20 a21 a22 a23 a24 : Nat → Int32} {post : Int32 → Prop} {J : Int32 → Int32 → Prop} {n i j : Nat} {x1 : Int32} {t h f w t' h' f' w' : Int32} (hj : j < 5) (hl : a1 2 = nI 2) (h2 : ¬ a2 2 = 0) (Ai : ra_Ac (hd, tl, ld, sr, on, rg, nI 5, wk, fc, a1, a2, a3, a4, a5, a6, a7, a8, a9, a10, a11, a12, a13, a14, a15, a16, a17, a18, a19, a20, a21, a22, a23, a24) a16 a17 a18 a19 i t h f w) (Aj : ra_Ac (hd, tl, ld, sr, on, rg, nI 5, wk, fc, a1, a2, a3, a4, a5, a6, a7, a8, a9, a10, a11, a12, a13, a14, a15, a16, a17, a18, a19, a20, a21, a22, a23, a24) a16 a17 a18 a19 j t' h' f' w')
    (H : wX_races_16 post J (nI i) hd tl ld sr on rg (nI 5) wk fc a1 a2 a3 a4 a5 a6 a7 a8 a9 a10 a11 a12 a13 a14 a15 a16 a17 a18 a19 a20 a21 a22 a23 a24 n (x1 + ra_cf t t' f f' w w' h h') (nI (j + 1))) : wX_races_16 post J (nI i) hd tl ld sr on rg (nI 5) wk fc a1 a2 a3 a4 a5 a6 a7 a8 a9 a10 a11 a12 a13 a14 a15 a16 a17 a18 a19 a20 a21 a22 a23 a24 (n + 1) x1 (nI j) := by
  refine br_f (nI_ge (b := 5) hj (by decide)) (ra_conflict hl h2 Ai Aj ?_)
  rcases ra_cf01 t t' f f' w w' h h' with e | e
  · rw [e, Int32.add_zero] at H
    exact br_t e (nm_r (nI_1 j) H)
  · rw [e] at H
    exact br_f (by rw [e]; decide) (nm_e (nm_r (nI_1 j) H))
theorem ra_re {hd tl ld sr on rg wk fc : Int32} {a1 a2 a3 a4 a5 a6 a7 a8 a9 a10 a11 a12 a13 a14 a15 a16 a17 a18 a19 a20 a21 a22 a23 a24 : Nat → Int32} {post : Int32 → Prop} {J : Int32 → Int32 → Prop} {n i : Nat} {x1 : Int32} (H : J x1 (nI (i + 1))) : wX_races_16 post J (nI i) hd tl ld sr on rg (nI 5) wk fc a1 a2 a3 a4 a5 a6 a7 a8 a9 a10 a11 a12 a13 a14 a15 a16 a17 a18 a19 a20 a21 a22 a23 a24 (n + 1) x1 (nI 5) :=
  pk_le 5 5 (fun _ => nm_r (nI_1 i) H) (fun z => absurd z (by omega))
theorem ra_ro {hd tl ld sr on rg wk fc : Int32} {a1 a2 a3 a4 a5 a6 a7 a8 a9 a10 a11 a12 a13 a14 a15 a16 a17 a18 a19 a20 a21 a22 a23 a24 : Nat → Int32} {post : Int32 → Prop} {n i : Nat} {x1 : Int32} (hi : i < 5) (H : ∃ fu, wX_races_16 post (wX_races_4 post hd tl ld sr on rg (nI 5) wk fc a1 a2 a3 a4 a5 a6 a7 a8 a9 a10 a11 a12 a13 a14 a15 a16 a17 a18 a19 a20 a21 a22 a23 a24 n) (nI i) hd tl ld sr on rg (nI 5) wk fc a1 a2 a3 a4 a5 a6 a7 a8 a9 a10 a11 a12 a13 a14 a15 a16 a17 a18 a19 a20 a21 a22 a23 a24 fu x1 (nI (i + 1))) : wX_races_4 post hd tl ld sr on rg (nI 5) wk fc a1 a2 a3 a4 a5 a6 a7 a8 a9 a10 a11 a12 a13 a14 a15 a16 a17 a18 a19 a20 a21 a22 a23 a24 (n + 1) x1 (nI i) :=
  br_f (nI_ge (b := 5) hi (by decide)) (nm_r (nI_1 i) H)
theorem ra_races {hd tl ld sr on rg wk fc : Int32} {a1 a2 a3 a4 a5 a6 a7 a8 a9 a10 a11 a12 a13 a14 a15 a16 a17 a18 a19 a20 a21 a22 a23 a24 : Nat → Int32} {post : Int32 → Prop} {t0 h0 f0 w0 t1 h1 f1 w1 t2 h2 f2 w2 t3 h3 f3 w3 t4 h4 f4 w4 : Int32} (hl : a1 2 = nI 2) (hz : ¬ a2 2 = 0)
    (A0 : ra_Ac (hd, tl, ld, sr, on, rg, nI 5, wk, fc, a1, a2, a3, a4, a5, a6, a7, a8, a9, a10, a11, a12, a13, a14, a15, a16, a17, a18, a19, a20, a21, a22, a23, a24) a16 a17 a18 a19 0 t0 h0 f0 w0) (A1 : ra_Ac (hd, tl, ld, sr, on, rg, nI 5, wk, fc, a1, a2, a3, a4, a5, a6, a7, a8, a9, a10, a11, a12, a13, a14, a15, a16, a17, a18, a19, a20, a21, a22, a23, a24) a16 a17 a18 a19 1 t1 h1 f1 w1) (A2 : ra_Ac (hd, tl, ld, sr, on, rg, nI 5, wk, fc, a1, a2, a3, a4, a5, a6, a7, a8, a9, a10, a11, a12, a13, a14, a15, a16, a17, a18, a19, a20, a21, a22, a23, a24) a16 a17 a18 a19 2 t2 h2 f2 w2) (A3 : ra_Ac (hd, tl, ld, sr, on, rg, nI 5, wk, fc, a1, a2, a3, a4, a5, a6, a7, a8, a9, a10, a11, a12, a13, a14, a15, a16, a17, a18, a19, a20, a21, a22, a23, a24) a16 a17 a18 a19 3 t3 h3 f3 w3) (A4 : ra_Ac (hd, tl, ld, sr, on, rg, nI 5, wk, fc, a1, a2, a3, a4, a5, a6, a7, a8, a9, a10, a11, a12, a13, a14, a15, a16, a17, a18, a19, a20, a21, a22, a23, a24) a16 a17 a18 a19 4 t4 h4 f4 w4)
    (H : post (0 + ra_cf t0 t1 f0 f1 w0 w1 h0 h1 + ra_cf t0 t2 f0 f2 w0 w2 h0 h2 + ra_cf t0 t3 f0 f3 w0 w3 h0 h3 + ra_cf t0 t4 f0 f4 w0 w4 h0 h4 + ra_cf t1 t2 f1 f2 w1 w2 h1 h2 + ra_cf t1 t3 f1 f3 w1 w3 h1 h3 + ra_cf t1 t4 f1 f4 w1 w4 h1 h4 + ra_cf t2 t3 f2 f3 w2 w3 h2 h3 + ra_cf t2 t4 f2 f4 w2 w4 h2 h4 + ra_cf t3 t4 f3 f4 w3 w4 h3 h4)) : wpX_races post (hd, tl, ld, sr, on, rg, nI 5, wk, fc, a1, a2, a3, a4, a5, a6, a7, a8, a9, a10, a11, a12, a13, a14, a15, a16, a17, a18, a19, a20, a21, a22, a23, a24) := by
  unfold wpX_races
  refine ⟨0 + 1 + 1 + 1 + 1 + 1 + 1, ra_ro (i := 0) (by omega) ⟨0 + 1 + 1 + 1 + 1 + 1, ?_⟩⟩
  refine ra_rs (j := 1) (by omega) hl hz A0 A1 (ra_rs (j := 2) (by omega) hl hz A0 A2 (ra_rs (j := 3) (by omega) hl hz A0 A3 (ra_rs (j := 4) (by omega) hl hz A0 A4 (ra_re (ra_ro (i := 1) (by omega) ⟨0 + 1 + 1 + 1 + 1, ?_⟩)))))
  refine ra_rs (j := 2) (by omega) hl hz A1 A2 (ra_rs (j := 3) (by omega) hl hz A1 A3 (ra_rs (j := 4) (by omega) hl hz A1 A4 (ra_re (ra_ro (i := 2) (by omega) ⟨0 + 1 + 1 + 1, ?_⟩))))
  refine ra_rs (j := 3) (by omega) hl hz A2 A3 (ra_rs (j := 4) (by omega) hl hz A2 A4 (ra_re (ra_ro (i := 3) (by omega) ⟨0 + 1 + 1, ?_⟩)))
  refine ra_rs (j := 4) (by omega) hl hz A3 A4 (ra_re (ra_ro (i := 4) (by omega) ⟨0 + 1, ?_⟩))
  exact ra_re (pk_le 5 5 (fun _ => H) (fun z => absurd z (by omega)))
end
section
/-- the rule by which a pair of sites is a step -/
def ra_c (P Q O a b : Nat) : Bool := P.testBit a && (Q.testBit b && !(Nat.beq a b && O.testBit a))
def ra_g (P Q O e : Nat) (f : Nat → Nat) (j : Nat) : Nat := f j ||| cond (ra_c P Q O (j / 8) (j % 8)) e 0
/-- the table of steps for the law's four regions -/
def ra_st (A B O : Nat) : Nat → Nat := ra_g B A O 2 (ra_g A B O 1 (fun _ => 0))
theorem ra_st4 (A B O j : Nat) : ra_st A B O j < 4 := by
  show (0 ||| cond (ra_c A B O (j / 8) (j % 8)) 1 0) ||| cond (ra_c B A O (j / 8) (j % 8)) 2 0 < 4
  cases ra_c A B O (j / 8) (j % 8) <;> cases ra_c B A O (j / 8) (j % 8) <;> decide
theorem ra_as72 {hd tl ld sr on rg ac wk fc : Int32} {a1 a2 a3 a4 a5 a6 a7 a8 a9 a10 a11 a12 a13 a14 a15 a16 a17 a18 a19 a20 a21 a22 a23 a24 : Nat → Int32} {post : St2 → Prop} {J3 J13 : Int32 → (Nat → Int32) → (Nat → Int32) → (Nat → Int32) → (Nat → Int32) → (Nat → Int32) → (Nat → Int32) → (Nat → Int32) → (Nat → Int32) → (Nat → Int32) → (Nat → Int32) → (Nat → Int32) → (Nat → Int32) → (Nat → Int32) → (Nat → Int32) → (Nat → Int32) → (Nat → Int32) → (Nat → Int32) → (Nat → Int32) → (Nat → Int32) → (Nat → Int32) → (Nat → Int32) → (Nat → Int32) → (Nat → Int32) → (Nat → Int32) → Prop} {x1 x2 : Int32} {a b th : Nat} (ha : a < 8) (hb : b < 8) (hth : th < 31)
    (H : J13 (nI (b + 1)) a1 a2 a3 a4 a5 a6 a7 a8 a9 a10 a11 a12 a13 a14 a15 a16 a17 a18 a19 (upd a20 (a * 8 + b) (a20 (a * 8 + b) ||| nI (2 ^ th))) a21 a22 a23 a24) : wX_addSteps_72 post J3 J13 x1 x2 (nI th) (nI a) (nI b) hd tl ld sr on rg ac wk fc a1 a2 a3 a4 a5 a6 a7 a8 a9 a10 a11 a12 a13 a14 a15 a16 a17 a18 a19 a20 a21 a22 a23 a24 := by
  unfold wX_addSteps_72
  rw [ra_ix, nI_clamp (show a * 8 + b < 2 ^ 31 by omega), ra_shl th hth]
  exact ⟨pk_in (a * 8 + b) 64 (by omega), pk_in (a * 8 + b) 64 (by omega), nm_e (nm_r (nI_1 b) H)⟩
theorem ra_inv {P Q O e : Nat} {f : Nat → Nat} {s : Nat → Int32} {a b : Nat} (ha : a < 8) (hb : b < 8) (h : ∀ j, j < 64 → s j = nI (if j < a * 8 + b then ra_g P Q O e f j else f j)) :
    (ra_c P Q O a b = false → ∀ j, j < 64 → s j = nI (if j < a * 8 + (b + 1) then ra_g P Q O e f j else f j)) ∧
    (ra_c P Q O a b = true → ∀ j, j < 64 → upd s (a * 8 + b) (s (a * 8 + b) ||| nI e) j = nI (if j < a * 8 + (b + 1) then ra_g P Q O e f j else f j)) := by
  have e1 : (a * 8 + b) / 8 = a := by omega
  have e2 : (a * 8 + b) % 8 = b := by omega
  constructor
  · intro c j hj
    rw [h j hj]
    by_cases z : j = a * 8 + b
    · subst z
      rw [if_neg (by omega), if_pos (by omega)]
      unfold ra_g
      rw [e1, e2, c]
      simp
    · by_cases y : j < a * 8 + b
      · rw [if_pos y, if_pos (by omega)]
      · rw [if_neg y, if_neg (by omega)]
  · intro c j hj
    by_cases z : j = a * 8 + b
    · subst z
      rw [pk_us, h _ hj, if_neg (by omega), if_pos (by omega), ra_or]
      unfold ra_g
      rw [e1, e2, c]
      rfl
    · rw [pk_un z, h j hj]
      by_cases y : j < a * 8 + b
      · rw [if_pos y, if_pos (by omega)]
      · rw [if_neg y, if_neg (by omega)]
theorem ra_as13 {hd tl ld sr rg ac wk fc : Int32} {a1 a2 a3 a4 a5 a6 a7 a8 a9 a10 a11 a12 a13 a14 a15 a16 a17 a18 a19 a20 a21 a22 a23 a24 : Nat → Int32} {post : St2 → Prop} {J3 : Int32 → (Nat → Int32) → (Nat → Int32) → (Nat → Int32) → (Nat → Int32) → (Nat → Int32) → (Nat → Int32) → (Nat → Int32) → (Nat → Int32) → (Nat → Int32) → (Nat → Int32) → (Nat → Int32) → (Nat → Int32) → (Nat → Int32) → (Nat → Int32) → (Nat → Int32) → (Nat → Int32) → (Nat → Int32) → (Nat → Int32) → (Nat → Int32) → (Nat → Int32) → (Nat → Int32) → (Nat → Int32) → (Nat → Int32) → (Nat → Int32) → Prop} {P Q O th a : Nat} {f : Nat → Nat} (hP : P < 256) (hQ : Q < 256) (hO : O < 256) (hth : th < 31) (ha : a < 8)
    (h20 : ∀ j, j < 64 → a20 j = nI (if j < a * 8 then ra_g P Q O (2 ^ th) f j else f j))
    (H : ∀ s, (∀ j, j < 64 → s j = nI (if j < (a + 1) * 8 then ra_g P Q O (2 ^ th) f j else f j)) → J3 (nI (a + 1)) a1 a2 a3 a4 a5 a6 a7 a8 a9 a10 a11 a12 a13 a14 a15 a16 a17 a18 a19 s a21 a22 a23 a24) :
    ∃ n, wX_addSteps_13 post J3 (nI P) (nI Q) (nI th) (nI a) hd tl ld sr (nI O) rg ac wk fc n 0 a1 a2 a3 a4 a5 a6 a7 a8 a9 a10 a11 a12 a13 a14 a15 a16 a17 a18 a19 a20 a21 a22 a23 a24 :=
  pk_loop (fun n i s => wX_addSteps_13 post J3 (nI P) (nI Q) (nI th) (nI a) hd tl ld sr (nI O) rg ac wk fc n (nI i) a1 a2 a3 a4 a5 a6 a7 a8 a9 a10 a11 a12 a13 a14 a15 a16 a17 a18 a19 s a21 a22 a23 a24) (fun i s => ∀ j, j < 64 → s j = nI (if j < a * 8 + i then ra_g P Q O (2 ^ th) f j else f j)) 8 0 a20 (by omega) h20
    (fun n s h => pk_le 8 8 (fun _ => nm_r (nI_1 a) (H s (fun j hj => by rw [h j hj, show (a + 1) * 8 = a * 8 + 8 by omega]))) (fun z => absurd z (by omega)))
    (fun n i s hi h hw => pk_le 8 i (fun z => absurd z (by omega)) (fun _ => by
      have N0 : ra_c P Q O a i = false → wX_addSteps_13 post J3 (nI P) (nI Q) (nI th) (nI a) hd tl ld sr (nI O) rg ac wk fc n (nI (i + 1)) a1 a2 a3 a4 a5 a6 a7 a8 a9 a10 a11 a12 a13 a14 a15 a16 a17 a18 a19 s a21 a22 a23 a24 := fun c => hw s ((ra_inv ha hi h).1 c)
      have N1 : ra_c P Q O a i = true → wX_addSteps_13 post J3 (nI P) (nI Q) (nI th) (nI a) hd tl ld sr (nI O) rg ac wk fc n (nI (i + 1)) a1 a2 a3 a4 a5 a6 a7 a8 a9 a10 a11 a12 a13 a14 a15 a16 a17 a18 a19 (upd s (a * 8 + i) (s (a * 8 + i) ||| nI (2 ^ th))) a21 a22 a23 a24 := fun c => hw _ ((ra_inv ha hi h).2 c)
      refine ra_t1 (by omega) (by omega) (fun hPa => ra_t1 (by omega) (by omega) (fun hQb => ?_) (fun hQb => ?_)) (fun hPa => ?_)
      · refine br_f (by decide) (pk_eq a i (fun e => ra_t1 (by omega) (by omega) (fun ho => ?_) (fun ho => ?_)) (fun e => ?_))
        · refine nm_r (nI_1 i) (N0 ?_)
          subst e
          unfold ra_c
          rw [hPa, hQb, ho, Nat.beq_refl]
          rfl
        · refine ra_as72 ha hi hth (N1 ?_)
          unfold ra_c
          rw [hPa, hQb, ho, Bool.and_false]
          rfl
        · refine ra_as72 ha hi hth (N1 ?_)
          unfold ra_c
          rw [hPa, hQb, ra_bne e]
          rfl
      · refine br_t rfl (nm_r (nI_1 i) (N0 ?_))
        unfold ra_c
        rw [hPa, hQb]
        rfl
      · refine br_t rfl (nm_r (nI_1 i) (N0 ?_))
        unfold ra_c
        rw [hPa]
        rfl))
theorem ra_addSteps {hd tl ld sr rg ac wk fc : Int32} {a1 a2 a3 a4 a5 a6 a7 a8 a9 a10 a11 a12 a13 a14 a15 a16 a17 a18 a19 a20 a21 a22 a23 a24 : Nat → Int32} {post : St2 → Prop} {P Q O th : Nat} {f : Nat → Nat} (hP : P < 256) (hQ : Q < 256) (hO : O < 256) (hth : th < 31) (h20 : ∀ j, j < 64 → a20 j = nI (f j))
    (H : ∀ s, (∀ j, j < 64 → s j = nI (ra_g P Q O (2 ^ th) f j)) → post (hd, tl, ld, sr, nI O, rg, ac, wk, fc, a1, a2, a3, a4, a5, a6, a7, a8, a9, a10, a11, a12, a13, a14, a15, a16, a17, a18, a19, s, a21, a22, a23, a24)) : wpX_addSteps post (hd, tl, ld, sr, nI O, rg, ac, wk, fc, a1, a2, a3, a4, a5, a6, a7, a8, a9, a10, a11, a12, a13, a14, a15, a16, a17, a18, a19, a20, a21, a22, a23, a24) (nI P) (nI Q) (nI th) := by
  unfold wpX_addSteps
  exact pk_loop (fun n i s => wX_addSteps_3 post (nI P) (nI Q) (nI th) hd tl ld sr (nI O) rg ac wk fc n (nI i) a1 a2 a3 a4 a5 a6 a7 a8 a9 a10 a11 a12 a13 a14 a15 a16 a17 a18 a19 s a21 a22 a23 a24) (fun i s => ∀ j, j < 64 → s j = nI (if j < i * 8 then ra_g P Q O (2 ^ th) f j else f j)) 8 0 a20 (by omega)
    (fun j hj => by rw [if_neg (by omega)]; exact h20 j hj)
    (fun n s h => pk_le 8 8 (fun _ => H s (fun j hj => by rw [h j hj, if_pos (by omega)])) (fun z => absurd z (by omega)))
    (fun n i s hi h hw => pk_le 8 i (fun z => absurd z (by omega)) (fun _ => ra_as13 hP hQ hO hth hi h (fun s' h' => hw s' h')))
theorem ra_ms23 {hd tl ld sr on ac wk fc : Int32} {a1 a2 a3 a4 a5 a6 a7 a8 a9 a10 a11 a12 a13 a14 a15 a16 a17 a18 a19 a20 a21 a22 a23 a24 : Nat → Int32} {post : St2 → Prop} {n r : Nat} {q : Int32} (hr : r < 4) (hq : a15 r = q) (H : ∃ fu, wX_makeSteps_40 post (wX_makeSteps_23 post n) (nI r) fu q 0 hd tl ld sr on (nI 4) ac wk fc a1 a2 a3 a4 a5 a6 a7 a8 a9 a10 a11 a12 a13 a14 a15 a16 a17 a18 a19 a20 a21 a22 a23 a24) : wX_makeSteps_23 post (n + 1) (nI r) hd tl ld sr on (nI 4) ac wk fc a1 a2 a3 a4 a5 a6 a7 a8 a9 a10 a11 a12 a13 a14 a15 a16 a17 a18 a19 a20 a21 a22 a23 a24 :=
  br_f (nI_ge (b := 4) hr (by decide)) ⟨pk_in r 12 (by omega), nm_r (by rw [nI_clamp (show r < 2 ^ 31 by omega)]; exact hq) H⟩
theorem ra_ms40e {hd tl ld sr on rg ac wk fc : Int32} {a1 a2 a3 a4 a5 a6 a7 a8 a9 a10 a11 a12 a13 a14 a15 a16 a17 a18 a19 a20 a21 a22 a23 a24 : Nat → Int32} {post : St2 → Prop} {J : Int32 → Int32 → Int32 → Int32 → Int32 → Int32 → Int32 → Int32 → Int32 → Int32 → (Nat → Int32) → (Nat → Int32) → (Nat → Int32) → (Nat → Int32) → (Nat → Int32) → (Nat → Int32) → (Nat → Int32) → (Nat → Int32) → (Nat → Int32) → (Nat → Int32) → (Nat → Int32) → (Nat → Int32) → (Nat → Int32) → (Nat → Int32) → (Nat → Int32) → (Nat → Int32) → (Nat → Int32) → (Nat → Int32) → (Nat → Int32) → (Nat → Int32) → (Nat → Int32) → (Nat → Int32) → (Nat → Int32) → (Nat → Int32) → Prop} {n r : Nat} {x2 x3 : Int32} (h2 : x2 = -1) (h3 : ¬ 12 ≤ x3) (H : J (nI (r + 1)) hd tl ld sr on rg ac wk fc a1 a2 a3 a4 a5 a6 a7 a8 a9 a10 a11 a12 a13 a14 a15 a16 a17 a18 a19 a20 a21 a22 a23 a24) : wX_makeSteps_40 post J (nI r) (n + 1) x2 x3 hd tl ld sr on rg ac wk fc a1 a2 a3 a4 a5 a6 a7 a8 a9 a10 a11 a12 a13 a14 a15 a16 a17 a18 a19 a20 a21 a22 a23 a24 := by
  subst h2
  exact br_f h3 (br_t (by decide) (nm_r (nI_1 r) H))
theorem ra_ms40s {hd tl ld sr rg ac wk fc : Int32} {a1 a2 a3 a4 a5 a6 a7 a8 a9 a10 a11 a12 a13 a14 a15 a16 a17 a18 a19 a20 a21 a22 a23 a24 : Nat → Int32} {post : St2 → Prop} {J : Int32 → Int32 → Int32 → Int32 → Int32 → Int32 → Int32 → Int32 → Int32 → Int32 → (Nat → Int32) → (Nat → Int32) → (Nat → Int32) → (Nat → Int32) → (Nat → Int32) → (Nat → Int32) → (Nat → Int32) → (Nat → Int32) → (Nat → Int32) → (Nat → Int32) → (Nat → Int32) → (Nat → Int32) → (Nat → Int32) → (Nat → Int32) → (Nat → Int32) → (Nat → Int32) → (Nat → Int32) → (Nat → Int32) → (Nat → Int32) → (Nat → Int32) → (Nat → Int32) → (Nat → Int32) → (Nat → Int32) → (Nat → Int32) → Prop} {n r q v v' th P Q O : Nat} {x3 : Int32} {f : Nat → Nat} (h3 : ¬ 12 ≤ x3) (h3' : ¬ 12 ≤ x3 + 1) (hr : r < 12) (hq : q < 12) (hv : v < 28) (hv' : v' < 28) (e14 : a14 q = nI v) (e14' : a14 r = nI v') (hl : a1 v = nI v) (hl' : a1 v' = nI v')
    (e2 : a2 v = nI P) (e2' : a2 v' = nI Q) (e13 : a13 r = nI th) (e15 : a15 q = -1) (hP : P < 256) (hQ : Q < 256) (hO : O < 256) (hth : th < 31) (h20 : ∀ j, j < 64 → a20 j = nI (f j))
    (H : ∀ s, (∀ j, j < 64 → s j = nI (ra_g P Q O (2 ^ th) f j)) → J (nI (r + 1)) hd tl ld sr (nI O) rg ac wk fc a1 a2 a3 a4 a5 a6 a7 a8 a9 a10 a11 a12 a13 a14 a15 a16 a17 a18 a19 s a21 a22 a23 a24) : wX_makeSteps_40 post J (nI r) (n + 1 + 1) (nI q) x3 hd tl ld sr (nI O) rg ac wk fc a1 a2 a3 a4 a5 a6 a7 a8 a9 a10 a11 a12 a13 a14 a15 a16 a17 a18 a19 a20 a21 a22 a23 a24 := by
  refine br_f h3 (br_f (nI_pos (by omega)) ?_)
  have cq : (nI q).toNatClampNeg = q := nI_clamp (by omega)
  have cr : (nI r).toNatClampNeg = r := nI_clamp (by omega)
  have cv : (nI v).toNatClampNeg = v := nI_clamp (by omega)
  have cv' : (nI v').toNatClampNeg = v' := nI_clamp (by omega)
  simp only [cq, cr, e14, e14', cv, cv', hl, hl', e2, e2', e13]
  refine ⟨pk_in q 12 hq, pk_in v 28 hv, pk_in v 28 hv, pk_in r 12 hr, pk_in v' 28 hv', pk_in v' 28 hv', pk_in r 12 hr, ra_addSteps hP hQ hO hth h20 (fun s hs => ?_)⟩
  exact ⟨pk_in q 12 hq, nm_r e15 (nm_e (ra_ms40e rfl h3' (H s hs)))⟩
theorem ra_ms2 {hd tl ld sr on rg ac wk fc : Int32} {a1 a2 a3 a4 a5 a6 a7 a8 a9 a10 a11 a12 a13 a14 a15 a16 a17 a18 a19 a20 a21 a22 a23 a24 : Nat → Int32} {post : St2 → Prop} (H : ∀ s, (∀ j, j < 64 → s j = nI 0) → ∃ fu, wX_makeSteps_23 post fu 0 hd tl ld sr on rg ac wk fc a1 a2 a3 a4 a5 a6 a7 a8 a9 a10 a11 a12 a13 a14 a15 a16 a17 a18 a19 s a21 a22 a23 a24) : wpX_makeSteps post (hd, tl, ld, sr, on, rg, ac, wk, fc, a1, a2, a3, a4, a5, a6, a7, a8, a9, a10, a11, a12, a13, a14, a15, a16, a17, a18, a19, a20, a21, a22, a23, a24) := by
  unfold wpX_makeSteps
  exact pk_loop (fun n i s => wX_makeSteps_2 post hd tl ld sr on rg ac wk fc n (nI i) a1 a2 a3 a4 a5 a6 a7 a8 a9 a10 a11 a12 a13 a14 a15 a16 a17 a18 a19 s a21 a22 a23 a24) (fun i s => ∀ j, j < i → s j = nI 0) 64 0 a20 (by omega) (fun j hj => absurd hj (by omega))
    (fun n s h => pk_le 64 64 (fun _ => H s h) (fun z => absurd z (by omega)))
    (fun n i s hi h hw => pk_le 64 i (fun z => absurd z (by omega)) (fun _ => ⟨pk_in i 64 hi, nm_e (nm_r (nI_1 i) (hw _ (ra_fill (f := fun _ => nI 0) (nI_clamp (by omega)) h rfl)))⟩))
theorem ra_makeSteps {hd tl ld sr ac wk fc : Int32} {a1 a2 a3 a4 a5 a6 a7 a8 a9 a10 a11 a12 a13 a14 a15 a16 a17 a18 a19 a20 a21 a22 a23 a24 : Nat → Int32} {post : St2 → Prop} {A B O : Nat} (hA : A < 256) (hB : B < 256) (hO : O < 256) (l0 : a1 0 = nI 0) (l1 : a1 1 = nI 1) (e20 : a2 0 = nI A) (e21 : a2 1 = nI B)
    (t1 : a13 1 = nI 0) (t3 : a13 3 = nI 1) (k0 : a14 0 = nI 0) (k1 : a14 1 = nI 1) (k2 : a14 2 = nI 1) (k3 : a14 3 = nI 0) (r0 : a15 0 = -1) (r1 : a15 1 = nI 0) (r2 : a15 2 = -1) (r3 : a15 3 = nI 2)
    (H : ∀ s, (∀ j, j < 64 → s j = nI (ra_st A B O j)) → post (hd, tl, ld, sr, nI O, nI 4, ac, wk, fc, a1, a2, a3, a4, a5, a6, a7, a8, a9, a10, a11, a12, a13, a14, a15, a16, a17, a18, a19, s, a21, a22, a23, a24)) : wpX_makeSteps post (hd, tl, ld, sr, nI O, nI 4, ac, wk, fc, a1, a2, a3, a4, a5, a6, a7, a8, a9, a10, a11, a12, a13, a14, a15, a16, a17, a18, a19, a20, a21, a22, a23, a24) := by
  refine ra_ms2 (fun s hs => ⟨0 + 1 + 1 + 1 + 1 + 1, ?_⟩)
  refine ra_ms23 (r := 0) (by omega) r0 ⟨0 + 1, ra_ms40e rfl (by decide) ?_⟩
  refine ra_ms23 (r := 1) (by omega) r1 ⟨0 + 1 + 1, ra_ms40s (q := 0) (v := 0) (v' := 1) (th := 0) (f := fun _ => 0) (by decide) (by decide) (by omega) (by omega) (by omega) (by omega) k0 k1 l0 l1 e20 e21 t1 r0 hA hB hO (by omega) hs (fun s1 hs1 => ?_)⟩
  refine ra_ms23 (r := 2) (by omega) r2 ⟨0 + 1, ra_ms40e rfl (by decide) ?_⟩
  refine ra_ms23 (r := 3) (by omega) r3 ⟨0 + 1 + 1, ra_ms40s (q := 2) (v := 1) (v' := 0) (th := 1) (by decide) (by decide) (by omega) (by omega) (by omega) (by omega) k2 k3 l1 l0 e21 e20 t3 r2 hB hA hO (by omega) hs1 (fun s2 hs2 => ?_)⟩
  exact pk_le 4 4 (fun _ => H s2 hs2) (fun z => absurd z (by omega))
end
section
/-- the walk as plain Lean: a stack of (site, next), the sites left (last first) -/
def ra_gg (b : Bool) (st : Nat → Nat) (s t : Nat) : Bool := !(Nat.beq (st (cond b (t * 8 + s) (s * 8 + t))) 0)
def ra_wk (g : Nat → Nat → Bool) : Nat → Nat → Nat → List Nat → List (Nat × Nat) → Option (Nat × Nat × List Nat)
  | 0, _, _, _, _ => none
  | _ + 1, S, W, fin, [] => some (S, W, fin)
  | n + 1, S, W, fin, (s, t) :: l =>
    cond (Nat.beq t 8) (cond (Nat.blt fin.length 8) (ra_wk g n S W (s :: fin) l) none)
      (cond (g s t && !(W.testBit t)) (cond (Nat.blt l.length 8) (ra_wk g n (S ||| 2 ^ t) (W ||| 2 ^ t) fin ((t, 0) :: (s, t + 1) :: l)) none)
        (ra_wk g n S W fin ((s, t + 1) :: l)))
def ra_stk (a b : Nat → Int32) : List (Nat × Nat) → Prop
  | [] => True
  | x :: l => a l.length = nI x.1 ∧ b l.length = nI x.2 ∧ x.1 < 8 ∧ x.2 ≤ 8 ∧ ra_stk a b l
def ra_lst (a : Nat → Int32) : List Nat → Prop
  | [] => True
  | x :: l => a l.length = nI x ∧ x < 8 ∧ ra_lst a l
theorem ra_lstU {a : Nat → Int32} {k : Nat} {v : Int32} : ∀ l : List Nat, l.length ≤ k → ra_lst a l → ra_lst (upd a k v) l
  | [], _, _ => trivial
  | x :: l, hk, h => by
    have hk' : l.length + 1 ≤ k := hk
    exact ⟨by rw [pk_un (by omega)]; exact h.1, h.2.1, ra_lstU l (by omega) h.2.2⟩
theorem ra_stkA {a b : Nat → Int32} {k : Nat} {v : Int32} : ∀ l : List (Nat × Nat), l.length ≤ k → ra_stk a b l → ra_stk (upd a k v) b l
  | [], _, _ => trivial
  | x :: l, hk, h => by
    have hk' : l.length + 1 ≤ k := hk
    exact ⟨by rw [pk_un (by omega)]; exact h.1, h.2.1, h.2.2.1, h.2.2.2.1, ra_stkA l (by omega) h.2.2.2.2⟩
theorem ra_stkB {a b : Nat → Int32} {k : Nat} {v : Int32} : ∀ l : List (Nat × Nat), l.length ≤ k → ra_stk a b l → ra_stk a (upd b k v) l
  | [], _, _ => trivial
  | x :: l, hk, h => by
    have hk' : l.length + 1 ≤ k := hk
    exact ⟨h.1, by rw [pk_un (by omega)]; exact h.2.1, h.2.2.1, h.2.2.2.1, ra_stkB l (by omega) h.2.2.2.2⟩
theorem ra_stepFrom {hd tl ld sr on rg ac wk fc : Int32} {a1 a2 a3 a4 a5 a6 a7 a8 a9 a10 a11 a12 a13 a14 a15 a16 a17 a18 a19 a20 a21 a22 a23 a24 : Nat → Int32} {post : Int32 → Prop} {s t : Nat} {st : Nat → Nat} {b : Bool} (hs : s < 8) (ht : t < 8) (h20 : ∀ j, j < 64 → a20 j = nI (st j)) (hst : ∀ j, st j < 4) (H : post (cond (ra_gg b st s t) 1 0)) : wpX_stepFrom post (hd, tl, ld, sr, on, rg, ac, wk, fc, a1, a2, a3, a4, a5, a6, a7, a8, a9, a10, a11, a12, a13, a14, a15, a16, a17, a18, a19, a20, a21, a22, a23, a24) (nI s) (nI t) (cond b 1 0) := by
  have K : ∀ x : Nat, x < 4 → post (cond (!(Nat.beq x 0)) 1 0) → wX_stepFrom_29 post (nI x) hd tl ld sr on rg ac wk fc a1 a2 a3 a4 a5 a6 a7 a8 a9 a10 a11 a12 a13 a14 a15 a16 a17 a18 a19 a20 a21 a22 a23 a24 := by
    intro x hx h
    refine pk_eq x 0 (fun z => ?_) (fun z => ?_)
    · subst z
      exact h
    · rw [ra_bne z] at h
      exact h
  cases b with
  | false =>
    unfold wpX_stepFrom
    refine br_t rfl ?_
    rw [ra_ix, nI_clamp (show s * 8 + t < 2 ^ 31 by omega), h20 _ (by omega)]
    exact ⟨pk_in (s * 8 + t) 64 (by omega), K _ (hst _) H⟩
  | true =>
    unfold wpX_stepFrom
    refine br_f (show ¬ (1 : Int32) = 0 by decide) ?_
    rw [ra_ix, nI_clamp (show t * 8 + s < 2 ^ 31 by omega), h20 _ (by omega)]
    exact ⟨pk_in (t * 8 + s) 64 (by omega), K _ (hst _) H⟩
theorem ra_walk36 {post : Int32 → St2 → Prop} {b : Bool} {st : Nat → Nat} {hd tl ld sr on rg ac : Int32} {a1 a2 a3 a4 a5 a6 a7 a8 a9 a10 a11 a12 a13 a14 a15 a16 a17 a18 a19 a20 a22 : Nat → Int32} (h20 : ∀ j, j < 64 → a20 j = nI (st j)) (hst : ∀ j, st j < 4) :
    ∀ (n S W : Nat) (fin : List Nat) (L : List (Nat × Nat)) (i : Nat) (a21 a23 a24 : Nat → Int32) (S' W' : Nat) (fin' : List Nat), ra_wk (ra_gg b st) n S W fin L = some (S', W', fin') → i + n ≤ 200 → S < 256 → W < 256 → ra_lst a21 fin → ra_stk a23 a24 L → L.length ≤ 9 →
      (∀ a21' a23' a24', S' < 256 → W' < 256 → ra_lst a21' fin' → post (nI S') (hd, tl, ld, sr, on, rg, ac, nI W', nI fin'.length, a1, a2, a3, a4, a5, a6, a7, a8, a9, a10, a11, a12, a13, a14, a15, a16, a17, a18, a19, a20, a21', a22, a23', a24')) →
      wX_walk_36 post (cond b 1 0) hd tl ld sr on rg ac n (nI S) (nI L.length) (nI i) (nI W) (nI fin.length) a1 a2 a3 a4 a5 a6 a7 a8 a9 a10 a11 a12 a13 a14 a15 a16 a17 a18 a19 a20 a21 a22 a23 a24
  | 0, _, _, _, _, _, _, _, _, _, _, _, h, _, _, _, _, _, _, _ => by
    rw [ra_wk] at h
    exact absurd h (by simp)
  | n + 1, S, W, fin, [], i, a21, a23, a24, S', W', fin', h, hi, hS, hW, hf, _, _, H => by
    rw [ra_wk] at h
    have e := Option.some.inj h
    have e1 : S = S' := congrArg (fun x => x.1) e
    have e2 : W = W' := congrArg (fun x => x.2.1) e
    have e3 : fin = fin' := congrArg (fun x => x.2.2) e
    subst e1 e2 e3
    exact pk_le 200 i (fun z => absurd z (by omega)) (fun _ => br_t (nI_le (a := 0) (b := 0) (by omega) (by omega)) (H a21 a23 a24 hS hW hf))
  | n + 1, S, W, fin, (s, t) :: l, i, a21, a23, a24, S', W', fin', h, hi, hS, hW, hf, hk, hlen, H => by
    have hl9 : l.length + 1 ≤ 9 := hlen
    obtain ⟨k1, k2, k3, k4, k5⟩ := hk
    have k1 : a23 l.length = nI s := k1
    have k2 : a24 l.length = nI t := k2
    have k3 : s < 8 := k3
    have k4 : t ≤ 8 := k4
    rw [ra_wk] at h
    show wX_walk_36 post (cond b 1 0) hd tl ld sr on rg ac (n + 1) (nI S) (nI (l.length + 1)) (nI i) (nI W) (nI fin.length) a1 a2 a3 a4 a5 a6 a7 a8 a9 a10 a11 a12 a13 a14 a15 a16 a17 a18 a19 a20 a21 a22 a23 a24
    refine pk_le 200 i (fun z => absurd z (by omega)) (fun _ => br_f (nI_nle (n := l.length + 1) (by omega) (by omega)) ?_)
    rw [nI_pred, nI_clamp (show l.length < 2 ^ 31 by omega)]
    refine ⟨pk_in l.length 9 (by omega), nm_r k1 ⟨pk_in l.length 9 (by omega), nm_r k2 ?_⟩⟩
    refine pk_eq t 8 (fun e => ?_) (fun e => ?_)
    · rw [e] at h
      cases hb : Nat.blt fin.length 8 with
      | false =>
        rw [hb] at h
        exact absurd h (by simp)
      | true =>
        rw [hb] at h
        have hfl : fin.length < 8 := Nat.blt_eq.mp hb
        rw [nI_clamp (show fin.length < 2 ^ 31 by omega)]
        refine ⟨pk_in fin.length 8 hfl, nm_e (nm_r (nI_1 _) (nm_r (pk_m1 _) (nm_r (nI_1 i) ?_)))⟩
        exact ra_walk36 h20 hst n S W (s :: fin) l (i + 1) _ a23 a24 S' W' fin' h (by omega) hS hW ⟨pk_us, k3, ra_lstU fin (Nat.le_refl _) hf⟩ k5 (by omega) H
    · have ht : t < 8 := by omega
      rw [ra_bne e] at h
      have kB : ra_stk a23 (upd a24 l.length (nI (t + 1))) ((s, t + 1) :: l) := ⟨k1, pk_us, k3, ht, ra_stkB l (Nat.le_refl _) k5⟩
      refine ⟨pk_in l.length 9 (by omega), nm_r (e' := upd a24 l.length (nI (t + 1))) (by rw [nI_1]) (ra_stepFrom k3 ht h20 hst ?_)⟩
      cases hg : ra_gg b st s t with
      | false =>
        rw [hg] at h
        refine br_t rfl (nm_r (nI_1 i) ?_)
        exact ra_walk36 h20 hst n S W fin ((s, t + 1) :: l) (i + 1) a21 a23 _ S' W' fin' h (by omega) hS hW hf kB hlen H
      | true =>
        rw [hg] at h
        refine br_f (show ¬ (1 : Int32) = 0 by decide) (ra_t0 (by omega) (by omega) (fun hb => ?_) (fun hb => ?_))
        · rw [hb] at h
          cases hc : Nat.blt l.length 8 with
          | false =>
            rw [hc] at h
            exact absurd h (by simp)
          | true =>
            rw [hc] at h
            have hll : l.length < 8 := Nat.blt_eq.mp hc
            rw [ra_shl t (by omega), ra_or, ra_or]
            refine nm_e (nm_e ⟨pk_in (l.length + 1) 9 (by omega), nm_r (e' := upd a23 (l.length + 1) (nI t)) (by rw [nI_clamp (show l.length + 1 < 2 ^ 31 by omega)]) ⟨pk_in (l.length + 1) 9 (by omega), nm_r (e' := upd (upd a24 l.length (nI (t + 1))) (l.length + 1) (nI 0)) (by rw [nI_clamp (show l.length + 1 < 2 ^ 31 by omega)]; rfl) (nm_r (nI_1 _) (nm_r (nI_1 i) ?_))⟩⟩)
            exact ra_walk36 h20 hst n (S ||| 2 ^ t) (W ||| 2 ^ t) fin ((t, 0) :: (s, t + 1) :: l) (i + 1) a21 _ _ S' W' fin' h (by omega) (ra_o256 hS (ra_p256 ht)) (ra_o256 hW (ra_p256 ht)) hf
              ⟨pk_us, pk_us, ht, by omega, ra_stkA (a := a23) ((s, t + 1) :: l) (Nat.le_refl _) (ra_stkB ((s, t + 1) :: l) (Nat.le_refl _) kB)⟩ (show l.length + 1 + 1 ≤ 9 by omega) H
        · rw [hb] at h
          refine nm_r (nI_1 i) ?_
          exact ra_walk36 h20 hst n S W fin ((s, t + 1) :: l) (i + 1) a21 a23 _ S' W' fin' h (by omega) hS hW hf kB hlen H
def ra_wa (g : Nat → Nat → Bool) (s W : Nat) (fin : List Nat) : Option (Nat × Nat × List Nat) := ra_wk g 200 (2 ^ s) (W ||| 2 ^ s) fin [(s, 0)]
theorem ra_walk {hd tl ld sr on rg ac : Int32} {a1 a2 a3 a4 a5 a6 a7 a8 a9 a10 a11 a12 a13 a14 a15 a16 a17 a18 a19 a20 a21 a22 a23 a24 : Nat → Int32} {post : Int32 → St2 → Prop} {b : Bool} {st : Nat → Nat} {s W S' W' : Nat} {fin fin' : List Nat} (h20 : ∀ j, j < 64 → a20 j = nI (st j)) (hst : ∀ j, st j < 4) (hs : s < 8) (hW : W < 256) (hf : ra_lst a21 fin) (h : ra_wa (ra_gg b st) s W fin = some (S', W', fin'))
    (H : ∀ a21' a23' a24', S' < 256 → W' < 256 → ra_lst a21' fin' → post (nI S') (hd, tl, ld, sr, on, rg, ac, nI W', nI fin'.length, a1, a2, a3, a4, a5, a6, a7, a8, a9, a10, a11, a12, a13, a14, a15, a16, a17, a18, a19, a20, a21', a22, a23', a24')) : wpX_walk post (hd, tl, ld, sr, on, rg, ac, nI W, nI fin.length, a1, a2, a3, a4, a5, a6, a7, a8, a9, a10, a11, a12, a13, a14, a15, a16, a17, a18, a19, a20, a21, a22, a23, a24) (nI s) (cond b 1 0) := by
  unfold wpX_walk
  dsimp only
  rw [ra_shl s (by omega), ra_or]
  refine nm_e (nm_e (nm_e (nm_e ⟨200, ?_⟩)))
  exact ra_walk36 h20 hst 200 (2 ^ s) (W ||| 2 ^ s) fin [(s, 0)] 0 a21 _ _ S' W' fin' h (by omega) (ra_p256 hs) (ra_o256 hW (ra_p256 hs)) hf ⟨pk_us, pk_us, hs, by omega, trivial⟩ (show 1 ≤ 9 by omega) H
end
section
def ra_r1 (st : Nat → Nat) (p s : Nat) (x : Nat) : Nat → Nat
  | 0 => x
  | t + 1 => cond (p.testBit t) (ra_r1 st p s x t ||| st (s * 8 + t)) (ra_r1 st p s x t)
def ra_r2 (st : Nat → Nat) (p : Nat) : Nat → Nat
  | 0 => 0
  | s + 1 => cond (p.testBit s) (ra_r1 st p s (ra_r2 st p s) 8) (ra_r2 st p s)
def ra_two (st : Nat → Nat) (p : Nat) : Bool := decide ((nI (ra_r2 st p 8) &&& (nI (ra_r2 st p 8) - 1)) = 0)
theorem ra_r1t {st : Nat → Nat} {p s x i : Nat} (z : p.testBit i = true) : ra_r1 st p s x (i + 1) = ra_r1 st p s x i ||| st (s * 8 + i) := by
  show cond (p.testBit i) (ra_r1 st p s x i ||| st (s * 8 + i)) (ra_r1 st p s x i) = _
  rw [z]
  rfl
theorem ra_r1f {st : Nat → Nat} {p s x i : Nat} (z : p.testBit i = false) : ra_r1 st p s x (i + 1) = ra_r1 st p s x i := by
  show cond (p.testBit i) (ra_r1 st p s x i ||| st (s * 8 + i)) (ra_r1 st p s x i) = _
  rw [z]
  rfl
theorem ra_tt13 {hd tl ld sr on rg ac wk fc : Int32} {a1 a2 a3 a4 a5 a6 a7 a8 a9 a10 a11 a12 a13 a14 a15 a16 a17 a18 a19 a20 a21 a22 a23 a24 : Nat → Int32} {post : Int32 → Prop} {J : Int32 → Int32 → Prop} {p s x : Nat} {st : Nat → Nat} (hp : p < 256) (hs : s < 8) (h20 : ∀ j, j < 64 → a20 j = nI (st j)) (H : J (nI (cond (p.testBit s) (ra_r1 st p s x 8) x)) (nI (s + 1))) : ∃ n, wX_twoThreads_13 post J (nI p) (nI s) hd tl ld sr on rg ac wk fc a1 a2 a3 a4 a5 a6 a7 a8 a9 a10 a11 a12 a13 a14 a15 a16 a17 a18 a19 a20 a21 a22 a23 a24 n (nI x) 0 := by
  cases hb : p.testBit s with
  | false =>
    rw [hb] at H
    exact pk_loop (σ := Unit) (fun n i _ => wX_twoThreads_13 post J (nI p) (nI s) hd tl ld sr on rg ac wk fc a1 a2 a3 a4 a5 a6 a7 a8 a9 a10 a11 a12 a13 a14 a15 a16 a17 a18 a19 a20 a21 a22 a23 a24 n (nI x) (nI i)) (fun _ _ => True) 8 0 () (by omega) trivial
      (fun n _ _ => pk_le 8 8 (fun _ => nm_r (nI_1 s) H) (fun z => absurd z (by omega)))
      (fun n i _ hi _ hw => pk_le 8 i (fun z => absurd z (by omega)) (fun _ => ra_t1 (by omega) (by omega) (fun z => absurd (z.symm.trans hb) (by decide)) (fun _ => nm_r (nI_1 i) (hw () trivial))))
  | true =>
    rw [hb] at H
    exact pk_loop (fun n i y => wX_twoThreads_13 post J (nI p) (nI s) hd tl ld sr on rg ac wk fc a1 a2 a3 a4 a5 a6 a7 a8 a9 a10 a11 a12 a13 a14 a15 a16 a17 a18 a19 a20 a21 a22 a23 a24 n y (nI i)) (fun i y => y = nI (ra_r1 st p s x i)) 8 0 (nI x) (by omega) rfl
      (fun n y hy => pk_le 8 8 (fun _ => nm_r (nI_1 s) (by rw [hy]; exact H)) (fun z => absurd z (by omega)))
      (fun n i y hi hy hw => pk_le 8 i (fun z => absurd z (by omega)) (fun _ => ra_t1 (by omega) (by omega) (fun _ => ra_t1 (by omega) (by omega)
        (fun z => ⟨pk_in (s * 8 + i) 64 (by omega) (ra_ix s i), nm_e (nm_r (nI_1 i) (hw _ (by rw [ra_ix, nI_clamp (show s * 8 + i < 2 ^ 31 by omega), h20 _ (by omega), hy, ra_or, ra_r1t z])))⟩)
        (fun z => nm_r (nI_1 i) (hw _ (by rw [hy, ra_r1f z])))) (fun z => absurd (z.symm.trans hb) (by decide))))
theorem ra_twoThreads {hd tl ld sr on rg ac wk fc : Int32} {a1 a2 a3 a4 a5 a6 a7 a8 a9 a10 a11 a12 a13 a14 a15 a16 a17 a18 a19 a20 a21 a22 a23 a24 : Nat → Int32} {post : Int32 → Prop} {p : Nat} {st : Nat → Nat} (hp : p < 256) (h20 : ∀ j, j < 64 → a20 j = nI (st j)) (H : post (cond (ra_two st p) 0 1)) : wpX_twoThreads post (hd, tl, ld, sr, on, rg, ac, wk, fc, a1, a2, a3, a4, a5, a6, a7, a8, a9, a10, a11, a12, a13, a14, a15, a16, a17, a18, a19, a20, a21, a22, a23, a24) (nI p) := by
  unfold wpX_twoThreads
  refine pk_loop (fun n i y => wX_twoThreads_4 post (nI p) hd tl ld sr on rg ac wk fc a1 a2 a3 a4 a5 a6 a7 a8 a9 a10 a11 a12 a13 a14 a15 a16 a17 a18 a19 a20 a21 a22 a23 a24 n y (nI i)) (fun i y => y = nI (ra_r2 st p i)) 8 0 0 (by omega) rfl
    (fun n y hy => pk_le 8 8 (fun _ => ?_) (fun z => absurd z (by omega)))
    (fun n i y hi hy hw => pk_le 8 i (fun z => absurd z (by omega)) (fun _ => ?_))
  · unfold ra_two at H
    subst hy
    refine br_c (fun z => ?_) (fun z => ?_)
    · rw [decide_eq_true z] at H
      exact H
    · rw [decide_eq_false z] at H
      exact H
  · subst hy
    exact ra_tt13 hp hi h20 (hw _ rfl)
def ra_d1 (g : Nat → Nat → Bool) : Nat → Nat → List Nat → Option (List Nat)
  | 0, _, fin => some fin
  | k + 1, W, fin => cond (W.testBit (7 - k)) (ra_d1 g k W fin) (match ra_wa g (7 - k) W fin with
    | none => none
    | some r => ra_d1 g k r.2.1 r.2.2)
def ra_d2 (g : Nat → Nat → Bool) (two : Nat → Bool) : List Nat → Nat → Nat → Option Nat
  | [], _, acc => some acc
  | x :: l, W, acc => cond (W.testBit x) (ra_d2 g two l W acc) (match ra_wa g x W [] with
    | none => none
    | some r => ra_d2 g two l r.2.1 (cond (two r.1) acc (acc ||| r.1)))
def ra_dg (st : Nat → Nat) : Option Nat := match ra_d1 (ra_gg false st) 8 0 [] with
  | none => none
  | some fin => cond (Nat.beq fin.length 8) (ra_d2 (ra_gg true st) (ra_two st) fin 0 0) none
theorem ra_d82 {post : Int32 → St2 → Prop} {st : Nat → Nat} {D : Nat} {hd tl ld sr on rg ac : Int32} {a1 a2 a3 a4 a5 a6 a7 a8 a9 a10 a11 a12 a13 a14 a15 a16 a17 a18 a19 a20 a22 : Nat → Int32} (h20 : ∀ j, j < 64 → a20 j = nI (st j)) (hst : ∀ j, st j < 4) (H : ∀ wk fc a21 a23 a24, post (nI D) (hd, tl, ld, sr, on, rg, ac, wk, fc, a1, a2, a3, a4, a5, a6, a7, a8, a9, a10, a11, a12, a13, a14, a15, a16, a17, a18, a19, a20, a21, a22, a23, a24)) :
    ∀ (L : List Nat) (W acc : Nat) (fc : Int32) (a21 a23 a24 : Nat → Int32), ra_d2 (ra_gg true st) (ra_two st) L W acc = some D → W < 256 → L.length ≤ 8 → ra_lst a22 L → wX_danger_82 post (L.length + 1) (nI acc) (nI L.length + (-1)) hd tl ld sr on rg ac (nI W) fc a1 a2 a3 a4 a5 a6 a7 a8 a9 a10 a11 a12 a13 a14 a15 a16 a17 a18 a19 a20 a21 a22 a23 a24
  | [], W, acc, fc, a21, a23, a24, h, hW, hL, hl => by
    rw [ra_d2] at h
    have e := Option.some.inj h
    subst e
    exact br_t (show nI 0 + (-1) < 0 by decide) (H _ _ _ _ _)
  | x :: l, W, acc, fc, a21, a23, a24, h, hW, hL, hl => by
    have hL' : l.length + 1 ≤ 8 := hL
    obtain ⟨l1, l2, l3⟩ := hl
    rw [ra_d2] at h
    show wX_danger_82 post (l.length + 1 + 1) (nI acc) (nI (l.length + 1) + (-1)) hd tl ld sr on rg ac (nI W) fc a1 a2 a3 a4 a5 a6 a7 a8 a9 a10 a11 a12 a13 a14 a15 a16 a17 a18 a19 a20 a21 a22 a23 a24
    rw [pk_m1]
    refine br_f (nI_pos (by omega)) ⟨pk_in l.length 8 (by omega), nm_r (e' := nI x) (by rw [nI_clamp (show l.length < 2 ^ 31 by omega)]; exact l1) (ra_t0 (by omega) (by omega) (fun hb => ?_) (fun hb => ?_))⟩
    · rw [hb] at h
      cases hw : ra_wa (ra_gg true st) x W [] with
      | none =>
        rw [hw] at h
        exact absurd h (by simp)
      | some r =>
        obtain ⟨S', W', fin'⟩ := r
        rw [hw] at h
        have h : ra_d2 (ra_gg true st) (ra_two st) l W' (cond (ra_two st S') acc (acc ||| S')) = some D := h
        refine ra_walk (b := true) (fin := []) h20 hst l2 hW trivial hw (fun a21' a23' a24' hS' hW' _ => ?_)
        refine ra_twoThreads hS' h20 ?_
        cases ht : ra_two st S' with
        | true =>
          rw [ht] at h
          exact br_t rfl (nm_e (ra_d82 h20 hst H l W' acc _ a21' a23' a24' h hW' (by omega) l3))
        | false =>
          rw [ht] at h
          refine br_f (show ¬ (1 : Int32) = 0 by decide) (nm_r (ra_or _ _) (nm_e ?_))
          exact ra_d82 h20 hst H l W' (acc ||| S') _ a21' a23' a24' h hW' (by omega) l3
    · rw [hb] at h
      exact nm_e (ra_d82 h20 hst H l W acc fc a21 a23 a24 h hW (by omega) l3)
theorem ra_lstC {a b : Nat → Int32} : ∀ l : List Nat, (∀ j, j < l.length → b j = a j) → ra_lst a l → ra_lst b l
  | [], _, _ => trivial
  | x :: l, hc, h => ⟨by rw [hc l.length (Nat.lt_succ_self _)]; exact h.1, h.2.1, ra_lstC l (fun j hj => hc j (Nat.lt_succ_of_lt hj)) h.2.2⟩
theorem ra_d48 {hd tl ld sr on rg ac wk fc : Int32} {a1 a2 a3 a4 a5 a6 a7 a8 a9 a10 a11 a12 a13 a14 a15 a16 a17 a18 a19 a20 a21 a22 a23 a24 : Nat → Int32} {post : Int32 → St2 → Prop} {st : Nat → Nat} {D : Nat} {fin : List Nat} (h20 : ∀ j, j < 64 → a20 j = nI (st j)) (hst : ∀ j, st j < 4) (hf : fin.length = 8) (hl : ra_lst a21 fin) (h : ra_d2 (ra_gg true st) (ra_two st) fin 0 0 = some D)
    (H : ∀ wk fc a21 a22 a23 a24, post (nI D) (hd, tl, ld, sr, on, rg, ac, wk, fc, a1, a2, a3, a4, a5, a6, a7, a8, a9, a10, a11, a12, a13, a14, a15, a16, a17, a18, a19, a20, a21, a22, a23, a24)) : ∃ n, wX_danger_48 post hd tl ld sr on rg ac wk fc n 0 a1 a2 a3 a4 a5 a6 a7 a8 a9 a10 a11 a12 a13 a14 a15 a16 a17 a18 a19 a20 a21 a22 a23 a24 :=
  pk_loop (fun n i s => wX_danger_48 post hd tl ld sr on rg ac wk fc n (nI i) a1 a2 a3 a4 a5 a6 a7 a8 a9 a10 a11 a12 a13 a14 a15 a16 a17 a18 a19 a20 a21 s a23 a24) (fun i s => ∀ j, j < i → s j = a21 j) 8 0 a22 (by omega) (fun j hj => absurd hj (by omega))
    (fun n s hs => pk_le 8 8 (fun _ => ⟨fin.length + 1, by
      have K := ra_d82 (post := post) (hd := hd) (tl := tl) (ld := ld) (sr := sr) (on := on) (rg := rg) (ac := ac) (a1 := a1) (a2 := a2) (a3 := a3) (a4 := a4) (a5 := a5) (a6 := a6) (a7 := a7) (a8 := a8) (a9 := a9) (a10 := a10) (a11 := a11) (a12 := a12) (a13 := a13) (a14 := a14) (a15 := a15) (a16 := a16) (a17 := a17) (a18 := a18) (a19 := a19) (a22 := s) h20 hst (fun wk fc a21 a23 a24 => H wk fc a21 s a23 a24) fin 0 0 fc a21 a23 a24 h (by omega) (by omega) (ra_lstC fin (fun j hj => hs j (by omega)) hl)
      rw [hf] at K ⊢
      exact K⟩) (fun z => absurd z (by omega)))
    (fun n i s hi h' hw => pk_le 8 i (fun z => absurd z (by omega)) (fun _ => ⟨pk_in i 8 hi, pk_in i 8 hi, nm_e (nm_r (nI_1 i) (hw _ (ra_fill (f := a21) (nI_clamp (by omega)) h' (by rw [nI_clamp (show i < 2 ^ 31 by omega)]))))⟩))
theorem ra_d16 {post : Int32 → St2 → Prop} {st : Nat → Nat} {D : Nat} {hd tl ld sr on rg ac : Int32} {a1 a2 a3 a4 a5 a6 a7 a8 a9 a10 a11 a12 a13 a14 a15 a16 a17 a18 a19 a20 a22 : Nat → Int32} (h20 : ∀ j, j < 64 → a20 j = nI (st j)) (hst : ∀ j, st j < 4) (H : ∀ wk fc a21 a22 a23 a24, post (nI D) (hd, tl, ld, sr, on, rg, ac, wk, fc, a1, a2, a3, a4, a5, a6, a7, a8, a9, a10, a11, a12, a13, a14, a15, a16, a17, a18, a19, a20, a21, a22, a23, a24)) :
    ∀ (k W : Nat) (fin fin' : List Nat) (a21 a23 a24 : Nat → Int32), k ≤ 8 → ra_d1 (ra_gg false st) k W fin = some fin' → fin'.length = 8 → ra_d2 (ra_gg true st) (ra_two st) fin' 0 0 = some D → W < 256 → ra_lst a21 fin → wX_danger_16 post (k + 1) (nI (8 - k)) hd tl ld sr on rg ac (nI W) (nI fin.length) a1 a2 a3 a4 a5 a6 a7 a8 a9 a10 a11 a12 a13 a14 a15 a16 a17 a18 a19 a20 a21 a22 a23 a24
  | 0, W, fin, fin', a21, a23, a24, hk, h, h8, hd2, hW, hl => by
    rw [ra_d1] at h
    have e := Option.some.inj h
    subst e
    exact pk_le 8 8 (fun _ => ra_d48 h20 hst h8 hl hd2 H) (fun z => absurd z (by omega))
  | k + 1, W, fin, fin', a21, a23, a24, hk, h, h8, hd2, hW, hl => by
    rw [ra_d1] at h
    have e8 : 8 - (k + 1) = 7 - k := by omega
    have e7 : 7 - k + 1 = 8 - k := by omega
    rw [e8]
    refine pk_le 8 (7 - k) (fun z => absurd z (by omega)) (fun _ => ra_t0 (by omega) (by omega) (fun hb => ?_) (fun hb => ?_))
    · rw [hb] at h
      cases hw : ra_wa (ra_gg false st) (7 - k) W fin with
      | none =>
        rw [hw] at h
        exact absurd h (by simp)
      | some r =>
        obtain ⟨S', W', f'⟩ := r
        rw [hw] at h
        refine ra_walk (b := false) h20 hst (by omega) hW hl hw (fun a21' a23' a24' _ hW' hl' => nm_r (nI_1 _) ?_)
        rw [e7]
        exact ra_d16 h20 hst H k W' f' fin' a21' a23' a24' (by omega) h h8 hd2 hW' hl'
    · rw [hb] at h
      refine nm_r (nI_1 _) ?_
      rw [e7]
      exact ra_d16 h20 hst H k W fin fin' a21 a23 a24 (by omega) h h8 hd2 hW hl
theorem ra_danger {hd tl ld sr ac wk fc : Int32} {a1 a2 a3 a4 a5 a6 a7 a8 a9 a10 a11 a12 a13 a14 a15 a16 a17 a18 a19 a20 a21 a22 a23 a24 : Nat → Int32} {post : Int32 → St2 → Prop} {A B O D : Nat} (hA : A < 256) (hB : B < 256) (hO : O < 256) (l0 : a1 0 = nI 0) (l1 : a1 1 = nI 1) (e20 : a2 0 = nI A) (e21 : a2 1 = nI B)
    (t1 : a13 1 = nI 0) (t3 : a13 3 = nI 1) (k0 : a14 0 = nI 0) (k1 : a14 1 = nI 1) (k2 : a14 2 = nI 1) (k3 : a14 3 = nI 0) (r0 : a15 0 = -1) (r1 : a15 1 = nI 0) (r2 : a15 2 = -1) (r3 : a15 3 = nI 2)
    (h : ra_dg (ra_st A B O) = some D) (H : ∀ wk fc a20 a21 a22 a23 a24, post (nI D) (hd, tl, ld, sr, nI O, nI 4, ac, wk, fc, a1, a2, a3, a4, a5, a6, a7, a8, a9, a10, a11, a12, a13, a14, a15, a16, a17, a18, a19, a20, a21, a22, a23, a24)) : wpX_danger post (hd, tl, ld, sr, nI O, nI 4, ac, wk, fc, a1, a2, a3, a4, a5, a6, a7, a8, a9, a10, a11, a12, a13, a14, a15, a16, a17, a18, a19, a20, a21, a22, a23, a24) := by
  unfold wpX_danger
  refine ra_makeSteps hA hB hO l0 l1 e20 e21 t1 t3 k0 k1 k2 k3 r0 r1 r2 r3 (fun s hs => ?_)
  unfold ra_dg at h
  cases h1 : ra_d1 (ra_gg false (ra_st A B O)) 8 0 [] with
  | none =>
    rw [h1] at h
    exact absurd h (by simp)
  | some fin =>
    rw [h1] at h
    have h : cond (Nat.beq fin.length 8) (ra_d2 (ra_gg true (ra_st A B O)) (ra_two (ra_st A B O)) fin 0 0) none = some D := h
    cases hb : Nat.beq fin.length 8 with
    | false =>
      rw [hb] at h
      exact absurd h (by simp)
    | true =>
      rw [hb] at h
      exact ⟨8 + 1, ra_d16 hs (ra_st4 A B O) (fun wk fc a21 a22 a23 a24 => H wk fc s a21 a22 a23 a24) 8 0 [] fin a21 a23 a24 (by omega) h1 (Nat.eq_of_beq_eq_true hb) h (by omega) trivial⟩
end
section
def ra_B (t : Nat) (m : Bool) : Nat := cond m (2 ^ t ||| 2 ^ ((t + 1) % 8)) (2 ^ t)
def ra_LS (s : Nat) (bS : Bool) : Nat := cond bS (2 ^ s) 0
def ra_LT (s t : Nat) (bS bT : Bool) : Nat := cond (cond (Nat.beq s t) bS bT) (2 ^ t) 0
def ra_O (s t : Nat) (bS bT : Bool) : Nat := (0 ||| cond bS (2 ^ s) 0) ||| cond (Nat.beq s t) 0 (cond bT (2 ^ t) 0)
def ra_due (s B : Nat) (bS : Bool) : Nat := cond (Nat.beq B (2 ^ s) && bS) 0 (2 ^ s ||| B)
theorem ra_tab : ∀ s, s < 8 → ∀ t, t < 8 → ∀ bS bT m : Bool, ra_dg (ra_st (2 ^ s) (ra_B t m) (ra_O s t bS bT)) = some (ra_due s (ra_B t m) bS) := by decide +kernel
theorem ra_hvS : ∀ s, s < 8 → ∀ t, t < 8 → ∀ bS bT : Bool, ra_hv (nI (ra_O s t bS bT)) (nI (2 ^ s)) = nI (ra_LS s bS) := by decide +kernel
theorem ra_hvT : ∀ s, s < 8 → ∀ t, t < 8 → ∀ bS bT m : Bool, ra_hv (nI (ra_O s t bS bT)) (nI (ra_B t m)) = nI (cond m 0 (ra_LT s t bS bT)) := by decide +kernel
theorem ra_B256 : ∀ t, t < 8 → ∀ m : Bool, ra_B t m < 256 := by decide +kernel
theorem ra_O256 : ∀ s, s < 8 → ∀ t, t < 8 → ∀ bS bT : Bool, ra_O s t bS bT < 256 := by decide +kernel
theorem ra_on1 : ∀ s, s < 8 → nI 0 &&& (nI (2 ^ s) ^^^ (-1)) = nI 0 := by decide +kernel
theorem ra_on2 : ∀ s, s < 8 → ∀ t, t < 8 → ∀ bS : Bool, s ≠ t → nI (0 ||| cond bS (2 ^ s) 0) &&& (nI (2 ^ t) ^^^ (-1)) = nI (0 ||| cond bS (2 ^ s) 0) := by decide +kernel
theorem ra_am : ∀ k, k < 8 → nI (2 ^ k) &&& ((0 : Int32) ^^^ (-1)) = nI (2 ^ k) := by decide +kernel
theorem ra_am2 : ∀ t, t < 8 → nI (2 ^ ((t + 1) % 8)) &&& (nI (2 ^ t) ^^^ (-1)) = nI (2 ^ ((t + 1) % 8)) := by decide +kernel
theorem ra_abs1 (S T : Int32) : S &&& (S ||| T) = S := by
  apply Int32.toBitVec_inj.1
  rw [Int32.toBitVec_and, Int32.toBitVec_or]
  apply BitVec.eq_of_getLsbD_eq
  intro i _
  rw [BitVec.getLsbD_and, BitVec.getLsbD_or]
  cases S.toBitVec.getLsbD i <;> rfl
theorem ra_orc (S T : Int32) : S ||| T = T ||| S := Int32.or_comm S T
end
section
/-- the state that the law asks: sites of the variables, regions -/
def ra_Q (A B O : Nat) (a1 a2 a13 a14 a15 : Nat → Int32) : Prop :=
  (∀ j, j < 28 → a1 j = nI j) ∧ a2 0 = nI A ∧ a2 1 = nI B ∧ ¬ a2 2 = 0 ∧ A < 256 ∧ B < 256 ∧ O < 256 ∧
  (a13 0 = nI 0 ∧ a13 1 = nI 0 ∧ a13 2 = nI 1 ∧ a13 3 = nI 1) ∧ (a14 0 = nI 0 ∧ a14 1 = nI 1 ∧ a14 2 = nI 1 ∧ a14 3 = nI 0) ∧ (a15 0 = -1 ∧ a15 1 = nI 0 ∧ a15 2 = -1 ∧ a15 3 = nI 2)
/-- its accesses -/
def ra_X (w : Int32) (a16 a17 a18 a19 : Nat → Int32) : Prop :=
  (a16 0 = nI 4 ∧ a16 1 = nI 6 ∧ a16 2 = nI 5 ∧ a16 3 = nI 7 ∧ a16 4 = nI 1) ∧ (a17 0 = nI 2 ∧ a17 1 = nI 2 ∧ a17 2 = nI 2 ∧ a17 3 = nI 2 ∧ a17 4 = nI 2) ∧
  (a18 0 = nI 0 ∧ a18 1 = nI 0 ∧ a18 2 = nI 0 ∧ a18 3 = nI 0 ∧ a18 4 = nI 1) ∧ (a19 0 = w ∧ a19 1 = 0 ∧ a19 2 = 1 ∧ a19 3 = 0 ∧ a19 4 = 1)
theorem ra_Acs {hd tl ld sr rg ac wk fc : Int32} {a1 a2 a3 a4 a5 a6 a7 a8 a9 a10 a11 a12 a13 a14 a15 a16 a17 a18 a19 a20 a21 a22 a23 a24 : Nat → Int32} {A B O : Nat} {w S T : Int32} (q : ra_Q A B O a1 a2 a13 a14 a15) (x : ra_X w a16 a17 a18 a19) (hS : ra_hv (nI O) (nI A) = S) (hT : ra_hv (nI O) (nI B) = T) :
    ra_Ac (hd, tl, ld, sr, nI O, rg, ac, wk, fc, a1, a2, a3, a4, a5, a6, a7, a8, a9, a10, a11, a12, a13, a14, a15, a16, a17, a18, a19, a20, a21, a22, a23, a24) a16 a17 a18 a19 0 (nI 0) S (nI 0) w ∧ ra_Ac (hd, tl, ld, sr, nI O, rg, ac, wk, fc, a1, a2, a3, a4, a5, a6, a7, a8, a9, a10, a11, a12, a13, a14, a15, a16, a17, a18, a19, a20, a21, a22, a23, a24) a16 a17 a18 a19 1 (nI 1) T (nI 0) 0 ∧ ra_Ac (hd, tl, ld, sr, nI O, rg, ac, wk, fc, a1, a2, a3, a4, a5, a6, a7, a8, a9, a10, a11, a12, a13, a14, a15, a16, a17, a18, a19, a20, a21, a22, a23, a24) a16 a17 a18 a19 2 (nI 0) (T ||| S) (nI 0) 1 ∧ ra_Ac (hd, tl, ld, sr, nI O, rg, ac, wk, fc, a1, a2, a3, a4, a5, a6, a7, a8, a9, a10, a11, a12, a13, a14, a15, a16, a17, a18, a19, a20, a21, a22, a23, a24) a16 a17 a18 a19 3 (nI 1) (S ||| T) (nI 0) 0 ∧ ra_Ac (hd, tl, ld, sr, nI O, rg, ac, wk, fc, a1, a2, a3, a4, a5, a6, a7, a8, a9, a10, a11, a12, a13, a14, a15, a16, a17, a18, a19, a20, a21, a22, a23, a24) a16 a17 a18 a19 4 (nI 1) 0 (nI 1) 1 := by
  obtain ⟨hl, e0, e1, e2, hA, hB, hO, ⟨t0, t1, t2, t3⟩, ⟨k0, k1, k2, k3⟩, r0, r1, r2, r3⟩ := q
  obtain ⟨⟨p0, p1, p2, p3, p4⟩, ⟨v0, v1, v2, v3, v4⟩, ⟨f0, f1, f2, f3, f4⟩, w0, w1, w2, w3, w4⟩ := x
  have hS' : ra_hv (nI O) (a2 0) = S := by rw [e0]; exact hS
  have hT' : ra_hv (nI O) (a2 1) = T := by rw [e1]; exact hT
  have l0 := hl 0 (by omega)
  have l1 := hl 1 (by omega)
  refine ⟨⟨by omega, ⟨4, p0, fun ψ h => ?_, fun ψ h => ?_⟩, v0, f0, w0⟩, ⟨by omega, ⟨6, p1, fun ψ h => ?_, fun ψ h => ?_⟩, v1, f1, w1⟩, ⟨by omega, ⟨5, p2, fun ψ h => ?_, fun ψ h => ?_⟩, v2, f2, w2⟩, ⟨by omega, ⟨7, p3, fun ψ h => ?_, fun ψ h => ?_⟩, v3, f3, w3⟩, ⟨by omega, ⟨1, p4, fun ψ h => ?_, fun ψ h => ?_⟩, v4, f4, w4⟩⟩
  · exact ra_thr1 (r := 0) (by omega) (by rw [t0]; exact h)
  · exact ra_held1 (r := 0) (v := 0) (by omega) (by omega) k0 l0 r0 hS' h
  · exact ra_thr1 (r := 2) (by omega) (by rw [t2]; exact h)
  · exact ra_held1 (r := 2) (v := 1) (by omega) (by omega) k2 l1 r2 hT' h
  · exact ra_thr1 (r := 1) (by omega) (by rw [t1]; exact h)
  · exact ra_held2 (r := 1) (v := 1) (r' := 0) (v' := 0) (by omega) (by omega) k1 l1 r1 hT' (by omega) (by omega) k0 l0 r0 hS' h
  · exact ra_thr1 (r := 3) (by omega) (by rw [t3]; exact h)
  · exact ra_held2 (r := 3) (v := 0) (r' := 2) (v' := 1) (by omega) (by omega) k3 l0 r3 hS' (by omega) (by omega) k2 l1 r2 hT' h
  · exact ra_thr0 (p := 1) (by omega) h
  · exact ra_held0 (p := 1) (by omega) h
def ra_va (w S T : Int32) : Int32 := if w = 0 then 0 else if S &&& T = 0 then 1 else 0
def ra_vb (w S T : Int32) : Int32 := if w = 0 then 0 else if S = 0 then (if S &&& T = 0 then 1 else 0) else 0
def ra_vd (T : Int32) : Int32 := if T = 0 then 1 else 0
theorem ra_va01 (w S T : Int32) : ra_va w S T = 0 ∨ ra_va w S T = 1 := by
  unfold ra_va
  repeat' split
  all_goals first | exact Or.inl rfl | exact Or.inr rfl
theorem ra_vb01 (w S T : Int32) : ra_vb w S T = 0 ∨ ra_vb w S T = 1 := by
  unfold ra_vb
  repeat' split
  all_goals first | exact Or.inl rfl | exact Or.inr rfl
theorem ra_vd01 (T : Int32) : ra_vd T = 0 ∨ ra_vd T = 1 := by
  unfold ra_vd
  repeat' split
  all_goals first | exact Or.inl rfl | exact Or.inr rfl
theorem ra_n01 : ¬ nI 0 = nI 1 := by decide
theorem ra_n10 : ¬ nI 1 = nI 0 := by decide
theorem ra_cT (t f g w z a b : Int32) : ra_cf t t f g w z a b = 0 := by
  unfold ra_cf
  rw [if_pos rfl]
theorem ra_cF {f g : Int32} (h : ¬ f = g) (t u w z a b : Int32) : ra_cf t u f g w z a b = 0 := by
  unfold ra_cf
  rw [if_neg h]
  split <;> rfl
theorem ra_cW {t u : Int32} (h : ¬ t = u) (f w a b : Int32) : ra_cf t u f f w 0 a b = if w = 0 then 0 else if a &&& b = 0 then 1 else 0 := by
  unfold ra_cf
  rw [if_neg h, if_pos rfl]
  split
  · rw [if_pos rfl]
  · rfl
theorem ra_cV {t u : Int32} (h : ¬ t = u) (f z a b : Int32) : ra_cf t u f f 0 z a b = if z = 0 then 0 else if a &&& b = 0 then 1 else 0 := by
  unfold ra_cf
  rw [if_neg h, if_pos rfl, if_pos rfl]
theorem ra_i1 : ¬ (1 : Int32) = 0 := by decide
/-- what the pairs answer, in the law's own words -/
theorem ra_q01 (w S T : Int32) : ra_cf (nI 0) (nI 1) (nI 0) (nI 0) w 0 S T = ra_va w S T := ra_cW ra_n01 _ _ _ _
theorem ra_q10 (w S T : Int32) : ra_cf (nI 1) (nI 0) (nI 0) (nI 0) 0 w T S = ra_va w S T := by
  rw [ra_cV ra_n10, Int32.and_comm T S]
  rfl
theorem ra_q03 (w S T : Int32) : ra_cf (nI 0) (nI 1) (nI 0) (nI 0) w 0 S (S ||| T) = ra_vb w S T := by
  rw [ra_cW ra_n01, ra_abs1]
  unfold ra_vb
  by_cases z : S = 0
  · rw [if_pos z, if_pos z, z, Int32.zero_and, if_pos rfl]
  · rw [if_neg z, if_neg z]
theorem ra_q21 (S T : Int32) : ra_cf (nI 0) (nI 1) (nI 0) (nI 0) 1 0 (T ||| S) T = ra_vd T := by
  rw [ra_cW ra_n01, if_neg ra_i1, Int32.and_comm, ra_abs1]
  rfl
theorem ra_q12 (S T : Int32) : ra_cf (nI 1) (nI 0) (nI 0) (nI 0) 0 1 T (T ||| S) = ra_vd T := by
  rw [ra_cV ra_n10, if_neg ra_i1, ra_abs1]
  rfl
theorem ra_q23 (S T : Int32) : ra_cf (nI 0) (nI 1) (nI 0) (nI 0) 1 0 (T ||| S) (S ||| T) = ra_vd (S ||| T) := by
  rw [ra_cW ra_n01, if_neg ra_i1, Int32.or_comm T S, Int32.and_self]
  rfl
theorem ra_659 {hd tl ld sr ac wk fc : Int32} {a1 a2 a3 a4 a5 a6 a7 a8 a9 a10 a11 a12 a13 a14 a15 a16 a17 a18 a19 a20 a21 a22 a23 a24 : Nat → Int32} {post : Int32 → St0 → Prop} {mc ms kc ks A B O D : Nat} (q : ra_Q A B O a1 a2 a13 a14 a15) (h : ra_dg (ra_st A B O) = some D) (hp : post 1 ()) : wL_lawOf_659 post mc ms (nI D) kc ks hd tl ld sr (nI O) (nI 4) ac wk fc a1 a2 a3 a4 a5 a6 a7 a8 a9 a10 a11 a12 a13 a14 a15 a16 a17 a18 a19 a20 a21 a22 a23 a24 := by
  obtain ⟨hl, e0, e1, e2, hA, hB, hO, ⟨t0, t1, t2, t3⟩, ⟨k0, k1, k2, k3⟩, r0, r1, r2, r3⟩ := q
  unfold wL_lawOf_659
  exact ra_danger hA hB hO (hl 0 (by omega)) (hl 1 (by omega)) e0 e1 t1 t3 k0 k1 k2 k3 r0 r1 r2 r3 h (fun _ _ _ _ _ _ _ => br_t rfl hp)
theorem ra_628 {hd tl ld sr ac wk fc : Int32} {a1 a2 a3 a4 a5 a6 a7 a8 a9 a10 a11 a12 a13 a14 a15 a16 a17 a18 a19 a20 a21 a22 a23 a24 : Nat → Int32} {post : Int32 → St0 → Prop} {mc ms kc ks A B O s : Nat} {bS : Bool} (hs : s < 8) (q : ra_Q A B O a1 a2 a13 a14 a15) (h : ra_dg (ra_st A B O) = some (ra_due s B bS)) (hp : post 1 ()) : wL_lawOf_628 post mc ms (nI s) (cond bS 1 0) (nI B) kc ks hd tl ld sr (nI O) (nI 4) ac wk fc a1 a2 a3 a4 a5 a6 a7 a8 a9 a10 a11 a12 a13 a14 a15 a16 a17 a18 a19 a20 a21 a22 a23 a24 := by
  have hB : B < 256 := q.2.2.2.2.2.1
  have hs' := ra_p256 hs
  unfold wL_lawOf_628
  rw [ra_shl s (by omega), ra_or]
  refine nm_e (pk_eq B (2 ^ s) (fun e => ?_) (fun e => ?_) rfl rfl (by omega) (by omega))
  · cases bS with
    | false =>
      refine br_t rfl (ra_659 q ?_ hp)
      rw [h]
      unfold ra_due
      rw [Bool.and_false]
      rfl
    | true =>
      refine br_f (show ¬ (1 : Int32) = 0 by decide) (ra_659 (D := 0) q ?_ hp)
      rw [h, e]
      unfold ra_due
      rw [Nat.beq_refl]
      rfl
  · refine ra_659 q ?_ hp
    rw [h]
    unfold ra_due
    rw [ra_bne e]
    rfl
theorem ra_596 {hd tl ld sr ac wk fc : Int32} {a1 a2 a3 a4 a5 a6 a7 a8 a9 a10 a11 a12 a13 a14 a15 a16 a17 a18 a19 a20 a21 a22 a23 a24 : Nat → Int32} {post : Int32 → St0 → Prop} {mc ms kc ks A O s t : Nat} {bS m : Bool} {z0 z1 z2 : Int32} (hs : s < 8) (ht : t < 8) (hz : z2 = z1 + z0) (q : ra_Q A (ra_B t m) O a1 a2 a13 a14 a15) (h : ra_dg (ra_st A (ra_B t m) O) = some (ra_due s (ra_B t m) bS)) (hp : post 1 ()) : wL_lawOf_596 post mc ms (nI s) (nI t) (cond bS 1 0) (cond m 1 0) z0 z1 z2 kc ks hd tl ld sr (nI O) (nI 4) ac wk fc a1 a2 a3 a4 a5 a6 a7 a8 a9 a10 a11 a12 a13 a14 a15 a16 a17 a18 a19 a20 a21 a22 a23 a24 := by
  unfold wL_lawOf_596
  refine br_t hz ?_
  rw [ra_inc8 ht, ra_shl t (by omega), ra_shl ((t + 1) % 8) (by omega), ra_or]
  cases m with
  | false => exact br_t rfl (ra_628 hs q h hp)
  | true => exact br_f (show ¬ (1 : Int32) = 0 by decide) (ra_628 hs q h hp)
theorem ra_585 {hd tl ld sr on rg ac wk fc : Int32} {a1 a2 a3 a4 a5 a6 a7 a8 a9 a10 a11 a12 a13 a14 a15 a16 a17 a18 a19 a20 a21 a22 a23 a24 : Nat → Int32} {post : Int32 → St0 → Prop} {mc ms kc ks : Nat} {x5 x6 x8 x11 x17 z0 z1 z2 : Int32} (e : x17 = 0 ∨ x17 = 1) (H : wL_lawOf_596 post mc ms x5 x6 x8 x11 x17 (z1 + z0) z2 kc ks hd tl ld sr on rg ac wk fc a1 a2 a3 a4 a5 a6 a7 a8 a9 a10 a11 a12 a13 a14 a15 a16 a17 a18 a19 a20 a21 a22 a23 a24) : wL_lawOf_585 post mc ms x5 x6 x8 x11 x17 z0 z1 z2 kc ks hd tl ld sr on rg ac wk fc a1 a2 a3 a4 a5 a6 a7 a8 a9 a10 a11 a12 a13 a14 a15 a16 a17 a18 a19 a20 a21 a22 a23 a24 := by
  rcases e with e | e
  · subst e
    exact br_t rfl H
  · subst e
    exact br_f ra_i1 H
theorem ra_574 {hd tl ld sr on rg ac wk fc : Int32} {a1 a2 a3 a4 a5 a6 a7 a8 a9 a10 a11 a12 a13 a14 a15 a16 a17 a18 a19 a20 a21 a22 a23 a24 : Nat → Int32} {post : Int32 → St0 → Prop} {mc ms kc ks : Nat} {x5 x6 x8 x11 x16 x17 z0 z1 z2 : Int32} (e : x16 = 0 ∨ x16 = 1) (H : wL_lawOf_585 post mc ms x5 x6 x8 x11 x17 x16 (z1 + z0) z2 kc ks hd tl ld sr on rg ac wk fc a1 a2 a3 a4 a5 a6 a7 a8 a9 a10 a11 a12 a13 a14 a15 a16 a17 a18 a19 a20 a21 a22 a23 a24) : wL_lawOf_574 post mc ms x5 x6 x8 x11 x16 x17 z0 z1 z2 kc ks hd tl ld sr on rg ac wk fc a1 a2 a3 a4 a5 a6 a7 a8 a9 a10 a11 a12 a13 a14 a15 a16 a17 a18 a19 a20 a21 a22 a23 a24 := by
  rcases e with e | e
  · subst e
    exact br_t rfl H
  · subst e
    exact br_f ra_i1 H
theorem ra_564 {hd tl ld sr on rg ac wk fc : Int32} {a1 a2 a3 a4 a5 a6 a7 a8 a9 a10 a11 a12 a13 a14 a15 a16 a17 a18 a19 a20 a21 a22 a23 a24 : Nat → Int32} {post : Int32 → St0 → Prop} {mc ms kc ks : Nat} {x5 x6 x8 x11 x15 x16 x17 z0 z1 : Int32} (e : x15 = 0 ∨ x15 = 1) (H : wL_lawOf_574 post mc ms x5 x6 x8 x11 x16 x17 x15 z0 z1 kc ks hd tl ld sr on rg ac wk fc a1 a2 a3 a4 a5 a6 a7 a8 a9 a10 a11 a12 a13 a14 a15 a16 a17 a18 a19 a20 a21 a22 a23 a24) : wL_lawOf_564 post mc ms x5 x6 x8 x11 x15 x16 x17 z0 z1 kc ks hd tl ld sr on rg ac wk fc a1 a2 a3 a4 a5 a6 a7 a8 a9 a10 a11 a12 a13 a14 a15 a16 a17 a18 a19 a20 a21 a22 a23 a24 := by
  rcases e with e | e
  · subst e
    exact br_t rfl H
  · subst e
    exact br_f ra_i1 H
theorem ra_455 {hd tl ld sr wk fc : Int32} {a1 a2 a3 a4 a5 a6 a7 a8 a9 a10 a11 a12 a13 a14 a15 a16 a17 a18 a19 a20 a21 a22 a23 a24 : Nat → Int32} {post : Int32 → St0 → Prop} {mc ms kc ks A O s t : Nat} {bS m : Bool} {w S T : Int32} (hs : s < 8) (ht : t < 8) (q : ra_Q A (ra_B t m) O a1 a2 a13 a14 a15) (x : ra_X w a16 a17 a18 a19) (hS : ra_hv (nI O) (nI A) = S) (hT : ra_hv (nI O) (nI (ra_B t m)) = T)
    (h : ra_dg (ra_st A (ra_B t m) O) = some (ra_due s (ra_B t m) bS)) (hp : post 1 ()) : wL_lawOf_455 post mc ms (nI s) (nI t) (cond bS 1 0) (cond m 1 0) (ra_va w S T) (ra_vb w S T) (ra_vd T) (ra_vd (S ||| T)) kc ks hd tl ld sr (nI O) (nI 4) (nI 5) wk fc a1 a2 a3 a4 a5 a6 a7 a8 a9 a10 a11 a12 a13 a14 a15 a16 a17 a18 a19 a20 a21 a22 a23 a24 := by
  have hl := q.1 2 (by omega)
  have hz := q.2.2.2.1
  obtain ⟨A0, A1, A2, A3, A4⟩ := ra_Acs (hd := hd) (tl := tl) (ld := ld) (sr := sr) (rg := nI 4) (ac := nI 5) (wk := wk) (fc := fc) (a3 := a3) (a4 := a4) (a5 := a5) (a6 := a6) (a7 := a7) (a8 := a8) (a9 := a9) (a10 := a10) (a11 := a11) (a12 := a12) (a20 := a20) (a21 := a21) (a22 := a22) (a23 := a23) (a24 := a24) q x hS hT
  unfold wL_lawOf_455
  refine ra_race (i := 0) (j := 1) (by omega) (by omega) hl hz A0 A1 (br_t (ra_q01 w S T) ?_)
  refine ra_race (i := 1) (j := 0) (by omega) (by omega) hl hz A1 A0 (br_t (ra_q10 w S T) ?_)
  refine ra_race (i := 0) (j := 3) (by omega) (by omega) hl hz A0 A3 (br_t (ra_q03 w S T) ?_)
  refine ra_race (i := 2) (j := 1) (by omega) (by omega) hl hz A2 A1 (br_t (ra_q21 S T) ?_)
  refine ra_race (i := 2) (j := 3) (by omega) (by omega) hl hz A2 A3 (br_t (ra_q23 S T) ?_)
  refine ra_race (i := 0) (j := 2) (by omega) (by omega) hl hz A0 A2 (br_t (ra_cT _ _ _ _ _ _ _) ?_)
  refine ra_race (i := 1) (j := 3) (by omega) (by omega) hl hz A1 A3 (br_t (ra_cT _ _ _ _ _ _ _) ?_)
  refine ra_race (i := 2) (j := 4) (by omega) (by omega) hl hz A2 A4 (br_t (ra_cF ra_n01 _ _ _ _ _ _) ?_)
  refine ra_races hl hz A0 A1 A2 A3 A4 ?_
  rw [ra_q01, ra_cT, ra_q03, ra_cF ra_n01, ra_q12, ra_cT, ra_cT, ra_q23, ra_cF ra_n01, ra_cT]
  have K : ∀ y : Int32, y = ra_va w S T → wL_lawOf_564 post mc ms (nI s) (nI t) (cond bS 1 0) (cond m 1 0) (ra_vb w S T) (ra_vd T) (ra_vd (S ||| T)) y (0 + ra_va w S T + 0 + ra_vb w S T + 0 + ra_vd T + 0 + 0 + ra_vd (S ||| T) + 0 + 0) kc ks hd tl ld sr (nI O) (nI 4) (nI 5) wk fc a1 a2 a3 a4 a5 a6 a7 a8 a9 a10 a11 a12 a13 a14 a15 a16 a17 a18 a19 a20 a21 a22 a23 a24 := by
    intro y hy
    refine ra_564 (ra_vb01 _ _ _) (ra_574 (ra_vd01 _) (ra_585 (ra_vd01 _) (ra_596 hs ht ?_ q h hp)))
    rw [hy]
    simp only [Int32.add_zero, Int32.zero_add]
  refine br_c (fun z => K 0 z.symm) (fun z => K 1 ?_)
  rcases ra_va01 w S T with e | e
  · exact absurd e z
  · exact e.symm
end
section
theorem ra_Hs {hd tl ld sr rg ac wk fc : Int32} {a1 a2 a3 a4 a5 a6 a7 a8 a9 a10 a11 a12 a13 a14 a15 a16 a17 a18 a19 a20 a21 a22 a23 a24 : Nat → Int32} {A B O : Nat} {S T : Int32} (q : ra_Q A B O a1 a2 a13 a14 a15) (hS : ra_hv (nI O) (nI A) = S) (hT : ra_hv (nI O) (nI B) = T) :
    (∀ ψ : Int32 → Prop, ψ S → wpX_heldAt ψ (hd, tl, ld, sr, nI O, rg, ac, wk, fc, a1, a2, a3, a4, a5, a6, a7, a8, a9, a10, a11, a12, a13, a14, a15, a16, a17, a18, a19, a20, a21, a22, a23, a24) (nI 4)) ∧ (∀ ψ : Int32 → Prop, ψ T → wpX_heldAt ψ (hd, tl, ld, sr, nI O, rg, ac, wk, fc, a1, a2, a3, a4, a5, a6, a7, a8, a9, a10, a11, a12, a13, a14, a15, a16, a17, a18, a19, a20, a21, a22, a23, a24) (nI 6)) ∧ (∀ ψ : Int32 → Prop, ψ (T ||| S) → wpX_heldAt ψ (hd, tl, ld, sr, nI O, rg, ac, wk, fc, a1, a2, a3, a4, a5, a6, a7, a8, a9, a10, a11, a12, a13, a14, a15, a16, a17, a18, a19, a20, a21, a22, a23, a24) (nI 5)) ∧ (∀ ψ : Int32 → Prop, ψ (S ||| T) → wpX_heldAt ψ (hd, tl, ld, sr, nI O, rg, ac, wk, fc, a1, a2, a3, a4, a5, a6, a7, a8, a9, a10, a11, a12, a13, a14, a15, a16, a17, a18, a19, a20, a21, a22, a23, a24) (nI 7)) ∧ (∀ ψ : Int32 → Prop, ψ 0 → wpX_heldAt ψ (hd, tl, ld, sr, nI O, rg, ac, wk, fc, a1, a2, a3, a4, a5, a6, a7, a8, a9, a10, a11, a12, a13, a14, a15, a16, a17, a18, a19, a20, a21, a22, a23, a24) (nI 0)) := by
  obtain ⟨hl, e0, e1, e2, hA, hB, hO, ⟨t0, t1, t2, t3⟩, ⟨k0, k1, k2, k3⟩, r0, r1, r2, r3⟩ := q
  have hS' : ra_hv (nI O) (a2 0) = S := by rw [e0]; exact hS
  have hT' : ra_hv (nI O) (a2 1) = T := by rw [e1]; exact hT
  have l0 := hl 0 (by omega)
  have l1 := hl 1 (by omega)
  refine ⟨fun ψ h => ?_, fun ψ h => ?_, fun ψ h => ?_, fun ψ h => ?_, fun ψ h => ?_⟩
  · exact ra_held1 (r := 0) (v := 0) (by omega) (by omega) k0 l0 r0 hS' h
  · exact ra_held1 (r := 2) (v := 1) (by omega) (by omega) k2 l1 r2 hT' h
  · exact ra_held2 (r := 1) (v := 1) (r' := 0) (v' := 0) (by omega) (by omega) k1 l1 r1 hT' (by omega) (by omega) k0 l0 r0 hS' h
  · exact ra_held2 (r := 3) (v := 0) (r' := 2) (v' := 1) (by omega) (by omega) k3 l0 r3 hS' (by omega) (by omega) k2 l1 r2 hT' h
  · exact ra_held0 (p := 0) (by omega) h
theorem ra_440 {hd tl ld sr on rg ac wk fc : Int32} {a1 a2 a3 a4 a5 a6 a7 a8 a9 a10 a11 a12 a13 a14 a15 a16 a17 a18 a19 a20 a21 a22 a23 a24 : Nat → Int32} {post : Int32 → St0 → Prop} {mc ms kc ks : Nat} {x5 x6 x8 x11 S T x14 x15 z0 : Int32} (H : wL_lawOf_455 post mc ms x5 x6 x8 x11 x14 x15 z0 (ra_vd (S ||| T)) kc ks hd tl ld sr on rg ac wk fc a1 a2 a3 a4 a5 a6 a7 a8 a9 a10 a11 a12 a13 a14 a15 a16 a17 a18 a19 a20 a21 a22 a23 a24) : wL_lawOf_440 post mc ms x5 x6 x8 x11 S T x14 x15 z0 kc ks hd tl ld sr on rg ac wk fc a1 a2 a3 a4 a5 a6 a7 a8 a9 a10 a11 a12 a13 a14 a15 a16 a17 a18 a19 a20 a21 a22 a23 a24 := by
  unfold ra_vd at H
  refine br_c (fun z => ?_) (fun z => ?_)
  · rw [if_pos z] at H
    exact H
  · rw [if_neg z] at H
    exact H
theorem ra_428 {hd tl ld sr on rg ac wk fc : Int32} {a1 a2 a3 a4 a5 a6 a7 a8 a9 a10 a11 a12 a13 a14 a15 a16 a17 a18 a19 a20 a21 a22 a23 a24 : Nat → Int32} {post : Int32 → St0 → Prop} {mc ms kc ks : Nat} {x5 x6 x8 x11 S T x14 z0 : Int32} (H : wL_lawOf_440 post mc ms x5 x6 x8 x11 S T x14 z0 (ra_vd T) kc ks hd tl ld sr on rg ac wk fc a1 a2 a3 a4 a5 a6 a7 a8 a9 a10 a11 a12 a13 a14 a15 a16 a17 a18 a19 a20 a21 a22 a23 a24) : wL_lawOf_428 post mc ms x5 x6 x8 x11 S T x14 z0 kc ks hd tl ld sr on rg ac wk fc a1 a2 a3 a4 a5 a6 a7 a8 a9 a10 a11 a12 a13 a14 a15 a16 a17 a18 a19 a20 a21 a22 a23 a24 := by
  unfold ra_vd at H
  refine br_c (fun z => ?_) (fun z => ?_)
  · rw [if_pos z] at H
    exact H
  · rw [if_neg z] at H
    exact H
theorem ra_403 {hd tl ld sr on rg ac wk fc : Int32} {a1 a2 a3 a4 a5 a6 a7 a8 a9 a10 a11 a12 a13 a14 a15 a16 a17 a18 a19 a20 a21 a22 a23 a24 : Nat → Int32} {post : Int32 → St0 → Prop} {mc ms kc ks : Nat} {x5 x6 x8 w x11 S T z0 : Int32} (H : wL_lawOf_428 post mc ms x5 x6 x8 x11 S T z0 (ra_vb w S T) kc ks hd tl ld sr on rg ac wk fc a1 a2 a3 a4 a5 a6 a7 a8 a9 a10 a11 a12 a13 a14 a15 a16 a17 a18 a19 a20 a21 a22 a23 a24) : wL_lawOf_403 post mc ms x5 x6 x8 w x11 S T z0 kc ks hd tl ld sr on rg ac wk fc a1 a2 a3 a4 a5 a6 a7 a8 a9 a10 a11 a12 a13 a14 a15 a16 a17 a18 a19 a20 a21 a22 a23 a24 := by
  unfold ra_vb at H
  refine br_c (fun z => ?_) (fun z => br_c (fun z2 => br_c (fun z3 => ?_) (fun z3 => ?_)) (fun z2 => ?_))
  · rw [if_pos z] at H
    exact H
  · rw [if_neg z, if_pos z2, if_pos z3] at H
    exact H
  · rw [if_neg z, if_pos z2, if_neg z3] at H
    exact H
  · rw [if_neg z, if_neg z2] at H
    exact H
theorem ra_nb (b : Bool) : vp_nar .boolean (cond b 1 0) = cond b 1 0 := by
  cases b <;> rfl
theorem ra_206 {hd tl ld sr wk fc : Int32} {a1 a2 a3 a4 a5 a6 a7 a8 a9 a10 a11 a12 a13 a14 a15 a16 a17 a18 a19 a20 a21 a22 a23 a24 : Nat → Int32} {post : Int32 → St0 → Prop} {mc ms kc ks A O s t : Nat} {bS bw m : Bool} {S T : Int32} (hs : s < 8) (ht : t < 8) (hl : ∀ j, j < 28 → a1 j = nI j) (e0 : a2 0 = nI A) (e1 : a2 1 = nI (ra_B t m)) (e2 : ¬ a2 2 = 0) (hA : A < 256) (hB : ra_B t m < 256) (hO : O < 256)
    (hS : ra_hv (nI O) (nI A) = S) (hT : ra_hv (nI O) (nI (ra_B t m)) = T) (h : ra_dg (ra_st A (ra_B t m) O) = some (ra_due s (ra_B t m) bS)) (hp : post 1 ()) :
    wL_lawOf_206 post mc ms (nI s) (nI t) (cond bS 1 0) (cond bw 1 0) (cond m 1 0) S T kc ks hd tl ld sr (nI O) 0 0 wk fc a1 a2 a3 a4 a5 a6 a7 a8 a9 a10 a11 a12 a13 a14 a15 a16 a17 a18 a19 a20 a21 a22 a23 a24 := by
  have q : ra_Q A (ra_B t m) O a1 a2 (upd (upd (upd (upd a13 0 (nI 0)) 1 (nI 0)) 2 (nI 1)) 3 (nI 1)) (upd (upd (upd (upd a14 0 (nI 0)) 1 (nI 1)) 2 (nI 1)) 3 (nI 0)) (upd (upd (upd (upd a15 0 (-1)) 1 (nI 0)) 2 (-1)) 3 (nI 2)) :=
    ⟨hl, e0, e1, e2, hA, hB, hO, ⟨rfl, rfl, rfl, rfl⟩, ⟨rfl, rfl, rfl, rfl⟩, rfl, rfl, rfl, rfl⟩
  have x : ra_X (cond bw 1 0) (upd (upd (upd (upd (upd a16 0 (nI 4)) 1 (nI 6)) 2 (nI 5)) 3 (nI 7)) 4 (nI 1)) (upd (upd (upd (upd (upd a17 0 (nI 2)) 1 (nI 2)) 2 (nI 2)) 3 (nI 2)) 4 (nI 2)) (upd (upd (upd (upd (upd a18 0 (nI 0)) 1 (nI 0)) 2 (nI 0)) 3 (nI 0)) 4 (nI 1)) (upd (upd (upd (upd (upd a19 0 (cond bw 1 0)) 1 0) 2 1) 3 0) 4 1) :=
    ⟨⟨rfl, rfl, rfl, rfl, rfl⟩, ⟨rfl, rfl, rfl, rfl, rfl⟩, ⟨rfl, rfl, rfl, rfl, rfl⟩, rfl, rfl, rfl, rfl, rfl⟩
  unfold wL_lawOf_206
  refine ra_region (th := 0) (v := 0) (R := 0) (q := -1) (by omega) (by omega) (by omega) (Or.inl rfl) (br_t rfl ?_)
  refine ra_region (th := 0) (v := 1) (R := 1) (q := nI 0) (by omega) (by omega) (by omega) (Or.inr ⟨0, by omega, rfl, pk_us⟩) (br_t rfl ?_)
  refine ra_region (th := 1) (v := 1) (R := 2) (q := -1) (by omega) (by omega) (by omega) (Or.inl rfl) (br_t rfl ?_)
  refine ra_region (th := 1) (v := 0) (R := 3) (q := nI 2) (by omega) (by omega) (by omega) (Or.inr ⟨2, by omega, rfl, pk_us⟩) (br_t rfl ?_)
  refine ra_regionBad (th := 1) (v := 0) (R := 4) (j := 1) (by omega) (by omega) (by omega) (by omega) (by exact ra_n01) (br_t rfl ?_)
  refine ra_access (p := 4) (v := 2) (f := 0) (n := 0) (R := 4) (by omega) (by omega) (by omega) (by omega) (by omega) (ra_nb bw) ?_
  refine ra_access (p := 6) (v := 2) (f := 0) (n := 1) (R := 4) (by omega) (by omega) (by omega) (by omega) (by omega) rfl ?_
  refine ra_access (p := 5) (v := 2) (f := 0) (n := 2) (R := 4) (by omega) (by omega) (by omega) (by omega) (by omega) rfl ?_
  refine ra_access (p := 7) (v := 2) (f := 0) (n := 3) (R := 4) (by omega) (by omega) (by omega) (by omega) (by omega) rfl ?_
  refine ra_access (p := 1) (v := 2) (f := 1) (n := 4) (R := 4) (by omega) (by omega) (by omega) (by omega) (by omega) rfl ?_
  refine ra_held (p := 4) (R := 4) (by omega) (by omega) ((ra_Hs q hS hT).1 _ ?_)
  refine br_t rfl ?_
  refine ra_held (p := 6) (R := 4) (by omega) (by omega) ((ra_Hs q hS hT).2.1 _ ?_)
  refine br_t rfl ?_
  refine ra_held (p := 5) (R := 4) (by omega) (by omega) ((ra_Hs q hS hT).2.2.1 _ ?_)
  refine br_t (Int32.or_comm _ _) ?_
  refine ra_held (p := 7) (R := 4) (by omega) (by omega) ((ra_Hs q hS hT).2.2.2.1 _ ?_)
  refine br_t rfl ?_
  refine ra_held (p := 0) (R := 4) (by omega) (by omega) ((ra_Hs q hS hT).2.2.2.2 _ ?_)
  refine br_t rfl ?_
  have K := ra_403 (z0 := ra_va (cond bw 1 0) S T) (ra_428 (ra_440 (ra_455 (mc := mc) (ms := ms) (kc := kc) (ks := ks) (bS := bS) (hd := hd) (tl := tl) (ld := ld) (sr := sr) (wk := wk) (fc := fc) (a3 := a3) (a4 := a4) (a5 := a5) (a6 := a6) (a7 := a7) (a8 := a8) (a9 := a9) (a10 := a10) (a11 := a11) (a12 := a12) (a20 := a20) (a21 := a21) (a22 := a22) (a23 := a23) (a24 := a24) hs ht q x hS hT h hp)))
  unfold ra_va at K
  refine br_c (fun z => ?_) (fun z => br_c (fun z2 => ?_) (fun z2 => ?_))
  · rw [if_pos z] at K
    exact K
  · rw [if_neg z, if_pos z2] at K
    exact K
  · rw [if_neg z, if_neg z2] at K
    exact K
theorem ra_182 {wk fc : Int32} {a1 a2 a3 a4 a5 a6 a7 a8 a9 a10 a11 a12 a13 a14 a15 a16 a17 a18 a19 a20 a21 a22 a23 a24 : Nat → Int32} {post : Int32 → St0 → Prop} {mc ms kc ks s t h : Nat} {bS bT bw m : Bool} (hs : s < 8) (ht : t < 8) (hh : h < 32) (hl : ∀ j, j < 28 → a1 j = nI j) (hg : ∀ j, j < 28 → a4 j = 0) (hq : ∀ j, j < 28 → a5 j = 0) (e0 : a2 0 = nI (2 ^ s)) (e1 : a2 1 = nI (2 ^ t)) (e2 : ¬ a2 2 = 0) (hp : post 1 ()) :
    wL_lawOf_182 post mc ms (nI s) (nI t) (cond bS 1 0) (cond bw 1 0) (cond m 1 0) (nI (ra_LS s bS)) (nI (ra_LT s t bS bT)) kc ks (nI h) (nI h) 0 0 (nI (ra_O s t bS bT)) 0 0 wk fc a1 a2 a3 a4 a5 a6 a7 a8 a9 a10 a11 a12 a13 a14 a15 a16 a17 a18 a19 a20 a21 a22 a23 a24 := by
  unfold wL_lawOf_182
  cases m with
  | false =>
    refine br_t rfl ?_
    exact ra_206 (m := false) hs ht hl e0 e1 e2 (ra_p256 hs) (ra_B256 t ht false) (ra_O256 s hs t ht bS bT) (ra_hvS s hs t ht bS bT) (ra_hvT s hs t ht bS bT false) (ra_tab s hs t ht bS bT false) hp
  | true =>
    refine br_f ra_i1 ?_
    rw [ra_inc8 ht]
    refine ra_alloc (v := 1) (k := (t + 1) % 8) (by omega) (by omega) hh hl hg hq (by rw [e1]; exact ra_am2 t ht) (fun r h' a3' a5' a6' hh' hq' => ?_)
    exact ra_206 (m := true) hs ht hl (by rw [pk_un (by decide)]; exact e0) (by rw [pk_us, e1, ra_or]; rfl) (by rw [pk_un (by decide)]; exact e2) (ra_p256 hs) (ra_B256 t ht true) (ra_O256 s hs t ht bS bT) (ra_hvS s hs t ht bS bT) (ra_hvT s hs t ht bS bT true) (ra_tab s hs t ht bS bT true) hp
theorem ra_152 {hd tl ld sr on rg ac wk fc : Int32} {a1 a2 a3 a4 a5 a6 a7 a8 a9 a10 a11 a12 a13 a14 a15 a16 a17 a18 a19 a20 a21 a22 a23 a24 : Nat → Int32} {post : Int32 → St0 → Prop} {mc ms kc ks s t : Nat} {bS bT : Bool} {x10 x11 x12 : Int32} (hs : s < 8) (ht : t < 8) (H : wL_lawOf_182 post mc ms (nI s) (nI t) (cond bS 1 0) x10 x11 x12 (nI (ra_LT s t bS bT)) kc ks hd tl ld sr on rg ac wk fc a1 a2 a3 a4 a5 a6 a7 a8 a9 a10 a11 a12 a13 a14 a15 a16 a17 a18 a19 a20 a21 a22 a23 a24) : wL_lawOf_152 post mc ms (nI s) (nI t) (cond bS 1 0) (cond bT 1 0) x10 x11 x12 kc ks hd tl ld sr on rg ac wk fc a1 a2 a3 a4 a5 a6 a7 a8 a9 a10 a11 a12 a13 a14 a15 a16 a17 a18 a19 a20 a21 a22 a23 a24 := by
  unfold ra_LT at H
  unfold wL_lawOf_152
  refine pk_eq s t (fun e => ?_) (fun e => ?_)
  · have eb : Nat.beq s t = true := by rw [e]; exact Nat.beq_refl t
    rw [eb] at H
    cases bS with
    | false => exact br_t rfl H
    | true =>
      refine br_f ra_i1 ?_
      unfold wL_lawOf_174
      rw [ra_shl t (by omega)]
      exact H
  · rw [ra_bne e] at H
    cases bT with
    | false => exact br_t rfl H
    | true =>
      refine br_f ra_i1 ?_
      unfold wL_lawOf_174
      rw [ra_shl t (by omega)]
      exact H
theorem ra_139 {hd tl ld sr on rg ac wk fc : Int32} {a1 a2 a3 a4 a5 a6 a7 a8 a9 a10 a11 a12 a13 a14 a15 a16 a17 a18 a19 a20 a21 a22 a23 a24 : Nat → Int32} {post : Int32 → St0 → Prop} {mc ms kc ks s t : Nat} {bS bT : Bool} {x10 x11 : Int32} (hs : s < 8) (ht : t < 8) (H : wL_lawOf_182 post mc ms (nI s) (nI t) (cond bS 1 0) x10 x11 (nI (ra_LS s bS)) (nI (ra_LT s t bS bT)) kc ks hd tl ld sr on rg ac wk fc a1 a2 a3 a4 a5 a6 a7 a8 a9 a10 a11 a12 a13 a14 a15 a16 a17 a18 a19 a20 a21 a22 a23 a24) : wL_lawOf_139 post mc ms (nI s) (nI t) (cond bS 1 0) (cond bT 1 0) x10 x11 kc ks hd tl ld sr on rg ac wk fc a1 a2 a3 a4 a5 a6 a7 a8 a9 a10 a11 a12 a13 a14 a15 a16 a17 a18 a19 a20 a21 a22 a23 a24 := by
  have K := ra_152 hs ht H
  unfold wL_lawOf_139
  rw [ra_shl s (by omega)]
  cases bS with
  | false => exact br_t rfl K
  | true => exact br_f ra_i1 K
theorem ra_onceN {hd tl ld sr rg ac wk fc : Int32} {a1 a2 a3 a4 a5 a6 a7 a8 a9 a10 a11 a12 a13 a14 a15 a16 a17 a18 a19 a20 a21 a22 a23 a24 : Nat → Int32} {post : Int32 → St2 → Prop} {k O : Nat} {b : Bool} (hk : k < 8) (hc : nI O &&& (nI (2 ^ k) ^^^ (-1)) = nI O) (H : ∀ r, post r (hd, tl, ld, sr, nI (O ||| cond b (2 ^ k) 0), rg, ac, wk, fc, a1, a2, a3, a4, a5, a6, a7, a8, a9, a10, a11, a12, a13, a14, a15, a16, a17, a18, a19, a20, a21, a22, a23, a24)) : wpX_once post (hd, tl, ld, sr, nI O, rg, ac, wk, fc, a1, a2, a3, a4, a5, a6, a7, a8, a9, a10, a11, a12, a13, a14, a15, a16, a17, a18, a19, a20, a21, a22, a23, a24) (nI k) (cond b 1 0) := by
  cases b with
  | false =>
    refine ra_once hk (fun _ r => ?_) (fun z => absurd rfl z)
    rw [hc]
    have e : O ||| cond false (2 ^ k) 0 = O := Nat.or_zero O
    have h := H r
    rw [e] at h
    exact h
  | true =>
    refine ra_once hk (fun z => absurd z ra_i1) (fun _ r => ?_)
    rw [hc, ra_or]
    exact H r
theorem ra_83 {a1 : Nat → Int32} {post : Int32 → St0 → Prop} {mc ms kc ks s t u : Nat} {bS bT bw m : Bool} (hs : s < 8) (ht : t < 8) (hu : u < 8) (hl : ∀ j, j < 28 → a1 j = nI j) (hp : post 1 ()) :
    wL_lawOf_83 post mc ms (nI s) (nI t) (nI u) (cond bS 1 0) (cond bT 1 0) (cond bw 1 0) (cond m 1 0) kc ks 0 0 0 0 0 0 0 0 0 a1 (fun _ => 0) (fun _ => 0) (fun _ => 0) (fun _ => 0) (fun _ => 0) (fun _ => 0) (fun _ => 0) (fun _ => 0) (fun _ => 0) (fun _ => 0) (fun _ => 0) (fun _ => 0) (fun _ => 0) (fun _ => 0) (fun _ => 0) (fun _ => 0) (fun _ => 0) (fun _ => 0) (fun _ => 0) (fun _ => 0) (fun _ => 0) (fun _ => 0) (fun _ => 0) := by
  unfold wL_lawOf_83
  refine ra_alloc (v := 0) (k := s) (h := 0) (by omega) hs (by omega) hl (fun _ _ => rfl) (fun _ _ => rfl) (ra_am s hs) (fun r1 h1 a31 a51 a61 hh1 hq1 => ?_)
  refine ra_alloc (v := 1) (k := t) (h := h1) (by omega) ht hh1 hl (fun _ _ => rfl) hq1 (ra_am t ht) (fun r2 h2 a32 a52 a62 hh2 hq2 => ?_)
  refine ra_alloc (v := 2) (k := u) (h := h2) (by omega) hu hh2 hl (fun _ _ => rfl) hq2 (ra_am u hu) (fun r3 h3 a33 a53 a63 hh3 hq3 => ?_)
  refine ra_onceN (k := s) (O := 0) hs (ra_on1 s hs) (fun r4 => ?_)
  have e2 : ¬ (0 : Int32) ||| nI (2 ^ u) = 0 := by rw [Int32.zero_or]; exact ra_pne u hu
  refine pk_eq s t (fun e => ?_) (fun e => ?_)
  · have eO : 0 ||| cond bS (2 ^ s) 0 = ra_O s t bS bT := by
      unfold ra_O
      rw [show Nat.beq s t = true from by rw [e]; exact Nat.beq_refl t]
      exact (Nat.or_zero _).symm
    rw [eO]
    exact ra_139 hs ht (ra_182 hs ht hh3 hl (fun _ _ => rfl) hq3 (show (0 : Int32) ||| nI (2 ^ s) = nI (2 ^ s) from Int32.zero_or) (show (0 : Int32) ||| nI (2 ^ t) = nI (2 ^ t) from Int32.zero_or) e2 hp)
  · refine ra_onceN (k := t) (O := 0 ||| cond bS (2 ^ s) 0) ht (ra_on2 s hs t ht bS e) (fun r5 => ?_)
    have eO : 0 ||| cond bS (2 ^ s) 0 ||| cond bT (2 ^ t) 0 = ra_O s t bS bT := by
      unfold ra_O
      rw [ra_bne e]
      rfl
    rw [eO]
    exact ra_139 hs ht (ra_182 hs ht hh3 hl (fun _ _ => rfl) hq3 (show (0 : Int32) ||| nI (2 ^ s) = nI (2 ^ s) from Int32.zero_or) (show (0 : Int32) ||| nI (2 ^ t) = nI (2 ^ t) from Int32.zero_or) e2 hp)
theorem ra_lawOf {post : Int32 → St0 → Prop} (p0 p1 p2 p3 : Int32) (hp : post 1 ()) : wpL_lawOf post 25 523 () p0 p1 p2 p3 := by
  obtain ⟨s, hs, es⟩ := pk_andE p0 (m := 7) 3 (by decide)
  obtain ⟨t, ht, et⟩ := pk_andE p1 (m := 7) 3 (by decide)
  obtain ⟨u, hu, eu⟩ := pk_andE p2 (m := 7) 3 (by decide)
  unfold wpL_lawOf
  refine ⟨by decide, by decide, 24, 490, by decide, by decide, ra_init (fun a1 hl => ?_)⟩
  refine nm_r es (nm_r et (nm_r eu ?_))
  have K : ∀ bS bT bw m : Bool, wL_lawOf_83 post 25 523 (nI s) (nI t) (nI u) (cond bS 1 0) (cond bT 1 0) (cond bw 1 0) (cond m 1 0) (1 + 24) (33 + 490) 0 0 0 0 0 0 0 0 0 a1 (fun _ => 0) (fun _ => 0) (fun _ => 0) (fun _ => 0) (fun _ => 0) (fun _ => 0) (fun _ => 0) (fun _ => 0) (fun _ => 0) (fun _ => 0) (fun _ => 0) (fun _ => 0) (fun _ => 0) (fun _ => 0) (fun _ => 0) (fun _ => 0) (fun _ => 0) (fun _ => 0) (fun _ => 0) (fun _ => 0) (fun _ => 0) (fun _ => 0) (fun _ => 0) := fun bS bT bw m => ra_83 hs ht hu hl hp
  have K1 : ∀ bS bT bw : Bool, wL_lawOf_67 post 25 523 p3 (nI s) (nI t) (nI u) (cond bS 1 0) (cond bT 1 0) (cond bw 1 0) (1 + 24) (33 + 490) 0 0 0 0 0 0 0 0 0 a1 (fun _ => 0) (fun _ => 0) (fun _ => 0) (fun _ => 0) (fun _ => 0) (fun _ => 0) (fun _ => 0) (fun _ => 0) (fun _ => 0) (fun _ => 0) (fun _ => 0) (fun _ => 0) (fun _ => 0) (fun _ => 0) (fun _ => 0) (fun _ => 0) (fun _ => 0) (fun _ => 0) (fun _ => 0) (fun _ => 0) (fun _ => 0) (fun _ => 0) (fun _ => 0) := fun bS bT bw => br_c (fun _ => K bS bT bw true) (fun _ => K bS bT bw false)
  have K2 : ∀ bS bT : Bool, wL_lawOf_53 post 25 523 p3 (nI s) (nI t) (nI u) (cond bS 1 0) (cond bT 1 0) (1 + 24) (33 + 490) 0 0 0 0 0 0 0 0 0 a1 (fun _ => 0) (fun _ => 0) (fun _ => 0) (fun _ => 0) (fun _ => 0) (fun _ => 0) (fun _ => 0) (fun _ => 0) (fun _ => 0) (fun _ => 0) (fun _ => 0) (fun _ => 0) (fun _ => 0) (fun _ => 0) (fun _ => 0) (fun _ => 0) (fun _ => 0) (fun _ => 0) (fun _ => 0) (fun _ => 0) (fun _ => 0) (fun _ => 0) (fun _ => 0) := fun bS bT => br_c (fun _ => K1 bS bT true) (fun _ => K1 bS bT false)
  have K3 : ∀ bS : Bool, wL_lawOf_39 post 25 523 p3 (nI s) (nI t) (nI u) (cond bS 1 0) (1 + 24) (33 + 490) 0 0 0 0 0 0 0 0 0 a1 (fun _ => 0) (fun _ => 0) (fun _ => 0) (fun _ => 0) (fun _ => 0) (fun _ => 0) (fun _ => 0) (fun _ => 0) (fun _ => 0) (fun _ => 0) (fun _ => 0) (fun _ => 0) (fun _ => 0) (fun _ => 0) (fun _ => 0) (fun _ => 0) (fun _ => 0) (fun _ => 0) (fun _ => 0) (fun _ => 0) (fun _ => 0) (fun _ => 0) (fun _ => 0) := fun bS => br_c (fun _ => K2 bS true) (fun _ => K2 bS false)
  exact br_c (fun _ => K3 true) (fun _ => K3 false)
theorem ra_cell {post : Int32 → Prop} {L : Nat} {xs : Nat → Int32} (hL : L ≤ 4) (p : Nat) (hp : p < 4) (H : ∀ r, post r) : wpL_cellAt post L xs () (nI p) :=
  pk_le L p (fun _ => H _) (fun z => ⟨pk_in p L z, H _⟩)
theorem i_vc (xs : Nat → Int32) (L : Nat) (hL : L ≤ 4) : wpL_law (fun r => r = 1) L xs := by
  unfold wpL_law
  refine ra_cell hL 0 (by omega) (fun r1 => ?_)
  refine ra_cell hL 1 (by omega) (fun r2 => ?_)
  refine ra_cell hL 2 (by omega) (fun r3 => ?_)
  refine ra_cell hL 3 (by omega) (fun r4 => ?_)
  exact ⟨25, 523, by decide, by decide, ra_lawOf r1 r2 r3 r4 rfl⟩
end
