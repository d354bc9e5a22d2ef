section
/-- the clamp as a function -/
def sm_cl (x lo hi : Int32) : Int32 := if lo ≤ x then (if x ≤ hi then x else hi) else lo
theorem sm_br {x lo hi : Int32} {Q : Int32 → Prop} (h : Q (sm_cl x lo hi)) : (lo ≤ x → ((x ≤ hi → Q x) ∧ (¬ x ≤ hi → Q hi))) ∧ (¬ lo ≤ x → Q lo) := by
  unfold sm_cl at h
  by_cases h1 : lo ≤ x
  · rw [if_pos h1] at h
    by_cases h2 : x ≤ hi
    · rw [if_pos h2] at h
      exact br_t h1 (br_t h2 h)
    · rw [if_neg h2] at h
      exact br_t h1 (br_f h2 h)
  · rw [if_neg h1] at h
    exact br_f h1 h
theorem sm_clamp {P : Int32 → Prop} {x lo hi : Int32} (h : P (sm_cl x lo hi)) : wpX_clamp P () x lo hi := by
  unfold wpX_clamp
  exact sm_br h
theorem sm_cl_in (x : Int32) {a b : Nat} (hab : a ≤ b) (hb : b < 2 ^ 31) : ∃ e, a ≤ e ∧ e ≤ b ∧ sm_cl x (nI a) (nI b) = nI e := by
  unfold sm_cl
  by_cases h1 : nI a ≤ x
  · rw [if_pos h1]
    by_cases h2 : x ≤ nI b
    · rw [if_pos h2]
      have h0 : ¬ x < 0 := by
        intro z
        rw [Int32.lt_iff_toInt_lt] at z
        rw [Int32.le_iff_toInt_le, nI_toInt (by omega)] at h1
        have e0 : (0 : Int32).toInt = 0 := by decide
        omega
      obtain ⟨j, hj, rfl⟩ := nI_of h0
      exact ⟨j, (nI_leI (by omega) hj).mp h1, (nI_leI hj hb).mp h2, rfl⟩
    · rw [if_neg h2]
      exact ⟨b, hab, Nat.le_refl b, rfl⟩
  · rw [if_neg h1]
    exact ⟨a, Nat.le_refl a, hab, rfl⟩
theorem sm_clampN {P : Int32 → Prop} {x : Int32} (a b : Nat) (hab : a ≤ b) (hb : b < 2 ^ 31) (H : ∀ e, e ≤ b → P (nI e)) : wpX_clamp P () x (nI a) (nI b) := by
  obtain ⟨e, _, h2, h3⟩ := sm_cl_in x hab hb
  refine sm_clamp ?_
  rw [h3]
  exact H e h2
theorem sm_fill {f s : Nat → Int32} {i k : Nat} {x : Int32} (hk : k = i) (h : ∀ j, j < i → s j = f j) (hx : x = f i) : ∀ j, j < i + 1 → upd s k x j = f j := by
  intro j hj
  rw [hk]
  by_cases e : j = i
  · rw [e, pk_us, hx]
  · rw [pk_un e]
    exact h j (by omega)
section
variable {post : St2 → Prop} {mc ms kc ks : Nat} {x3 x5 f0 f1 f2 f3 f4 f5 : Int32} { a1 a2 a3 a4 a5 a6 a7 a8 a9 a10 a11 a12 a13 a14 a15 a16 a17 a18 a19 a20 a21 a22 a23 a24 a25 a26 a27 a28 a29 a30 a31 a32 a33 a34 a35 a36 a37 : Nat → Int32}
theorem sm_433 (H : ∀ s, post (f0, f1, f2, f3, f4, f5, a1, a2, a3, a4, a5, a6, a7, a8, a9, a10, a11, a12, a13, a14, a15, a16, a17, a18, a19, a20, a21, a22, a23, a24, a25, a26, a27, a28, a29, a30, a31, a32, a33, s, a35, a36, a37)) : ∃ n, wX_init_433 post mc ms kc ks f0 f1 f2 f3 f4 f5 n 0 a1 a2 a3 a4 a5 a6 a7 a8 a9 a10 a11 a12 a13 a14 a15 a16 a17 a18 a19 a20 a21 a22 a23 a24 a25 a26 a27 a28 a29 a30 a31 a32 a33 a34 a35 a36 a37 :=
  pk_loop (fun n i s => wX_init_433 post mc ms kc ks f0 f1 f2 f3 f4 f5 n (nI i) a1 a2 a3 a4 a5 a6 a7 a8 a9 a10 a11 a12 a13 a14 a15 a16 a17 a18 a19 a20 a21 a22 a23 a24 a25 a26 a27 a28 a29 a30 a31 a32 a33 s a35 a36 a37) (fun _ _ => True) 96 0 a34 (by omega) trivial
    (fun n s _ => pk_le 96 96 (fun _ => H s) (fun z => absurd z (by omega)))
    (fun n i s hi _ hw => pk_le 96 i (fun z => absurd z (by omega)) (fun _ => ⟨pk_in i 96 hi, nm_e (nm_r (nI_1 i) (hw _ trivial))⟩))
theorem sm_399 {e : Nat} (he : e ≤ 24) (H : ∀ s t, post (f0, f1, f2, nI e, f4, f5, a1, a2, a3, a4, a5, a6, a7, a8, a9, a10, a11, s, a13, a14, a15, a16, a17, a18, a19, a20, a21, a22, a23, a24, a25, a26, a27, a28, a29, a30, a31, a32, a33, t, a35, a36, a37)) : ∃ n, wX_init_399 post mc ms x5 (nI e) kc ks f0 f1 f2 f3 f4 f5 n 0 a1 a2 a3 a4 a5 a6 a7 a8 a9 a10 a11 a12 a13 a14 a15 a16 a17 a18 a19 a20 a21 a22 a23 a24 a25 a26 a27 a28 a29 a30 a31 a32 a33 a34 a35 a36 a37 :=
  pk_loop (fun n i s => wX_init_399 post mc ms x5 (nI e) kc ks f0 f1 f2 f3 f4 f5 n (nI i) a1 a2 a3 a4 a5 a6 a7 a8 a9 a10 a11 s a13 a14 a15 a16 a17 a18 a19 a20 a21 a22 a23 a24 a25 a26 a27 a28 a29 a30 a31 a32 a33 a34 a35 a36 a37) (fun _ _ => True) e 0 a12 (by omega) trivial
    (fun n s _ => pk_le e e (fun _ => sm_433 (H s)) (fun z => absurd z (by omega)))
    (fun n i s hi _ hw => pk_le e i (fun z => absurd z (by omega)) (fun _ => ⟨pk_in i 56 (by omega), nm_e (nm_r (nI_1 i) (hw _ trivial))⟩))
theorem sm_366 (H : ∀ e r s t, post (f0, f1, f2, e, f4, f5, a1, a2, a3, a4, a5, a6, a7, a8, a9, a10, r, s, a13, a14, a15, a16, a17, a18, a19, a20, a21, a22, a23, a24, a25, a26, a27, a28, a29, a30, a31, a32, a33, t, a35, a36, a37)) : ∃ n, wX_init_366 post mc ms x3 x5 kc ks f0 f1 f2 f3 f4 f5 n 0 a1 a2 a3 a4 a5 a6 a7 a8 a9 a10 a11 a12 a13 a14 a15 a16 a17 a18 a19 a20 a21 a22 a23 a24 a25 a26 a27 a28 a29 a30 a31 a32 a33 a34 a35 a36 a37 :=
  pk_loop (fun n i s => wX_init_366 post mc ms x3 x5 kc ks f0 f1 f2 f3 f4 f5 n (nI i) a1 a2 a3 a4 a5 a6 a7 a8 a9 a10 s a12 a13 a14 a15 a16 a17 a18 a19 a20 a21 a22 a23 a24 a25 a26 a27 a28 a29 a30 a31 a32 a33 a34 a35 a36 a37) (fun _ _ => True) 56 0 a11 (by omega) trivial
    (fun n s _ => pk_le 56 56 (fun _ => sm_clampN 2 24 (by omega) (by omega) (fun e he => sm_399 he (H (nI e) s))) (fun z => absurd z (by omega)))
    (fun n i s hi _ hw => pk_le 56 i (fun z => absurd z (by omega)) (fun _ => ⟨pk_in i 56 hi, nm_e (nm_r (nI_1 i) (hw _ trivial))⟩))
theorem sm_332 (H : ∀ e r s u v t, (∀ j, j < 32 → u j = nI j) → post (f0, f1, f2, e, f4, f5, a1, a2, a3, a4, a5, a6, a7, a8, a9, a10, r, s, u, v, a15, a16, a17, a18, a19, a20, a21, a22, a23, a24, a25, a26, a27, a28, a29, a30, a31, a32, a33, t, a35, a36, a37)) : ∃ n, wX_init_332 post mc ms x3 x5 kc ks f0 f1 f2 f3 f4 f5 n 0 a1 a2 a3 a4 a5 a6 a7 a8 a9 a10 a11 a12 a13 a14 a15 a16 a17 a18 a19 a20 a21 a22 a23 a24 a25 a26 a27 a28 a29 a30 a31 a32 a33 a34 a35 a36 a37 :=
  pk_loop (fun n i (s : (Nat → Int32) × (Nat → Int32)) => wX_init_332 post mc ms x3 x5 kc ks f0 f1 f2 f3 f4 f5 n (nI i) a1 a2 a3 a4 a5 a6 a7 a8 a9 a10 a11 a12 s.1 s.2 a15 a16 a17 a18 a19 a20 a21 a22 a23 a24 a25 a26 a27 a28 a29 a30 a31 a32 a33 a34 a35 a36 a37) (fun i s => ∀ j, j < i → s.1 j = nI j) 32 0 (a13, a14) (by omega) (fun j hj => absurd hj (by omega))
    (fun n s h => pk_le 32 32 (fun _ => sm_366 (fun e r p t => H e r p s.1 s.2 t h)) (fun z => absurd z (by omega)))
    (fun n i s hi h hw => pk_le 32 i (fun z => absurd z (by omega)) (fun _ => ⟨pk_in i 32 hi, nm_e ⟨pk_in i 32 hi, nm_e (nm_r (nI_1 i) (hw (upd s.1 (nI i).toNatClampNeg (nI i), upd s.2 (nI i).toNatClampNeg (nI i)) (sm_fill (f := nI) (nI_clamp (by omega)) h rfl)))⟩⟩))
end
/-- the constructor: what of its state the law needs -/
theorem sm_init {post : St2 → Prop} {p0 p1 p2 p3 f0 f1 f2 f3 f4 f5 : Int32} (H : ∀ e r s u v t, (∀ j, j < 32 → u j = nI j) → post (sm_cl p0 1 4, sm_cl p1 1 4, sm_cl p3 2 12, e, f4, f5, (fun _ => 0), (fun _ => 0), (fun _ => 0), (fun _ => 0), (fun _ => 0), (fun _ => 0), (fun _ => 0), (fun _ => 0), (fun _ => 0), (fun _ => 0), r, s, u, v, (fun _ => 0), (fun _ => 0), (fun _ => 0), (fun _ => 0), (fun _ => 0), (fun _ => 0), (fun _ => 0), (fun _ => 0), (fun _ => 0), (fun _ => 0), (fun _ => 0), (fun _ => 0), (fun _ => 0), (fun _ => 0), (fun _ => 0), (fun _ => 0), (fun _ => 0), (fun _ => 0), (fun _ => 0), t, (fun _ => 0), (fun _ => 0), (fun _ => 0))) : wpX_init post 37 1416 (f0, f1, f2, f3, f4, f5) p0 p1 p2 p3 := by
  unfold wpX_init
  refine ⟨by decide, by decide, by decide, by decide, by decide, by decide, by decide, by decide, by decide, by decide, by decide, by decide, by decide, by decide, by decide, by decide, by decide, by decide, by decide, by decide, by decide, by decide, by decide, by decide, by decide, by decide, by decide, by decide, by decide, by decide, by decide, by decide, by decide, by decide, by decide, by decide, by decide, by decide, by decide, by decide, by decide, by decide, by decide, by decide, by decide, by decide, by decide, by decide, by decide, by decide, by decide, by decide, by decide, by decide, by decide, by decide, by decide, by decide, by decide, by decide, by decide, by decide, by decide, by decide, by decide, by decide, by decide, by decide, by decide, by decide, by decide, by decide, by decide, by decide, ?_⟩
  exact sm_clamp (sm_clamp (sm_clamp (nm_e (sm_332 H))))
end
section
section
variable {f1 f2 f3 f4 f5 : Int32} { a1 a2 a3 a4 a5 a6 a7 a8 a9 a10 a11 a12 a13 a14 a15 a16 a17 a18 a19 a20 a21 a22 a23 a24 a25 a26 a27 a28 a29 a30 a31 a32 a33 a34 a35 a36 a37 : Nat → Int32} {n t : Nat} {x1 p1 p2 p3 : Int32} {P : Int32 → Prop} {post : Int32 → St2 → Prop}
/-! a thread out of range: every method answers -1 (size 0) and leaves the state -/
theorem sm_good_f (hb : x1 < 0 ∨ nI n ≤ x1) (h : P 0) : wpX_good P (nI n, f1, f2, f3, f4, f5, a1, a2, a3, a4, a5, a6, a7, a8, a9, a10, a11, a12, a13, a14, a15, a16, a17, a18, a19, a20, a21, a22, a23, a24, a25, a26, a27, a28, a29, a30, a31, a32, a33, a34, a35, a36, a37) x1 := by
  unfold wpX_good
  by_cases z : x1 < 0
  · exact br_t z h
  · exact br_f z (br_t (hb.resolve_left z) h)
theorem sm_emit_f (hb : x1 < 0 ∨ nI n ≤ x1) (h : post (-1) (nI n, f1, f2, f3, f4, f5, a1, a2, a3, a4, a5, a6, a7, a8, a9, a10, a11, a12, a13, a14, a15, a16, a17, a18, a19, a20, a21, a22, a23, a24, a25, a26, a27, a28, a29, a30, a31, a32, a33, a34, a35, a36, a37)) : wpX_emit post (nI n, f1, f2, f3, f4, f5, a1, a2, a3, a4, a5, a6, a7, a8, a9, a10, a11, a12, a13, a14, a15, a16, a17, a18, a19, a20, a21, a22, a23, a24, a25, a26, a27, a28, a29, a30, a31, a32, a33, a34, a35, a36, a37) x1 p1 p2 p3 := by
  unfold wpX_emit
  exact sm_good_f hb (br_t rfl h)
theorem sm_size_f (hb : x1 < 0 ∨ nI n ≤ x1) (h : P 0) : wpX_size P (nI n, f1, f2, f3, f4, f5, a1, a2, a3, a4, a5, a6, a7, a8, a9, a10, a11, a12, a13, a14, a15, a16, a17, a18, a19, a20, a21, a22, a23, a24, a25, a26, a27, a28, a29, a30, a31, a32, a33, a34, a35, a36, a37) x1 := by
  unfold wpX_size
  exact sm_good_f hb (br_t rfl h)
theorem sm_retarget_f (hb : x1 < 0 ∨ nI n ≤ x1) (h : post (-1) (nI n, f1, f2, f3, f4, f5, a1, a2, a3, a4, a5, a6, a7, a8, a9, a10, a11, a12, a13, a14, a15, a16, a17, a18, a19, a20, a21, a22, a23, a24, a25, a26, a27, a28, a29, a30, a31, a32, a33, a34, a35, a36, a37)) : wpX_retarget post (nI n, f1, f2, f3, f4, f5, a1, a2, a3, a4, a5, a6, a7, a8, a9, a10, a11, a12, a13, a14, a15, a16, a17, a18, a19, a20, a21, a22, a23, a24, a25, a26, a27, a28, a29, a30, a31, a32, a33, a34, a35, a36, a37) x1 p1 p2 := by
  unfold wpX_retarget
  exact sm_good_f hb (br_t rfl h)
theorem sm_setReg_f (hb : x1 < 0 ∨ nI n ≤ x1) (h : post (-1) (nI n, f1, f2, f3, f4, f5, a1, a2, a3, a4, a5, a6, a7, a8, a9, a10, a11, a12, a13, a14, a15, a16, a17, a18, a19, a20, a21, a22, a23, a24, a25, a26, a27, a28, a29, a30, a31, a32, a33, a34, a35, a36, a37)) : wpX_setReg post (nI n, f1, f2, f3, f4, f5, a1, a2, a3, a4, a5, a6, a7, a8, a9, a10, a11, a12, a13, a14, a15, a16, a17, a18, a19, a20, a21, a22, a23, a24, a25, a26, a27, a28, a29, a30, a31, a32, a33, a34, a35, a36, a37) x1 p1 p2 := by
  unfold wpX_setReg
  exact sm_good_f hb (br_t rfl h)
theorem sm_status_f (hb : x1 < 0 ∨ nI n ≤ x1) (h : P (-1)) : wpX_status P (nI n, f1, f2, f3, f4, f5, a1, a2, a3, a4, a5, a6, a7, a8, a9, a10, a11, a12, a13, a14, a15, a16, a17, a18, a19, a20, a21, a22, a23, a24, a25, a26, a27, a28, a29, a30, a31, a32, a33, a34, a35, a36, a37) x1 := by
  unfold wpX_status
  exact sm_good_f hb (br_t rfl h)
/-! a thread in range -/
theorem sm_good_t (ht : t < n) (hn : n ≤ 4) (h : P 1) : wpX_good P (nI n, f1, f2, f3, f4, f5, a1, a2, a3, a4, a5, a6, a7, a8, a9, a10, a11, a12, a13, a14, a15, a16, a17, a18, a19, a20, a21, a22, a23, a24, a25, a26, a27, a28, a29, a30, a31, a32, a33, a34, a35, a36, a37) (nI t) := by
  unfold wpX_good
  exact br_f (nI_pos (by omega)) (br_f (nI_ge ht (by omega)) h)
theorem sm_emit_op (ht : t < n) (hn : n ≤ 4) (ho : p1 < 0 ∨ ¬ p1 ≤ 15) (h : post (-2) (nI n, f1, f2, f3, f4, f5, a1, a2, a3, a4, a5, a6, a7, a8, a9, a10, a11, a12, a13, a14, a15, a16, a17, a18, a19, a20, a21, a22, a23, a24, a25, a26, a27, a28, a29, a30, a31, a32, a33, a34, a35, a36, a37)) : wpX_emit post (nI n, f1, f2, f3, f4, f5, a1, a2, a3, a4, a5, a6, a7, a8, a9, a10, a11, a12, a13, a14, a15, a16, a17, a18, a19, a20, a21, a22, a23, a24, a25, a26, a27, a28, a29, a30, a31, a32, a33, a34, a35, a36, a37) (nI t) p1 p2 p3 := by
  unfold wpX_emit
  refine sm_good_t ht hn (br_f (by decide) ?_)
  by_cases z : p1 < 0
  · exact br_t z h
  · exact br_f z (br_f (ho.resolve_left z) h)
theorem sm_emit_regs (ht : t < n) (hn : n ≤ 4) (h0 : ¬ p1 < 0) (h1 : p1 ≤ 15) (ho : p2 < 0 ∨ ¬ p2 ≤ 511) (h : post (-3) (nI n, f1, f2, f3, f4, f5, a1, a2, a3, a4, a5, a6, a7, a8, a9, a10, a11, a12, a13, a14, a15, a16, a17, a18, a19, a20, a21, a22, a23, a24, a25, a26, a27, a28, a29, a30, a31, a32, a33, a34, a35, a36, a37)) : wpX_emit post (nI n, f1, f2, f3, f4, f5, a1, a2, a3, a4, a5, a6, a7, a8, a9, a10, a11, a12, a13, a14, a15, a16, a17, a18, a19, a20, a21, a22, a23, a24, a25, a26, a27, a28, a29, a30, a31, a32, a33, a34, a35, a36, a37) (nI t) p1 p2 p3 := by
  unfold wpX_emit
  refine sm_good_t ht hn (br_f (by decide) (br_f h0 (br_t h1 ?_)))
  by_cases z : p2 < 0
  · exact br_t z h
  · exact br_f z (br_f (ho.resolve_left z) h)
theorem sm_at0 (t : Nat) : nI t * 24 + nI 0 = nI (t * 24) := by
  show nI t * nI 24 + nI 0 = nI (t * 24)
  rw [pk_mul, nI_add, Nat.add_zero]
theorem sm_emit_t (ht : t < n) (hn : n ≤ 4) (h0 : ¬ p1 < 0) (h1 : p1 ≤ 15) (h2 : ¬ p2 < 0) (h3 : p2 ≤ 511) (hs : a4 t = 0) (H : ∀ b1 b2 b3 b4, b4 t = 1 → post 0 (nI n, f1, f2, f3, f4, f5, b1, b2, b3, b4, a5, a6, a7, a8, a9, a10, a11, a12, a13, a14, a15, a16, a17, a18, a19, a20, a21, a22, a23, a24, a25, a26, a27, a28, a29, a30, a31, a32, a33, a34, a35, a36, a37)) : wpX_emit post (nI n, f1, f2, f3, f4, f5, a1, a2, a3, a4, a5, a6, a7, a8, a9, a10, a11, a12, a13, a14, a15, a16, a17, a18, a19, a20, a21, a22, a23, a24, a25, a26, a27, a28, a29, a30, a31, a32, a33, a34, a35, a36, a37) (nI t) p1 p2 p3 := by
  have hc : (nI t).toNatClampNeg = t := nI_clamp (by omega)
  unfold wpX_emit
  refine sm_good_t ht hn (br_f (by decide) (br_f h0 (br_t h1 (br_f h2 (br_t h3 ⟨pk_in t 4 (by omega), ?_⟩)))))
  refine nm_r (e' := nI 0) (by rw [hc]; exact hs) ?_
  refine br_t (nI_lt (a := 0) (b := 24) (by omega) (by omega)) ?_
  refine nm_r (sm_at0 t) ⟨pk_in (t * 24) 96 (by omega), nm_e ⟨pk_in (t * 24) 96 (by omega), nm_e ⟨pk_in (t * 24) 96 (by omega), nm_e ⟨pk_in t 4 (by omega), nm_e ?_⟩⟩⟩⟩
  exact H _ _ _ _ (by rw [hc, pk_us]; rfl)
theorem sm_size_t (ht : t < n) (hn : n ≤ 4) (h : P (a4 t)) : wpX_size P (nI n, f1, f2, f3, f4, f5, a1, a2, a3, a4, a5, a6, a7, a8, a9, a10, a11, a12, a13, a14, a15, a16, a17, a18, a19, a20, a21, a22, a23, a24, a25, a26, a27, a28, a29, a30, a31, a32, a33, a34, a35, a36, a37) (nI t) := by
  have hc : (nI t).toNatClampNeg = t := nI_clamp (by omega)
  unfold wpX_size
  exact sm_good_t ht hn (br_f (by decide) ⟨pk_in t 4 (by omega), by rw [hc]; exact h⟩)
theorem sm_retarget_b (ht : t < n) (hn : n ≤ 4) (ho : p1 < 0 ∨ ¬ p1 < a4 t) (h : post (-5) (nI n, f1, f2, f3, f4, f5, a1, a2, a3, a4, a5, a6, a7, a8, a9, a10, a11, a12, a13, a14, a15, a16, a17, a18, a19, a20, a21, a22, a23, a24, a25, a26, a27, a28, a29, a30, a31, a32, a33, a34, a35, a36, a37)) : wpX_retarget post (nI n, f1, f2, f3, f4, f5, a1, a2, a3, a4, a5, a6, a7, a8, a9, a10, a11, a12, a13, a14, a15, a16, a17, a18, a19, a20, a21, a22, a23, a24, a25, a26, a27, a28, a29, a30, a31, a32, a33, a34, a35, a36, a37) (nI t) p1 p2 := by
  have hc : (nI t).toNatClampNeg = t := nI_clamp (by omega)
  unfold wpX_retarget
  refine sm_good_t ht hn (br_f (by decide) ?_)
  by_cases z : p1 < 0
  · exact br_t z h
  · exact br_f z ⟨pk_in t 4 (by omega), br_f (by rw [hc]; exact ho.resolve_left z) h⟩
theorem sm_retarget_t (ht : t < n) (hn : n ≤ 4) (hs : a4 t = 1) (H : ∀ b3, post 0 (nI n, f1, f2, f3, f4, f5, a1, a2, b3, a4, a5, a6, a7, a8, a9, a10, a11, a12, a13, a14, a15, a16, a17, a18, a19, a20, a21, a22, a23, a24, a25, a26, a27, a28, a29, a30, a31, a32, a33, a34, a35, a36, a37)) : wpX_retarget post (nI n, f1, f2, f3, f4, f5, a1, a2, a3, a4, a5, a6, a7, a8, a9, a10, a11, a12, a13, a14, a15, a16, a17, a18, a19, a20, a21, a22, a23, a24, a25, a26, a27, a28, a29, a30, a31, a32, a33, a34, a35, a36, a37) (nI t) (nI 0) p2 := by
  have hc : (nI t).toNatClampNeg = t := nI_clamp (by omega)
  unfold wpX_retarget
  refine sm_good_t ht hn (br_f (by decide) (br_f (by decide) ⟨pk_in t 4 (by omega), br_t ?_ ⟨?_, nm_e ?_⟩⟩))
  · rw [hc, hs]
    decide
  · exact pk_in (t * 24) 96 (by omega) (sm_at0 t)
  · exact H _
theorem sm_setReg_b (ht : t < n) (hn : n ≤ 4) (ho : p1 < 0 ∨ ¬ p1 ≤ 7) (h : post (-5) (nI n, f1, f2, f3, f4, f5, a1, a2, a3, a4, a5, a6, a7, a8, a9, a10, a11, a12, a13, a14, a15, a16, a17, a18, a19, a20, a21, a22, a23, a24, a25, a26, a27, a28, a29, a30, a31, a32, a33, a34, a35, a36, a37)) : wpX_setReg post (nI n, f1, f2, f3, f4, f5, a1, a2, a3, a4, a5, a6, a7, a8, a9, a10, a11, a12, a13, a14, a15, a16, a17, a18, a19, a20, a21, a22, a23, a24, a25, a26, a27, a28, a29, a30, a31, a32, a33, a34, a35, a36, a37) (nI t) p1 p2 := by
  unfold wpX_setReg
  refine sm_good_t ht hn (br_f (by decide) ?_)
  by_cases z : p1 < 0
  · exact br_t z h
  · exact br_f z (br_f (ho.resolve_left z) h)
theorem sm_at8 (t r : Nat) : nI t * 8 + nI r = nI (t * 8 + r) := by
  show nI t * nI 8 + nI r = nI (t * 8 + r)
  rw [pk_mul, nI_add]
theorem sm_setReg_t {r : Nat} (ht : t < n) (hn : n ≤ 4) (hr : r ≤ 7) (hm : ∀ j, j < 32 → a13 j = nI j) (H : ∀ b10, post 0 (nI n, f1, f2, f3, f4, f5, a1, a2, a3, a4, a5, a6, a7, a8, a9, b10, a11, a12, a13, a14, a15, a16, a17, a18, a19, a20, a21, a22, a23, a24, a25, a26, a27, a28, a29, a30, a31, a32, a33, a34, a35, a36, a37)) : wpX_setReg post (nI n, f1, f2, f3, f4, f5, a1, a2, a3, a4, a5, a6, a7, a8, a9, a10, a11, a12, a13, a14, a15, a16, a17, a18, a19, a20, a21, a22, a23, a24, a25, a26, a27, a28, a29, a30, a31, a32, a33, a34, a35, a36, a37) (nI t) (nI r) p2 := by
  unfold wpX_setReg
  refine sm_good_t ht hn (br_f (by decide) (br_f (nI_pos (by omega)) (br_t (nI_le (b := 7) hr (by omega)) ⟨?_, ?_, nm_e ?_⟩)))
  · exact pk_in (t * 8 + r) 32 (by omega) (sm_at8 t r)
  · rw [sm_at8 t r, nI_clamp (show t * 8 + r < 2 ^ 31 by omega), hm _ (by omega)]
    exact pk_in (t * 8 + r) 56 (by omega)
  · exact H _
theorem sm_status_t (ht : t < n) (hn : n ≤ 4) (h : P (a6 t)) : wpX_status P (nI n, f1, f2, f3, f4, f5, a1, a2, a3, a4, a5, a6, a7, a8, a9, a10, a11, a12, a13, a14, a15, a16, a17, a18, a19, a20, a21, a22, a23, a24, a25, a26, a27, a28, a29, a30, a31, a32, a33, a34, a35, a36, a37) (nI t) := by
  have hc : (nI t).toNatClampNeg = t := nI_clamp (by omega)
  unfold wpX_status
  exact sm_good_t ht hn (br_f (by decide) ⟨pk_in t 4 (by omega), by rw [hc]; exact h⟩)
end
end
section
section
variable {f1 f2 f3 f4 f5 : Int32} { a1 a2 a3 a4 a5 a6 a7 a8 a9 a10 a11 a12 a13 a14 a15 a16 a17 a18 a19 a20 a21 a22 a23 a24 a25 a26 a27 a28 a29 a30 a31 a32 a33 a34 a35 a36 a37 : Nat → Int32} {n t mc ms kc ks : Nat} {x1 x2 x3 x4 x5 x9 z0 z1 : Int32} {post : Int32 → St0 → Prop}
theorem sm_241 (e : z1 = z0) (hp : post 1 ()) : wL_lawOf_241 post mc ms z0 z1 kc ks := by
  unfold wL_lawOf_241
  exact br_t e hp
/-! the thread out of range -/
theorem sm_206f (hb : x1 < 0 ∨ nI n ≤ x1) (hp : post 1 ()) : wL_lawOf_206 post mc ms x1 x4 x5 0 (-1) kc ks (nI n) f1 f2 f3 f4 f5 a1 a2 a3 a4 a5 a6 a7 a8 a9 a10 a11 a12 a13 a14 a15 a16 a17 a18 a19 a20 a21 a22 a23 a24 a25 a26 a27 a28 a29 a30 a31 a32 a33 a34 a35 a36 a37 := by
  unfold wL_lawOf_206
  exact sm_setReg_f hb (br_t rfl (sm_status_f hb (br_t rfl (sm_241 rfl hp))))
theorem sm_161f (hb : x1 < 0 ∨ nI n ≤ x1) (hp : post 1 ()) : wL_lawOf_161 post mc ms x1 x2 x4 x5 0 (-1) kc ks (nI n) f1 f2 f3 f4 f5 a1 a2 a3 a4 a5 a6 a7 a8 a9 a10 a11 a12 a13 a14 a15 a16 a17 a18 a19 a20 a21 a22 a23 a24 a25 a26 a27 a28 a29 a30 a31 a32 a33 a34 a35 a36 a37 := by
  unfold wL_lawOf_161
  exact sm_retarget_f hb (br_t rfl (br_t rfl (sm_206f hb hp)))
theorem sm_131f (hb : x1 < 0 ∨ nI n ≤ x1) (hp : post 1 ()) : wL_lawOf_131 post mc ms x1 x2 x4 x5 0 (-1) 0 0 kc ks (nI n) f1 f2 f3 f4 f5 a1 a2 a3 a4 a5 a6 a7 a8 a9 a10 a11 a12 a13 a14 a15 a16 a17 a18 a19 a20 a21 a22 a23 a24 a25 a26 a27 a28 a29 a30 a31 a32 a33 a34 a35 a36 a37 := by
  unfold wL_lawOf_131
  exact br_t rfl (br_t rfl (sm_161f hb hp))
theorem sm_98f (hb : x1 < 0 ∨ nI n ≤ x1) (hp : post 1 ()) : wL_lawOf_98 post mc ms x1 x2 x3 x4 x5 0 (-1) kc ks (nI n) f1 f2 f3 f4 f5 a1 a2 a3 a4 a5 a6 a7 a8 a9 a10 a11 a12 a13 a14 a15 a16 a17 a18 a19 a20 a21 a22 a23 a24 a25 a26 a27 a28 a29 a30 a31 a32 a33 a34 a35 a36 a37 := by
  unfold wL_lawOf_98
  exact sm_emit_f hb (br_t rfl (sm_size_f hb (br_f (by decide) (sm_131f hb hp))))
theorem sm_49f (hb : x1 < 0 ∨ nI n ≤ x1) (hp : post 1 ()) : wL_lawOf_49 post mc ms x1 x2 x3 x4 x5 kc ks (nI n) f1 f2 f3 f4 f5 a1 a2 a3 a4 a5 a6 a7 a8 a9 a10 a11 a12 a13 a14 a15 a16 a17 a18 a19 a20 a21 a22 a23 a24 a25 a26 a27 a28 a29 a30 a31 a32 a33 a34 a35 a36 a37 := by
  unfold wL_lawOf_49 wL_lawOf_50
  exact br_t rfl (sm_98f hb hp)
/-! the thread in range -/
theorem sm_206b (ht : t < n) (hn : n ≤ 4) (h6 : a6 t = 0) (ho : x5 < 0 ∨ ¬ x5 ≤ 7) (hp : post 1 ()) : wL_lawOf_206 post mc ms (nI t) x4 x5 1 (-5) kc ks (nI n) f1 f2 f3 f4 f5 a1 a2 a3 a4 a5 a6 a7 a8 a9 a10 a11 a12 a13 a14 a15 a16 a17 a18 a19 a20 a21 a22 a23 a24 a25 a26 a27 a28 a29 a30 a31 a32 a33 a34 a35 a36 a37 := by
  unfold wL_lawOf_206
  exact sm_setReg_b ht hn ho (br_t rfl (sm_status_t ht hn (br_f (by decide) (sm_241 h6 hp))))
theorem sm_206t {r : Nat} (ht : t < n) (hn : n ≤ 4) (h6 : a6 t = 0) (hr : r ≤ 7) (hm : ∀ j, j < 32 → a13 j = nI j) (hp : post 1 ()) : wL_lawOf_206 post mc ms (nI t) x4 (nI r) 1 0 kc ks (nI n) f1 f2 f3 f4 f5 a1 a2 a3 a4 a5 a6 a7 a8 a9 a10 a11 a12 a13 a14 a15 a16 a17 a18 a19 a20 a21 a22 a23 a24 a25 a26 a27 a28 a29 a30 a31 a32 a33 a34 a35 a36 a37 := by
  unfold wL_lawOf_206
  exact sm_setReg_t ht hn hr hm (fun b10 => br_t rfl (sm_status_t ht hn (br_f (by decide) (sm_241 h6 hp))))
/-- behind retarget -/
theorem sm_200 (ht : t < n) (hn : n ≤ 4) (h6 : a6 t = 0) (hm : ∀ j, j < 32 → a13 j = nI j) (hp : post 1 ()) : (x5 < 0 → wL_lawOf_200 post mc ms (nI t) x4 x5 1 kc ks (nI n) f1 f2 f3 f4 f5 a1 a2 a3 a4 a5 a6 a7 a8 a9 a10 a11 a12 a13 a14 a15 a16 a17 a18 a19 a20 a21 a22 a23 a24 a25 a26 a27 a28 a29 a30 a31 a32 a33 a34 a35 a36 a37) ∧ (¬ x5 < 0 → ((x5 ≤ 7 → wL_lawOf_206 post mc ms (nI t) x4 x5 1 0 kc ks (nI n) f1 f2 f3 f4 f5 a1 a2 a3 a4 a5 a6 a7 a8 a9 a10 a11 a12 a13 a14 a15 a16 a17 a18 a19 a20 a21 a22 a23 a24 a25 a26 a27 a28 a29 a30 a31 a32 a33 a34 a35 a36 a37) ∧ (¬ x5 ≤ 7 → wL_lawOf_200 post mc ms (nI t) x4 x5 1 kc ks (nI n) f1 f2 f3 f4 f5 a1 a2 a3 a4 a5 a6 a7 a8 a9 a10 a11 a12 a13 a14 a15 a16 a17 a18 a19 a20 a21 a22 a23 a24 a25 a26 a27 a28 a29 a30 a31 a32 a33 a34 a35 a36 a37))) := by
  unfold wL_lawOf_200
  refine br_c (fun z => sm_206b ht hn h6 (Or.inl z) hp) (fun z => br_c (fun g => ?_) (fun g => sm_206b ht hn h6 (Or.inr g) hp))
  obtain ⟨r, hr, rfl⟩ := nI_of2 (n := 7) (by decide) z g
  exact sm_206t ht hn h6 hr hm hp
theorem sm_161b (ht : t < n) (hn : n ≤ 4) (h6 : a6 t = 0) (hm : ∀ j, j < 32 → a13 j = nI j) (ho : x5 < 0 ∨ ¬ x5 < a4 t) (hp : post 1 ()) : wL_lawOf_161 post mc ms (nI t) x2 x4 x5 1 (-5) kc ks (nI n) f1 f2 f3 f4 f5 a1 a2 a3 a4 a5 a6 a7 a8 a9 a10 a11 a12 a13 a14 a15 a16 a17 a18 a19 a20 a21 a22 a23 a24 a25 a26 a27 a28 a29 a30 a31 a32 a33 a34 a35 a36 a37 := by
  unfold wL_lawOf_161
  exact sm_retarget_b ht hn ho (br_t rfl (br_f (by decide) (sm_200 ht hn h6 hm hp)))
theorem sm_161t (ht : t < n) (hn : n ≤ 4) (h6 : a6 t = 0) (hm : ∀ j, j < 32 → a13 j = nI j) (h4 : a4 t = 1) (hp : post 1 ()) : wL_lawOf_161 post mc ms (nI t) x2 x4 (nI 0) 1 0 kc ks (nI n) f1 f2 f3 f4 f5 a1 a2 a3 a4 a5 a6 a7 a8 a9 a10 a11 a12 a13 a14 a15 a16 a17 a18 a19 a20 a21 a22 a23 a24 a25 a26 a27 a28 a29 a30 a31 a32 a33 a34 a35 a36 a37 := by
  unfold wL_lawOf_161
  exact sm_retarget_t ht hn h4 (fun b3 => br_t rfl (br_f (by decide) (sm_200 ht hn h6 hm hp)))
/-- nothing was emitted -/
theorem sm_131b (ht : t < n) (hn : n ≤ 4) (h6 : a6 t = 0) (hm : ∀ j, j < 32 → a13 j = nI j) (h4 : a4 t = 0) (h9 : ¬ x9 = 0) (hp : post 1 ()) : wL_lawOf_131 post mc ms (nI t) x2 x4 x5 1 x9 0 (a4 t) kc ks (nI n) f1 f2 f3 f4 f5 a1 a2 a3 a4 a5 a6 a7 a8 a9 a10 a11 a12 a13 a14 a15 a16 a17 a18 a19 a20 a21 a22 a23 a24 a25 a26 a27 a28 a29 a30 a31 a32 a33 a34 a35 a36 a37 := by
  unfold wL_lawOf_131 wL_lawOf_159
  refine br_t h4 (br_f (by decide) (br_f h9 (sm_161b ht hn h6 hm ?_ hp)))
  rw [h4]
  by_cases z : x5 < 0
  · exact Or.inl z
  · exact Or.inr z
theorem sm_one {x : Int32} (h : ¬ x = 0) : x < 0 ∨ ¬ x < 1 := by
  by_cases z : x < 0
  · exact Or.inl z
  · obtain ⟨j, hj, rfl⟩ := nI_of z
    refine Or.inr (fun g => h ?_)
    have g' : nI j < nI 1 := g
    rw [nI_ltI hj (by omega)] at g'
    rw [show j = 0 by omega]
    rfl
/-- one instruction was emitted -/
theorem sm_131t (ht : t < n) (hn : n ≤ 4) (h6 : a6 t = 0) (hm : ∀ j, j < 32 → a13 j = nI j) (h4 : a4 t = 1) (hp : post 1 ()) : wL_lawOf_131 post mc ms (nI t) x2 x4 x5 1 0 1 (a4 t) kc ks (nI n) f1 f2 f3 f4 f5 a1 a2 a3 a4 a5 a6 a7 a8 a9 a10 a11 a12 a13 a14 a15 a16 a17 a18 a19 a20 a21 a22 a23 a24 a25 a26 a27 a28 a29 a30 a31 a32 a33 a34 a35 a36 a37 := by
  unfold wL_lawOf_131 wL_lawOf_159
  refine br_t h4 (br_f (by decide) (br_t rfl (br_c (fun z => ?_) (fun z => sm_161b ht hn h6 hm ?_ hp))))
  · rw [z]
    exact sm_161t ht hn h6 hm h4 hp
  · rw [h4]
    exact sm_one z
theorem sm_98op (ht : t < n) (hn : n ≤ 4) (h6 : a6 t = 0) (hm : ∀ j, j < 32 → a13 j = nI j) (h4 : a4 t = 0) (ho : x2 < 0 ∨ ¬ x2 ≤ 15) (hp : post 1 ()) : wL_lawOf_76 post mc ms (nI t) x2 x3 x4 x5 1 kc ks (nI n) f1 f2 f3 f4 f5 a1 a2 a3 a4 a5 a6 a7 a8 a9 a10 a11 a12 a13 a14 a15 a16 a17 a18 a19 a20 a21 a22 a23 a24 a25 a26 a27 a28 a29 a30 a31 a32 a33 a34 a35 a36 a37 := by
  unfold wL_lawOf_76 wL_lawOf_98
  exact sm_emit_op ht hn ho (br_t rfl (sm_size_t ht hn (br_f (by decide) (sm_131b ht hn h6 hm h4 (by decide) hp))))
theorem sm_98regs (ht : t < n) (hn : n ≤ 4) (h6 : a6 t = 0) (hm : ∀ j, j < 32 → a13 j = nI j) (h4 : a4 t = 0) (h0 : ¬ x2 < 0) (h1 : x2 ≤ 15) (ho : x3 < 0 ∨ ¬ x3 ≤ 511) (hp : post 1 ()) : wL_lawOf_94 post mc ms (nI t) x2 x3 x4 x5 1 kc ks (nI n) f1 f2 f3 f4 f5 a1 a2 a3 a4 a5 a6 a7 a8 a9 a10 a11 a12 a13 a14 a15 a16 a17 a18 a19 a20 a21 a22 a23 a24 a25 a26 a27 a28 a29 a30 a31 a32 a33 a34 a35 a36 a37 := by
  unfold wL_lawOf_94 wL_lawOf_98
  exact sm_emit_regs ht hn h0 h1 ho (br_t rfl (sm_size_t ht hn (br_f (by decide) (sm_131b ht hn h6 hm h4 (by decide) hp))))
theorem sm_98t (ht : t < n) (hn : n ≤ 4) (h6 : a6 t = 0) (hm : ∀ j, j < 32 → a13 j = nI j) (h4 : a4 t = 0) (h0 : ¬ x2 < 0) (h1 : x2 ≤ 15) (h2 : ¬ x3 < 0) (h3 : x3 ≤ 511) (hp : post 1 ()) : wL_lawOf_98 post mc ms (nI t) x2 x3 x4 x5 1 0 kc ks (nI n) f1 f2 f3 f4 f5 a1 a2 a3 a4 a5 a6 a7 a8 a9 a10 a11 a12 a13 a14 a15 a16 a17 a18 a19 a20 a21 a22 a23 a24 a25 a26 a27 a28 a29 a30 a31 a32 a33 a34 a35 a36 a37 := by
  unfold wL_lawOf_98
  exact sm_emit_t ht hn h0 h1 h2 h3 h4 (fun b1 b2 b3 b4 hb => br_t rfl (sm_size_t ht hn (br_t rfl (sm_131t ht hn h6 hm hb hp))))
theorem sm_50t (ht : t < n) (hn : n ≤ 4) (h6 : a6 t = 0) (hm : ∀ j, j < 32 → a13 j = nI j) (h4 : a4 t = 0) (hp : post 1 ()) : wL_lawOf_50 post mc ms (nI t) x2 x3 x4 x5 1 kc ks (nI n) f1 f2 f3 f4 f5 a1 a2 a3 a4 a5 a6 a7 a8 a9 a10 a11 a12 a13 a14 a15 a16 a17 a18 a19 a20 a21 a22 a23 a24 a25 a26 a27 a28 a29 a30 a31 a32 a33 a34 a35 a36 a37 := by
  unfold wL_lawOf_50
  exact br_f (by decide) (br_c (fun z => sm_98op ht hn h6 hm h4 (Or.inl z) hp) (fun h0 => br_c (fun h1 => br_c (fun z => sm_98regs ht hn h6 hm h4 h0 h1 (Or.inl z) hp) (fun h2 => br_c (fun h3 => sm_98t ht hn h6 hm h4 h0 h1 h2 h3 hp) (fun z => sm_98regs ht hn h6 hm h4 h0 h1 (Or.inr z) hp))) (fun z => sm_98op ht hn h6 hm h4 (Or.inr z) hp)))
/-- any thread -/
theorem sm_33 (hn : n ≤ 4) (h4 : ∀ j, a4 j = 0) (h6 : ∀ j, a6 j = 0) (hm : ∀ j, j < 32 → a13 j = nI j) (hp : post 1 ()) : wL_lawOf_33 post mc ms x1 x2 x3 x4 x5 (nI n) kc ks (nI n) f1 f2 f3 f4 f5 a1 a2 a3 a4 a5 a6 a7 a8 a9 a10 a11 a12 a13 a14 a15 a16 a17 a18 a19 a20 a21 a22 a23 a24 a25 a26 a27 a28 a29 a30 a31 a32 a33 a34 a35 a36 a37 := by
  unfold wL_lawOf_33
  refine br_c (fun z => sm_49f (Or.inl z) hp) (fun z => br_c (fun g => sm_49f (Or.inr g) hp) (fun g => ?_))
  obtain ⟨t, ht, rfl⟩ := nI_of z
  have hlt : t < n := by
    rcases Nat.lt_or_ge t n with q | q
    · exact q
    · exact absurd (nI_le q ht) g
  exact sm_50t hlt hn (h6 t) hm (h4 t) hp
end
theorem sm_lawOf {post : Int32 → St0 → Prop} {p0 p1 p2 p3 p4 p5 : Int32} (hp : post 1 ()) : wpL_lawOf post 38 1459 () p0 p1 p2 p3 p4 p5 := by
  obtain ⟨n, _, hn, en⟩ := sm_cl_in p0 (a := 1) (b := 4) (by omega) (by omega)
  have en' : sm_cl p0 1 4 = nI n := en
  unfold wpL_lawOf
  refine ⟨by decide, by decide, 37, 1416, by decide, by decide, sm_init (fun e r s u v t hm => ?_)⟩
  refine sm_br (Q := fun z => wL_lawOf_33 post 38 1459 p1 p2 p3 p4 p5 z (1 + 37) (43 + 1416) (sm_cl p0 1 4) (sm_cl p4 1 4) (sm_cl p3 2 12) e 0 0 (fun _ => 0) (fun _ => 0) (fun _ => 0) (fun _ => 0) (fun _ => 0) (fun _ => 0) (fun _ => 0) (fun _ => 0) (fun _ => 0) (fun _ => 0) r s u v (fun _ => 0) (fun _ => 0) (fun _ => 0) (fun _ => 0) (fun _ => 0) (fun _ => 0) (fun _ => 0) (fun _ => 0) (fun _ => 0) (fun _ => 0) (fun _ => 0) (fun _ => 0) (fun _ => 0) (fun _ => 0) (fun _ => 0) (fun _ => 0) (fun _ => 0) (fun _ => 0) (fun _ => 0) t (fun _ => 0) (fun _ => 0) (fun _ => 0)) ?_
  rw [en']
  exact sm_33 hn (fun _ => rfl) (fun _ => rfl) hm hp
theorem sm_cell {P : Int32 → Prop} {L : Nat} {xs : Nat → Int32} (hL : L ≤ 6) (k : Nat) (hk : k < 2 ^ 31) (H : ∀ r, P r) : wpL_cellAt P L xs () (nI k) := by
  unfold wpL_cellAt
  refine pk_le L k (fun _ => H _) (fun z => ⟨pk_in k L z, H _⟩)
theorem i_vc (xs : Nat → Int32) (L : Nat) (hL : L ≤ 6) : wpL_law (fun r => r = 1) L xs := by
  unfold wpL_law
  exact sm_cell hL 0 (by omega) (fun _ => sm_cell hL 1 (by omega) (fun _ => sm_cell hL 2 (by omega) (fun _ => sm_cell hL 3 (by omega) (fun _ => sm_cell hL 4 (by omega) (fun _ => sm_cell hL 5 (by omega) (fun _ => ⟨38, 1459, by decide, by decide, sm_lawOf rfl⟩))))))
end
